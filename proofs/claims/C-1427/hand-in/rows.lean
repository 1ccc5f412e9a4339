section
/-! pure rows to paste: stores, nI and lN arithmetic, masks, shifts, narrowing, branches by naturals (pk_le, pk_lt, pk_eq), loops (lp1 .. lp16: the measure of the state; rp1 ..: recursion), negatives. Take what you need -/
theorem pk_us {f : Nat → Int32} {k : Nat} {x : Int32} : upd f k x k = x := if_pos rfl
theorem pk_un {f : Nat → Int32} {k j : Nat} {x : Int32} (h : j ≠ k) : upd f k x j = f j := if_neg h
theorem pk_uLs {f : Nat → Int64} {k : Nat} {x : Int64} : vp_updL f k x k = x := if_pos rfl
theorem pk_uLn {f : Nat → Int64} {k j : Nat} {x : Int64} (h : j ≠ k) : vp_updL f k x j = f j := if_neg h
theorem pk_sub {a b : Nat} (h : b ≤ a) : nI a - nI b = nI (a - b) := by
  obtain ⟨c, rfl⟩ : ∃ c, a = c + b := ⟨a - b, by omega⟩
  rw [← nI_add, Int32.add_sub_cancel, Nat.add_sub_cancel]
theorem pk_m1 (n : Nat) : nI (n + 1) + (-1) = nI n := by
  rw [← nI_1, Int32.add_assoc, show (1 : Int32) + (-1) = 0 from rfl, Int32.add_zero]
theorem pk_mul (a b : Nat) : nI a * nI b = nI (a * b) := (Int32.ofNat_mul a b).symm
theorem pk_div {a d : Nat} (ha : a < 2 ^ 31) (h0 : 0 < d) (hd : d < 2 ^ 31) : nI a / nI d = nI (a / d) := by
  apply Int32.toInt_inj.mp
  rw [lg_idiv_nonneg (by rw [nI_toInt ha]; omega) (by rw [nI_toInt hd]; omega), nI_toInt ha, nI_toInt hd, nI_toInt (Nat.lt_of_le_of_lt (Nat.div_le_self a d) ha)]
  first | rfl | exact (Int.natCast_ediv _ _).symm
theorem pk_rem {a d : Nat} (ha : a < 2 ^ 31) (h0 : 0 < d) (hd : d < 2 ^ 31) : nI a - nI a / nI d * nI d = nI (a % d) := by
  rw [pk_div ha h0 hd, pk_mul, pk_sub (Nat.div_mul_le_self a d)]
  exact congrArg nI (by have := Nat.div_add_mod' a d; omega)
theorem pk_sub_toInt {a b : Nat} (ha : a < 2 ^ 30) (hb : b < 2 ^ 30) : (nI a - nI b).toInt = (a : Int) - b := by
  rw [Int32.toInt_sub, nI_toInt (by omega), nI_toInt (by omega)]
  exact Int.bmod_eq_of_le (by omega) (by omega)
theorem pk_sneg {a b : Nat} (hb : b < 2 ^ 30) (h : a < b) : nI a - nI b < 0 := by
  rw [Int32.lt_iff_toInt_lt, pk_sub_toInt (by omega) hb, show (0 : Int32).toInt = 0 from by decide]
  omega
theorem pk_ix (x : Int32) {n : Nat} (hn : n < 2 ^ 31) : x < 0 ∨ nI n ≤ x ∨ ∃ j : Nat, j < n ∧ x = nI j := by
  by_cases h : x < 0
  · exact Or.inl h
  · obtain ⟨j, hj, rfl⟩ := nI_of h
    by_cases h2 : j < n
    · exact Or.inr (Or.inr ⟨j, h2, rfl⟩)
    · exact Or.inr (Or.inl (nI_le (by omega) hj))
theorem pk_le {x y : Int32} {A B : Prop} (a b : Nat) (f : a ≤ b → A) (g : b < a → B) (hx : x = nI a := by rfl) (hy : y = nI b := by rfl) (ha : a < 2 ^ 31 := by omega) (hb : b < 2 ^ 31 := by omega) : (x ≤ y → A) ∧ (¬ x ≤ y → B) := by
  subst hx hy
  rw [nI_leI ha hb]
  exact ⟨f, fun z => g (by omega)⟩
theorem pk_lt {x y : Int32} {A B : Prop} (a b : Nat) (f : a < b → A) (g : b ≤ a → B) (hx : x = nI a := by rfl) (hy : y = nI b := by rfl) (ha : a < 2 ^ 31 := by omega) (hb : b < 2 ^ 31 := by omega) : (x < y → A) ∧ (¬ x < y → B) := by
  subst hx hy
  rw [nI_ltI ha hb]
  exact ⟨f, fun z => g (by omega)⟩
theorem pk_eq {x y : Int32} {A B : Prop} (a b : Nat) (f : a = b → A) (g : a ≠ b → B) (hx : x = nI a := by rfl) (hy : y = nI b := by rfl) (ha : a < 2 ^ 31 := by omega) (hb : b < 2 ^ 31 := by omega) : (x = y → A) ∧ (¬ x = y → B) := by
  subst hx hy
  rw [nI_eq ha hb]
  exact ⟨f, g⟩
theorem pk_in {x : Int32} (n N : Nat) (h : n < N) (hx : x = nI n := by rfl) (hN : N < 2 ^ 31 := by omega) : vp_in x N := by
  subst hx
  exact vp_in_nI h hN
theorem pk_cl {x : Int32} (n : Nat) (hx : x = nI n := by rfl) (h : n < 2 ^ 31 := by omega) : x.toNatClampNeg = n := by
  subst hx
  exact nI_clamp h
theorem pk_tn {n : Nat} (h : n < 2 ^ 32) : (nI n).toBitVec.toNat = n := Nat.mod_eq_of_lt h
theorem pk_and (x : Int32) {m : Int32} (k : Nat) (hm : m.toBitVec.toNat = 2 ^ k - 1) : x &&& m = nI (x.toBitVec.toNat % 2 ^ k) := by
  apply Int32.toBitVec_inj.mp
  apply BitVec.eq_of_toNat_eq
  rw [Int32.toBitVec_and, BitVec.toNat_and, hm, Nat.and_two_pow_sub_one_eq_mod]
  show _ = (BitVec.ofNat 32 _).toNat
  rw [BitVec.toNat_ofNat]
  exact (Nat.mod_eq_of_lt (Nat.lt_of_le_of_lt (Nat.mod_le _ _) x.toBitVec.isLt)).symm
theorem pk_andN {n : Nat} (h : n < 2 ^ 32) {m : Int32} (k : Nat) (hm : m.toBitVec.toNat = 2 ^ k - 1) : nI n &&& m = nI (n % 2 ^ k) := by
  rw [pk_and _ k hm, pk_tn h]
theorem pk_andE (x : Int32) {m : Int32} (k : Nat) (hm : m.toBitVec.toNat = 2 ^ k - 1) : ∃ j : Nat, j < 2 ^ k ∧ x &&& m = nI j := ⟨_, Nat.mod_lt _ (Nat.two_pow_pos k), pk_and x k hm⟩
theorem pk_andIn (x : Int32) {m : Int32} (k : Nat) (hm : m.toBitVec.toNat = 2 ^ k - 1) (hk : k ≤ 30) : vp_in (x &&& m) (2 ^ k) := by
  obtain ⟨j, hj, e⟩ := pk_andE x k hm
  rw [e]
  exact vp_in_nI hj (Nat.lt_of_le_of_lt (Nat.pow_le_pow_right (by decide) hk) (by decide))
theorem pk_shl (a s : Int32) (k : Nat) (hs : (s.toBitVec.smod 32).toNat = k) : (a <<< s).toBitVec.toNat = a.toBitVec.toNat * 2 ^ k % 2 ^ 32 := by
  show (a.toBitVec <<< (s.toBitVec.smod 32).toNat).toNat = _
  rw [hs, BitVec.toNat_shiftLeft, Nat.shiftLeft_eq]
theorem pk_shlN {n : Nat} (s : Int32) (k : Nat) (hs : (s.toBitVec.smod 32).toNat = k) (h : n * 2 ^ k < 2 ^ 32) : nI n <<< s = nI (n * 2 ^ k) := by
  apply Int32.toBitVec_inj.mp
  apply BitVec.eq_of_toNat_eq
  have hn : n < 2 ^ 32 := Nat.lt_of_le_of_lt (Nat.le_mul_of_pos_right n (Nat.two_pow_pos k)) h
  rw [pk_shl _ _ k hs, pk_tn hn, pk_tn h, Nat.mod_eq_of_lt h]
theorem pk_shr (a s : Int32) (k : Nat) (hs : (s.toBitVec.smod 32).toNat = k) : (a >>> s).toInt = a.toInt >>> k := by
  show (a.toBitVec.sshiftRight (s.toBitVec.smod 32).toNat).toInt = _
  rw [hs, BitVec.toInt_sshiftRight]
  rfl
theorem pk_shrN {n : Nat} (h : n < 2 ^ 31) (s : Int32) (k : Nat) (hs : (s.toBitVec.smod 32).toNat = k) : nI n >>> s = nI (n / 2 ^ k) := by
  apply Int32.toInt_inj.mp
  have h2 : n / 2 ^ k ≤ n := Nat.div_le_self _ _
  rw [pk_shr _ _ k hs, nI_toInt h, nI_toInt (by omega), Int.shiftRight_eq_div_pow]
  rfl
theorem pk_ushr (x s : Int32) (k : Nat) (hs : ((s.toUInt32 &&& Int32.toUInt32 31).toBitVec % 32).toNat = k) : (x.toUInt32 >>> (s.toUInt32 &&& Int32.toUInt32 31)).toInt32.toBitVec.toNat = x.toBitVec.toNat / 2 ^ k := by
  have e : (x.toUInt32 >>> (s.toUInt32 &&& Int32.toUInt32 31)).toInt32.toBitVec = x.toBitVec >>> k := by
    rw [← hs]
    exact UInt32.toBitVec_shiftRight _ _
  rw [e, BitVec.toNat_ushiftRight, Nat.shiftRight_eq_div_pow]
theorem pk_ushrN {n : Nat} (hn : n < 2 ^ 32) (s : Int32) (k : Nat) (hs : ((s.toUInt32 &&& Int32.toUInt32 31).toBitVec % 32).toNat = k) : ((nI n).toUInt32 >>> (s.toUInt32 &&& Int32.toUInt32 31)).toInt32 = nI (n / 2 ^ k) := by
  apply Int32.toBitVec_inj.mp
  apply BitVec.eq_of_toNat_eq
  rw [pk_ushr _ s k hs, pk_tn hn, pk_tn (Nat.lt_of_le_of_lt (Nat.div_le_self _ _) hn)]
theorem pk_nb (z : Int32) : narrow .byte (.int z.toInt8.toInt32) = .int z.toInt8.toInt32 := congrArg Value.int (by simp)
theorem pk_ns (z : Int32) : narrow .short (.int z.toInt16.toInt32) = .int z.toInt16.toInt32 := congrArg Value.int (by simp)
theorem pk_fb (r : Int32) : fits .byte (.int r.toInt8.toInt32) = true := by
  have ⟨a, b⟩ := lg_i2b_range r
  have h1 : (-128 : Int32).toInt = -128 := by decide
  have h2 : (127 : Int32).toInt = 127 := by decide
  simp only [fits, Bool.and_eq_true, decide_eq_true_eq, Int32.le_iff_toInt_le, h1, h2]
  omega
theorem pk_fs (r : Int32) : fits .short (.int r.toInt16.toInt32) = true := by
  have ⟨a, b⟩ := lg_i2s_range r
  have h1 : (-32768 : Int32).toInt = -32768 := by decide
  have h2 : (32767 : Int32).toInt = 32767 := by decide
  simp only [fits, Bool.and_eq_true, decide_eq_true_eq, Int32.le_iff_toInt_le, h1, h2]
  omega
theorem pk_charN {q : Nat} (hq : q < 65536) : narrow .char (.int (nI q)) = .int (nI q) ∧ fits .char (.int (nI q)) = true := by
  constructor
  · have e : (nI q).toUInt32.toUInt16.toUInt32.toInt32 = nI q := by
      apply Int32.toBitVec_inj.mp
      apply BitVec.eq_of_toNat_eq
      show (nI q).toUInt32.toUInt16.toUInt32.toNat = q % 2 ^ 32
      rw [UInt16.toNat_toUInt32, UInt32.toNat_toUInt16, show (nI q).toUInt32.toNat = q % 2 ^ 32 from rfl]
      omega
    exact congrArg Value.int e
  · have a : (0 : Int32) ≤ nI q := nI_pos' (by omega)
    have b : nI q ≤ 65535 := nI_le (b := 65535) (by omega) (by decide)
    show (decide ((0 : Int32) ≤ nI q) && decide (nI q ≤ 65535)) = true
    rw [decide_eq_true a, decide_eq_true b]
    rfl
theorem pk_char (x : Int32) : (x.toUInt32 % 65536).toInt32 = nI (x.toBitVec.toNat % 65536) := by
  apply Int32.toBitVec_inj.mp
  apply BitVec.eq_of_toNat_eq
  rw [pk_tn (by omega)]
  show (x.toUInt32 % 65536).toNat = _
  rw [UInt32.toNat_mod]
  rfl
theorem pk_nc (x : Int32) : narrow .char (.int (x.toUInt32 % 65536).toInt32) = .int (x.toUInt32 % 65536).toInt32 := by
  rw [pk_char]
  exact (pk_charN (Nat.mod_lt _ (by decide))).1
theorem pk_fc (x : Int32) : fits .char (.int (x.toUInt32 % 65536).toInt32) = true := by
  rw [pk_char]
  exact (pk_charN (Nat.mod_lt _ (by decide))).2
theorem pk_vb (z : Int32) : vp_nar .byte z.toInt8.toInt32 = z.toInt8.toInt32 := by rw [vp_nar_byte]; simp
theorem pk_vs (z : Int32) : vp_nar .short z.toInt16.toInt32 = z.toInt16.toInt32 := by rw [vp_nar_short]; simp
theorem pk_vc (z : Int32) : vp_nar .char (z.toUInt32 % 65536).toInt32 = (z.toUInt32 % 65536).toInt32 := Value.int.inj (pk_nc z)
theorem pk_lT {n : Nat} (h : n < 2 ^ 63) : (lN n).toInt = (n : Int) := lg_ofNat_toInt h
theorem pk_lLT {a b : Nat} (ha : a < 2 ^ 63) (hb : b < 2 ^ 63) : lN a < lN b ↔ a < b := by
  rw [Int64.lt_iff_toInt_lt, pk_lT ha, pk_lT hb]; omega
theorem pk_lLE {a b : Nat} (ha : a < 2 ^ 63) (hb : b < 2 ^ 63) : lN a ≤ lN b ↔ a ≤ b := by
  rw [Int64.le_iff_toInt_le, pk_lT ha, pk_lT hb]; omega
theorem pk_lEQ {a b : Nat} (ha : a < 2 ^ 63) (hb : b < 2 ^ 63) : lN a = lN b ↔ a = b := by
  rw [← Int64.toInt_inj, pk_lT ha, pk_lT hb]; omega
theorem pk_lOf {x : Int64} (h : ¬ x < 0) : ∃ k : Nat, k < 2 ^ 63 ∧ x = lN k := by
  rw [Int64.lt_iff_toInt_lt] at h
  have h0 : (0 : Int64).toInt = 0 := by decide
  have hx := Int64.toInt_lt x
  refine ⟨x.toInt.toNat, by omega, Int64.toInt_inj.mp ?_⟩
  rw [pk_lT (by omega)]
  omega
theorem pk_lDiv {a b : Nat} (ha : a < 2 ^ 63) (h0 : 0 < b) (hb : b < 2 ^ 63) : lN a / lN b = lN (a / b) := by
  apply Int64.toInt_inj.mp
  rw [lg_ldiv_nonneg (by rw [pk_lT ha]; omega) (by rw [pk_lT hb]; omega), pk_lT ha, pk_lT hb, pk_lT (Nat.lt_of_le_of_lt (Nat.div_le_self a b) ha)]
  rfl
theorem pk_lRem {a b : Nat} (ha : a < 2 ^ 63) (h0 : 0 < b) (hb : b < 2 ^ 63) : lN a - lN a / lN b * lN b = lN (a % b) := by
  rw [pk_lDiv ha h0 hb, lN_mul, lN_sub (Nat.div_mul_le_self a b)]
  exact congrArg lN (by have := Nat.div_add_mod' a b; omega)
theorem pk_loop {σ : Type} (W : Nat → Nat → σ → Prop) (I : Nat → σ → Prop) (e i0 : Nat) (s : σ) (hi : i0 ≤ e) (h0 : I i0 s) (hx : ∀ n s, I e s → W (n + 1) e s)
    (hs : ∀ n i s, i < e → I i s → (∀ s', I (i + 1) s' → W n (i + 1) s') → W (n + 1) i s) : ∃ n, W n i0 s :=
  ⟨e + 1, loop_i W I e hx hs (e + 1) i0 s hi (by omega) h0⟩
theorem pk_loopD {σ : Type} (W : Nat → Nat → σ → Prop) (I : Nat → σ → Prop) (hx : ∀ n s, I 0 s → W (n + 1) 0 s)
    (hs : ∀ n i s, I (i + 1) s → (∀ s', I i s' → W n i s') → W (n + 1) (i + 1) s) : ∀ (e : Nat) (s : σ), I e s → W (e + 1) e s := by
  intro e
  induction e with
  | zero => exact fun s h => hx 0 s h
  | succ e ih => exact fun s h => hs (e + 1) e s h (fun s' h' => ih s' h')
theorem lp1 {A1 : Type} (W : Nat → A1 → Prop) (I : A1 → Prop) (μ : A1 → Nat) (hs : ∀ (n : Nat) (a1 : A1), I a1 → (∀ (b1 : A1), I b1 → μ b1 < μ a1 → W n b1) → W (n + 1) a1) (a1 : A1) (h : I a1) : ∃ n, W n a1 :=
  loop_m (σ := A1) (fun n s => W n s) (fun s => I s) (fun s => μ s) (fun n s hI hk => hs n s hI (fun b1 h9 hm => hk b1 h9 hm)) a1 h
theorem lp2 {A1 A2 : Type} (W : Nat → A1 → A2 → Prop) (I : A1 → A2 → Prop) (μ : A1 → A2 → Nat) (hs : ∀ (n : Nat) (a1 : A1) (a2 : A2), I a1 a2 → (∀ (b1 : A1) (b2 : A2), I b1 b2 → μ b1 b2 < μ a1 a2 → W n b1 b2) → W (n + 1) a1 a2) (a1 : A1) (a2 : A2) (h : I a1 a2) : ∃ n, W n a1 a2 :=
  loop_m (σ := A1 × A2) (fun n s => W n s.1 s.2) (fun s => I s.1 s.2) (fun s => μ s.1 s.2) (fun n s hI hk => hs n s.1 s.2 hI (fun b1 b2 h9 hm => hk (b1, b2) h9 hm)) (a1, a2) h
theorem lp3 {A1 A2 A3 : Type} (W : Nat → A1 → A2 → A3 → Prop) (I : A1 → A2 → A3 → Prop) (μ : A1 → A2 → A3 → Nat) (hs : ∀ (n : Nat) (a1 : A1) (a2 : A2) (a3 : A3), I a1 a2 a3 → (∀ (b1 : A1) (b2 : A2) (b3 : A3), I b1 b2 b3 → μ b1 b2 b3 < μ a1 a2 a3 → W n b1 b2 b3) → W (n + 1) a1 a2 a3) (a1 : A1) (a2 : A2) (a3 : A3) (h : I a1 a2 a3) : ∃ n, W n a1 a2 a3 :=
  loop_m (σ := A1 × A2 × A3) (fun n s => W n s.1 s.2.1 s.2.2) (fun s => I s.1 s.2.1 s.2.2) (fun s => μ s.1 s.2.1 s.2.2) (fun n s hI hk => hs n s.1 s.2.1 s.2.2 hI (fun b1 b2 b3 h9 hm => hk (b1, b2, b3) h9 hm)) (a1, a2, a3) h
theorem lp4 {A1 A2 A3 A4 : Type} (W : Nat → A1 → A2 → A3 → A4 → Prop) (I : A1 → A2 → A3 → A4 → Prop) (μ : A1 → A2 → A3 → A4 → Nat) (hs : ∀ (n : Nat) (a1 : A1) (a2 : A2) (a3 : A3) (a4 : A4), I a1 a2 a3 a4 → (∀ (b1 : A1) (b2 : A2) (b3 : A3) (b4 : A4), I b1 b2 b3 b4 → μ b1 b2 b3 b4 < μ a1 a2 a3 a4 → W n b1 b2 b3 b4) → W (n + 1) a1 a2 a3 a4) (a1 : A1) (a2 : A2) (a3 : A3) (a4 : A4) (h : I a1 a2 a3 a4) : ∃ n, W n a1 a2 a3 a4 :=
  loop_m (σ := A1 × A2 × A3 × A4) (fun n s => W n s.1 s.2.1 s.2.2.1 s.2.2.2) (fun s => I s.1 s.2.1 s.2.2.1 s.2.2.2) (fun s => μ s.1 s.2.1 s.2.2.1 s.2.2.2) (fun n s hI hk => hs n s.1 s.2.1 s.2.2.1 s.2.2.2 hI (fun b1 b2 b3 b4 h9 hm => hk (b1, b2, b3, b4) h9 hm)) (a1, a2, a3, a4) h
theorem lp5 {A1 A2 A3 A4 A5 : Type} (W : Nat → A1 → A2 → A3 → A4 → A5 → Prop) (I : A1 → A2 → A3 → A4 → A5 → Prop) (μ : A1 → A2 → A3 → A4 → A5 → Nat) (hs : ∀ (n : Nat) (a1 : A1) (a2 : A2) (a3 : A3) (a4 : A4) (a5 : A5), I a1 a2 a3 a4 a5 → (∀ (b1 : A1) (b2 : A2) (b3 : A3) (b4 : A4) (b5 : A5), I b1 b2 b3 b4 b5 → μ b1 b2 b3 b4 b5 < μ a1 a2 a3 a4 a5 → W n b1 b2 b3 b4 b5) → W (n + 1) a1 a2 a3 a4 a5) (a1 : A1) (a2 : A2) (a3 : A3) (a4 : A4) (a5 : A5) (h : I a1 a2 a3 a4 a5) : ∃ n, W n a1 a2 a3 a4 a5 :=
  loop_m (σ := A1 × A2 × A3 × A4 × A5) (fun n s => W n s.1 s.2.1 s.2.2.1 s.2.2.2.1 s.2.2.2.2) (fun s => I s.1 s.2.1 s.2.2.1 s.2.2.2.1 s.2.2.2.2) (fun s => μ s.1 s.2.1 s.2.2.1 s.2.2.2.1 s.2.2.2.2) (fun n s hI hk => hs n s.1 s.2.1 s.2.2.1 s.2.2.2.1 s.2.2.2.2 hI (fun b1 b2 b3 b4 b5 h9 hm => hk (b1, b2, b3, b4, b5) h9 hm)) (a1, a2, a3, a4, a5) h
theorem lp6 {A1 A2 A3 A4 A5 A6 : Type} (W : Nat → A1 → A2 → A3 → A4 → A5 → A6 → Prop) (I : A1 → A2 → A3 → A4 → A5 → A6 → Prop) (μ : A1 → A2 → A3 → A4 → A5 → A6 → Nat) (hs : ∀ (n : Nat) (a1 : A1) (a2 : A2) (a3 : A3) (a4 : A4) (a5 : A5) (a6 : A6), I a1 a2 a3 a4 a5 a6 → (∀ (b1 : A1) (b2 : A2) (b3 : A3) (b4 : A4) (b5 : A5) (b6 : A6), I b1 b2 b3 b4 b5 b6 → μ b1 b2 b3 b4 b5 b6 < μ a1 a2 a3 a4 a5 a6 → W n b1 b2 b3 b4 b5 b6) → W (n + 1) a1 a2 a3 a4 a5 a6) (a1 : A1) (a2 : A2) (a3 : A3) (a4 : A4) (a5 : A5) (a6 : A6) (h : I a1 a2 a3 a4 a5 a6) : ∃ n, W n a1 a2 a3 a4 a5 a6 :=
  loop_m (σ := A1 × A2 × A3 × A4 × A5 × A6) (fun n s => W n s.1 s.2.1 s.2.2.1 s.2.2.2.1 s.2.2.2.2.1 s.2.2.2.2.2) (fun s => I s.1 s.2.1 s.2.2.1 s.2.2.2.1 s.2.2.2.2.1 s.2.2.2.2.2) (fun s => μ s.1 s.2.1 s.2.2.1 s.2.2.2.1 s.2.2.2.2.1 s.2.2.2.2.2) (fun n s hI hk => hs n s.1 s.2.1 s.2.2.1 s.2.2.2.1 s.2.2.2.2.1 s.2.2.2.2.2 hI (fun b1 b2 b3 b4 b5 b6 h9 hm => hk (b1, b2, b3, b4, b5, b6) h9 hm)) (a1, a2, a3, a4, a5, a6) h
theorem lp7 {A1 A2 A3 A4 A5 A6 A7 : Type} (W : Nat → A1 → A2 → A3 → A4 → A5 → A6 → A7 → Prop) (I : A1 → A2 → A3 → A4 → A5 → A6 → A7 → Prop) (μ : A1 → A2 → A3 → A4 → A5 → A6 → A7 → Nat) (hs : ∀ (n : Nat) (a1 : A1) (a2 : A2) (a3 : A3) (a4 : A4) (a5 : A5) (a6 : A6) (a7 : A7), I a1 a2 a3 a4 a5 a6 a7 → (∀ (b1 : A1) (b2 : A2) (b3 : A3) (b4 : A4) (b5 : A5) (b6 : A6) (b7 : A7), I b1 b2 b3 b4 b5 b6 b7 → μ b1 b2 b3 b4 b5 b6 b7 < μ a1 a2 a3 a4 a5 a6 a7 → W n b1 b2 b3 b4 b5 b6 b7) → W (n + 1) a1 a2 a3 a4 a5 a6 a7) (a1 : A1) (a2 : A2) (a3 : A3) (a4 : A4) (a5 : A5) (a6 : A6) (a7 : A7) (h : I a1 a2 a3 a4 a5 a6 a7) : ∃ n, W n a1 a2 a3 a4 a5 a6 a7 :=
  loop_m (σ := A1 × A2 × A3 × A4 × A5 × A6 × A7) (fun n s => W n s.1 s.2.1 s.2.2.1 s.2.2.2.1 s.2.2.2.2.1 s.2.2.2.2.2.1 s.2.2.2.2.2.2) (fun s => I s.1 s.2.1 s.2.2.1 s.2.2.2.1 s.2.2.2.2.1 s.2.2.2.2.2.1 s.2.2.2.2.2.2) (fun s => μ s.1 s.2.1 s.2.2.1 s.2.2.2.1 s.2.2.2.2.1 s.2.2.2.2.2.1 s.2.2.2.2.2.2) (fun n s hI hk => hs n s.1 s.2.1 s.2.2.1 s.2.2.2.1 s.2.2.2.2.1 s.2.2.2.2.2.1 s.2.2.2.2.2.2 hI (fun b1 b2 b3 b4 b5 b6 b7 h9 hm => hk (b1, b2, b3, b4, b5, b6, b7) h9 hm)) (a1, a2, a3, a4, a5, a6, a7) h
theorem lp8 {A1 A2 A3 A4 A5 A6 A7 A8 : Type} (W : Nat → A1 → A2 → A3 → A4 → A5 → A6 → A7 → A8 → Prop) (I : A1 → A2 → A3 → A4 → A5 → A6 → A7 → A8 → Prop) (μ : A1 → A2 → A3 → A4 → A5 → A6 → A7 → A8 → Nat) (hs : ∀ (n : Nat) (a1 : A1) (a2 : A2) (a3 : A3) (a4 : A4) (a5 : A5) (a6 : A6) (a7 : A7) (a8 : A8), I a1 a2 a3 a4 a5 a6 a7 a8 → (∀ (b1 : A1) (b2 : A2) (b3 : A3) (b4 : A4) (b5 : A5) (b6 : A6) (b7 : A7) (b8 : A8), I b1 b2 b3 b4 b5 b6 b7 b8 → μ b1 b2 b3 b4 b5 b6 b7 b8 < μ a1 a2 a3 a4 a5 a6 a7 a8 → W n b1 b2 b3 b4 b5 b6 b7 b8) → W (n + 1) a1 a2 a3 a4 a5 a6 a7 a8) (a1 : A1) (a2 : A2) (a3 : A3) (a4 : A4) (a5 : A5) (a6 : A6) (a7 : A7) (a8 : A8) (h : I a1 a2 a3 a4 a5 a6 a7 a8) : ∃ n, W n a1 a2 a3 a4 a5 a6 a7 a8 :=
  loop_m (σ := A1 × A2 × A3 × A4 × A5 × A6 × A7 × A8) (fun n s => W n s.1 s.2.1 s.2.2.1 s.2.2.2.1 s.2.2.2.2.1 s.2.2.2.2.2.1 s.2.2.2.2.2.2.1 s.2.2.2.2.2.2.2) (fun s => I s.1 s.2.1 s.2.2.1 s.2.2.2.1 s.2.2.2.2.1 s.2.2.2.2.2.1 s.2.2.2.2.2.2.1 s.2.2.2.2.2.2.2) (fun s => μ s.1 s.2.1 s.2.2.1 s.2.2.2.1 s.2.2.2.2.1 s.2.2.2.2.2.1 s.2.2.2.2.2.2.1 s.2.2.2.2.2.2.2) (fun n s hI hk => hs n s.1 s.2.1 s.2.2.1 s.2.2.2.1 s.2.2.2.2.1 s.2.2.2.2.2.1 s.2.2.2.2.2.2.1 s.2.2.2.2.2.2.2 hI (fun b1 b2 b3 b4 b5 b6 b7 b8 h9 hm => hk (b1, b2, b3, b4, b5, b6, b7, b8) h9 hm)) (a1, a2, a3, a4, a5, a6, a7, a8) h
theorem lp9 {A1 A2 A3 A4 A5 A6 A7 A8 A9 : Type} (W : Nat → A1 → A2 → A3 → A4 → A5 → A6 → A7 → A8 → A9 → Prop) (I : A1 → A2 → A3 → A4 → A5 → A6 → A7 → A8 → A9 → Prop) (μ : A1 → A2 → A3 → A4 → A5 → A6 → A7 → A8 → A9 → Nat) (hs : ∀ (n : Nat) (a1 : A1) (a2 : A2) (a3 : A3) (a4 : A4) (a5 : A5) (a6 : A6) (a7 : A7) (a8 : A8) (a9 : A9), I a1 a2 a3 a4 a5 a6 a7 a8 a9 → (∀ (b1 : A1) (b2 : A2) (b3 : A3) (b4 : A4) (b5 : A5) (b6 : A6) (b7 : A7) (b8 : A8) (b9 : A9), I b1 b2 b3 b4 b5 b6 b7 b8 b9 → μ b1 b2 b3 b4 b5 b6 b7 b8 b9 < μ a1 a2 a3 a4 a5 a6 a7 a8 a9 → W n b1 b2 b3 b4 b5 b6 b7 b8 b9) → W (n + 1) a1 a2 a3 a4 a5 a6 a7 a8 a9) (a1 : A1) (a2 : A2) (a3 : A3) (a4 : A4) (a5 : A5) (a6 : A6) (a7 : A7) (a8 : A8) (a9 : A9) (h : I a1 a2 a3 a4 a5 a6 a7 a8 a9) : ∃ n, W n a1 a2 a3 a4 a5 a6 a7 a8 a9 :=
  loop_m (σ := A1 × A2 × A3 × A4 × A5 × A6 × A7 × A8 × A9) (fun n s => W n s.1 s.2.1 s.2.2.1 s.2.2.2.1 s.2.2.2.2.1 s.2.2.2.2.2.1 s.2.2.2.2.2.2.1 s.2.2.2.2.2.2.2.1 s.2.2.2.2.2.2.2.2) (fun s => I s.1 s.2.1 s.2.2.1 s.2.2.2.1 s.2.2.2.2.1 s.2.2.2.2.2.1 s.2.2.2.2.2.2.1 s.2.2.2.2.2.2.2.1 s.2.2.2.2.2.2.2.2) (fun s => μ s.1 s.2.1 s.2.2.1 s.2.2.2.1 s.2.2.2.2.1 s.2.2.2.2.2.1 s.2.2.2.2.2.2.1 s.2.2.2.2.2.2.2.1 s.2.2.2.2.2.2.2.2) (fun n s hI hk => hs n s.1 s.2.1 s.2.2.1 s.2.2.2.1 s.2.2.2.2.1 s.2.2.2.2.2.1 s.2.2.2.2.2.2.1 s.2.2.2.2.2.2.2.1 s.2.2.2.2.2.2.2.2 hI (fun b1 b2 b3 b4 b5 b6 b7 b8 b9 h9 hm => hk (b1, b2, b3, b4, b5, b6, b7, b8, b9) h9 hm)) (a1, a2, a3, a4, a5, a6, a7, a8, a9) h
theorem lp10 {A1 A2 A3 A4 A5 A6 A7 A8 A9 A10 : Type} (W : Nat → A1 → A2 → A3 → A4 → A5 → A6 → A7 → A8 → A9 → A10 → Prop) (I : A1 → A2 → A3 → A4 → A5 → A6 → A7 → A8 → A9 → A10 → Prop) (μ : A1 → A2 → A3 → A4 → A5 → A6 → A7 → A8 → A9 → A10 → Nat) (hs : ∀ (n : Nat) (a1 : A1) (a2 : A2) (a3 : A3) (a4 : A4) (a5 : A5) (a6 : A6) (a7 : A7) (a8 : A8) (a9 : A9) (a10 : A10), I a1 a2 a3 a4 a5 a6 a7 a8 a9 a10 → (∀ (b1 : A1) (b2 : A2) (b3 : A3) (b4 : A4) (b5 : A5) (b6 : A6) (b7 : A7) (b8 : A8) (b9 : A9) (b10 : A10), I b1 b2 b3 b4 b5 b6 b7 b8 b9 b10 → μ b1 b2 b3 b4 b5 b6 b7 b8 b9 b10 < μ a1 a2 a3 a4 a5 a6 a7 a8 a9 a10 → W n b1 b2 b3 b4 b5 b6 b7 b8 b9 b10) → W (n + 1) a1 a2 a3 a4 a5 a6 a7 a8 a9 a10) (a1 : A1) (a2 : A2) (a3 : A3) (a4 : A4) (a5 : A5) (a6 : A6) (a7 : A7) (a8 : A8) (a9 : A9) (a10 : A10) (h : I a1 a2 a3 a4 a5 a6 a7 a8 a9 a10) : ∃ n, W n a1 a2 a3 a4 a5 a6 a7 a8 a9 a10 :=
  loop_m (σ := A1 × A2 × A3 × A4 × A5 × A6 × A7 × A8 × A9 × A10) (fun n s => W n s.1 s.2.1 s.2.2.1 s.2.2.2.1 s.2.2.2.2.1 s.2.2.2.2.2.1 s.2.2.2.2.2.2.1 s.2.2.2.2.2.2.2.1 s.2.2.2.2.2.2.2.2.1 s.2.2.2.2.2.2.2.2.2) (fun s => I s.1 s.2.1 s.2.2.1 s.2.2.2.1 s.2.2.2.2.1 s.2.2.2.2.2.1 s.2.2.2.2.2.2.1 s.2.2.2.2.2.2.2.1 s.2.2.2.2.2.2.2.2.1 s.2.2.2.2.2.2.2.2.2) (fun s => μ s.1 s.2.1 s.2.2.1 s.2.2.2.1 s.2.2.2.2.1 s.2.2.2.2.2.1 s.2.2.2.2.2.2.1 s.2.2.2.2.2.2.2.1 s.2.2.2.2.2.2.2.2.1 s.2.2.2.2.2.2.2.2.2) (fun n s hI hk => hs n s.1 s.2.1 s.2.2.1 s.2.2.2.1 s.2.2.2.2.1 s.2.2.2.2.2.1 s.2.2.2.2.2.2.1 s.2.2.2.2.2.2.2.1 s.2.2.2.2.2.2.2.2.1 s.2.2.2.2.2.2.2.2.2 hI (fun b1 b2 b3 b4 b5 b6 b7 b8 b9 b10 h9 hm => hk (b1, b2, b3, b4, b5, b6, b7, b8, b9, b10) h9 hm)) (a1, a2, a3, a4, a5, a6, a7, a8, a9, a10) h
theorem lp11 {A1 A2 A3 A4 A5 A6 A7 A8 A9 A10 A11 : Type} (W : Nat → A1 → A2 → A3 → A4 → A5 → A6 → A7 → A8 → A9 → A10 → A11 → Prop) (I : A1 → A2 → A3 → A4 → A5 → A6 → A7 → A8 → A9 → A10 → A11 → Prop) (μ : A1 → A2 → A3 → A4 → A5 → A6 → A7 → A8 → A9 → A10 → A11 → Nat) (hs : ∀ (n : Nat) (a1 : A1) (a2 : A2) (a3 : A3) (a4 : A4) (a5 : A5) (a6 : A6) (a7 : A7) (a8 : A8) (a9 : A9) (a10 : A10) (a11 : A11), I a1 a2 a3 a4 a5 a6 a7 a8 a9 a10 a11 → (∀ (b1 : A1) (b2 : A2) (b3 : A3) (b4 : A4) (b5 : A5) (b6 : A6) (b7 : A7) (b8 : A8) (b9 : A9) (b10 : A10) (b11 : A11), I b1 b2 b3 b4 b5 b6 b7 b8 b9 b10 b11 → μ b1 b2 b3 b4 b5 b6 b7 b8 b9 b10 b11 < μ a1 a2 a3 a4 a5 a6 a7 a8 a9 a10 a11 → W n b1 b2 b3 b4 b5 b6 b7 b8 b9 b10 b11) → W (n + 1) a1 a2 a3 a4 a5 a6 a7 a8 a9 a10 a11) (a1 : A1) (a2 : A2) (a3 : A3) (a4 : A4) (a5 : A5) (a6 : A6) (a7 : A7) (a8 : A8) (a9 : A9) (a10 : A10) (a11 : A11) (h : I a1 a2 a3 a4 a5 a6 a7 a8 a9 a10 a11) : ∃ n, W n a1 a2 a3 a4 a5 a6 a7 a8 a9 a10 a11 :=
  loop_m (σ := A1 × A2 × A3 × A4 × A5 × A6 × A7 × A8 × A9 × A10 × A11) (fun n s => W n s.1 s.2.1 s.2.2.1 s.2.2.2.1 s.2.2.2.2.1 s.2.2.2.2.2.1 s.2.2.2.2.2.2.1 s.2.2.2.2.2.2.2.1 s.2.2.2.2.2.2.2.2.1 s.2.2.2.2.2.2.2.2.2.1 s.2.2.2.2.2.2.2.2.2.2) (fun s => I s.1 s.2.1 s.2.2.1 s.2.2.2.1 s.2.2.2.2.1 s.2.2.2.2.2.1 s.2.2.2.2.2.2.1 s.2.2.2.2.2.2.2.1 s.2.2.2.2.2.2.2.2.1 s.2.2.2.2.2.2.2.2.2.1 s.2.2.2.2.2.2.2.2.2.2) (fun s => μ s.1 s.2.1 s.2.2.1 s.2.2.2.1 s.2.2.2.2.1 s.2.2.2.2.2.1 s.2.2.2.2.2.2.1 s.2.2.2.2.2.2.2.1 s.2.2.2.2.2.2.2.2.1 s.2.2.2.2.2.2.2.2.2.1 s.2.2.2.2.2.2.2.2.2.2) (fun n s hI hk => hs n s.1 s.2.1 s.2.2.1 s.2.2.2.1 s.2.2.2.2.1 s.2.2.2.2.2.1 s.2.2.2.2.2.2.1 s.2.2.2.2.2.2.2.1 s.2.2.2.2.2.2.2.2.1 s.2.2.2.2.2.2.2.2.2.1 s.2.2.2.2.2.2.2.2.2.2 hI (fun b1 b2 b3 b4 b5 b6 b7 b8 b9 b10 b11 h9 hm => hk (b1, b2, b3, b4, b5, b6, b7, b8, b9, b10, b11) h9 hm)) (a1, a2, a3, a4, a5, a6, a7, a8, a9, a10, a11) h
theorem lp12 {A1 A2 A3 A4 A5 A6 A7 A8 A9 A10 A11 A12 : Type} (W : Nat → A1 → A2 → A3 → A4 → A5 → A6 → A7 → A8 → A9 → A10 → A11 → A12 → Prop) (I : A1 → A2 → A3 → A4 → A5 → A6 → A7 → A8 → A9 → A10 → A11 → A12 → Prop) (μ : A1 → A2 → A3 → A4 → A5 → A6 → A7 → A8 → A9 → A10 → A11 → A12 → Nat) (hs : ∀ (n : Nat) (a1 : A1) (a2 : A2) (a3 : A3) (a4 : A4) (a5 : A5) (a6 : A6) (a7 : A7) (a8 : A8) (a9 : A9) (a10 : A10) (a11 : A11) (a12 : A12), I a1 a2 a3 a4 a5 a6 a7 a8 a9 a10 a11 a12 → (∀ (b1 : A1) (b2 : A2) (b3 : A3) (b4 : A4) (b5 : A5) (b6 : A6) (b7 : A7) (b8 : A8) (b9 : A9) (b10 : A10) (b11 : A11) (b12 : A12), I b1 b2 b3 b4 b5 b6 b7 b8 b9 b10 b11 b12 → μ b1 b2 b3 b4 b5 b6 b7 b8 b9 b10 b11 b12 < μ a1 a2 a3 a4 a5 a6 a7 a8 a9 a10 a11 a12 → W n b1 b2 b3 b4 b5 b6 b7 b8 b9 b10 b11 b12) → W (n + 1) a1 a2 a3 a4 a5 a6 a7 a8 a9 a10 a11 a12) (a1 : A1) (a2 : A2) (a3 : A3) (a4 : A4) (a5 : A5) (a6 : A6) (a7 : A7) (a8 : A8) (a9 : A9) (a10 : A10) (a11 : A11) (a12 : A12) (h : I a1 a2 a3 a4 a5 a6 a7 a8 a9 a10 a11 a12) : ∃ n, W n a1 a2 a3 a4 a5 a6 a7 a8 a9 a10 a11 a12 :=
  loop_m (σ := A1 × A2 × A3 × A4 × A5 × A6 × A7 × A8 × A9 × A10 × A11 × A12) (fun n s => W n s.1 s.2.1 s.2.2.1 s.2.2.2.1 s.2.2.2.2.1 s.2.2.2.2.2.1 s.2.2.2.2.2.2.1 s.2.2.2.2.2.2.2.1 s.2.2.2.2.2.2.2.2.1 s.2.2.2.2.2.2.2.2.2.1 s.2.2.2.2.2.2.2.2.2.2.1 s.2.2.2.2.2.2.2.2.2.2.2) (fun s => I s.1 s.2.1 s.2.2.1 s.2.2.2.1 s.2.2.2.2.1 s.2.2.2.2.2.1 s.2.2.2.2.2.2.1 s.2.2.2.2.2.2.2.1 s.2.2.2.2.2.2.2.2.1 s.2.2.2.2.2.2.2.2.2.1 s.2.2.2.2.2.2.2.2.2.2.1 s.2.2.2.2.2.2.2.2.2.2.2) (fun s => μ s.1 s.2.1 s.2.2.1 s.2.2.2.1 s.2.2.2.2.1 s.2.2.2.2.2.1 s.2.2.2.2.2.2.1 s.2.2.2.2.2.2.2.1 s.2.2.2.2.2.2.2.2.1 s.2.2.2.2.2.2.2.2.2.1 s.2.2.2.2.2.2.2.2.2.2.1 s.2.2.2.2.2.2.2.2.2.2.2) (fun n s hI hk => hs n s.1 s.2.1 s.2.2.1 s.2.2.2.1 s.2.2.2.2.1 s.2.2.2.2.2.1 s.2.2.2.2.2.2.1 s.2.2.2.2.2.2.2.1 s.2.2.2.2.2.2.2.2.1 s.2.2.2.2.2.2.2.2.2.1 s.2.2.2.2.2.2.2.2.2.2.1 s.2.2.2.2.2.2.2.2.2.2.2 hI (fun b1 b2 b3 b4 b5 b6 b7 b8 b9 b10 b11 b12 h9 hm => hk (b1, b2, b3, b4, b5, b6, b7, b8, b9, b10, b11, b12) h9 hm)) (a1, a2, a3, a4, a5, a6, a7, a8, a9, a10, a11, a12) h
theorem lp13 {A1 A2 A3 A4 A5 A6 A7 A8 A9 A10 A11 A12 A13 : Type} (W : Nat → A1 → A2 → A3 → A4 → A5 → A6 → A7 → A8 → A9 → A10 → A11 → A12 → A13 → Prop) (I : A1 → A2 → A3 → A4 → A5 → A6 → A7 → A8 → A9 → A10 → A11 → A12 → A13 → Prop) (μ : A1 → A2 → A3 → A4 → A5 → A6 → A7 → A8 → A9 → A10 → A11 → A12 → A13 → Nat) (hs : ∀ (n : Nat) (a1 : A1) (a2 : A2) (a3 : A3) (a4 : A4) (a5 : A5) (a6 : A6) (a7 : A7) (a8 : A8) (a9 : A9) (a10 : A10) (a11 : A11) (a12 : A12) (a13 : A13), I a1 a2 a3 a4 a5 a6 a7 a8 a9 a10 a11 a12 a13 → (∀ (b1 : A1) (b2 : A2) (b3 : A3) (b4 : A4) (b5 : A5) (b6 : A6) (b7 : A7) (b8 : A8) (b9 : A9) (b10 : A10) (b11 : A11) (b12 : A12) (b13 : A13), I b1 b2 b3 b4 b5 b6 b7 b8 b9 b10 b11 b12 b13 → μ b1 b2 b3 b4 b5 b6 b7 b8 b9 b10 b11 b12 b13 < μ a1 a2 a3 a4 a5 a6 a7 a8 a9 a10 a11 a12 a13 → W n b1 b2 b3 b4 b5 b6 b7 b8 b9 b10 b11 b12 b13) → W (n + 1) a1 a2 a3 a4 a5 a6 a7 a8 a9 a10 a11 a12 a13) (a1 : A1) (a2 : A2) (a3 : A3) (a4 : A4) (a5 : A5) (a6 : A6) (a7 : A7) (a8 : A8) (a9 : A9) (a10 : A10) (a11 : A11) (a12 : A12) (a13 : A13) (h : I a1 a2 a3 a4 a5 a6 a7 a8 a9 a10 a11 a12 a13) : ∃ n, W n a1 a2 a3 a4 a5 a6 a7 a8 a9 a10 a11 a12 a13 :=
  loop_m (σ := A1 × A2 × A3 × A4 × A5 × A6 × A7 × A8 × A9 × A10 × A11 × A12 × A13) (fun n s => W n s.1 s.2.1 s.2.2.1 s.2.2.2.1 s.2.2.2.2.1 s.2.2.2.2.2.1 s.2.2.2.2.2.2.1 s.2.2.2.2.2.2.2.1 s.2.2.2.2.2.2.2.2.1 s.2.2.2.2.2.2.2.2.2.1 s.2.2.2.2.2.2.2.2.2.2.1 s.2.2.2.2.2.2.2.2.2.2.2.1 s.2.2.2.2.2.2.2.2.2.2.2.2) (fun s => I s.1 s.2.1 s.2.2.1 s.2.2.2.1 s.2.2.2.2.1 s.2.2.2.2.2.1 s.2.2.2.2.2.2.1 s.2.2.2.2.2.2.2.1 s.2.2.2.2.2.2.2.2.1 s.2.2.2.2.2.2.2.2.2.1 s.2.2.2.2.2.2.2.2.2.2.1 s.2.2.2.2.2.2.2.2.2.2.2.1 s.2.2.2.2.2.2.2.2.2.2.2.2) (fun s => μ s.1 s.2.1 s.2.2.1 s.2.2.2.1 s.2.2.2.2.1 s.2.2.2.2.2.1 s.2.2.2.2.2.2.1 s.2.2.2.2.2.2.2.1 s.2.2.2.2.2.2.2.2.1 s.2.2.2.2.2.2.2.2.2.1 s.2.2.2.2.2.2.2.2.2.2.1 s.2.2.2.2.2.2.2.2.2.2.2.1 s.2.2.2.2.2.2.2.2.2.2.2.2) (fun n s hI hk => hs n s.1 s.2.1 s.2.2.1 s.2.2.2.1 s.2.2.2.2.1 s.2.2.2.2.2.1 s.2.2.2.2.2.2.1 s.2.2.2.2.2.2.2.1 s.2.2.2.2.2.2.2.2.1 s.2.2.2.2.2.2.2.2.2.1 s.2.2.2.2.2.2.2.2.2.2.1 s.2.2.2.2.2.2.2.2.2.2.2.1 s.2.2.2.2.2.2.2.2.2.2.2.2 hI (fun b1 b2 b3 b4 b5 b6 b7 b8 b9 b10 b11 b12 b13 h9 hm => hk (b1, b2, b3, b4, b5, b6, b7, b8, b9, b10, b11, b12, b13) h9 hm)) (a1, a2, a3, a4, a5, a6, a7, a8, a9, a10, a11, a12, a13) h
theorem lp14 {A1 A2 A3 A4 A5 A6 A7 A8 A9 A10 A11 A12 A13 A14 : Type} (W : Nat → A1 → A2 → A3 → A4 → A5 → A6 → A7 → A8 → A9 → A10 → A11 → A12 → A13 → A14 → Prop) (I : A1 → A2 → A3 → A4 → A5 → A6 → A7 → A8 → A9 → A10 → A11 → A12 → A13 → A14 → Prop) (μ : A1 → A2 → A3 → A4 → A5 → A6 → A7 → A8 → A9 → A10 → A11 → A12 → A13 → A14 → Nat) (hs : ∀ (n : Nat) (a1 : A1) (a2 : A2) (a3 : A3) (a4 : A4) (a5 : A5) (a6 : A6) (a7 : A7) (a8 : A8) (a9 : A9) (a10 : A10) (a11 : A11) (a12 : A12) (a13 : A13) (a14 : A14), I a1 a2 a3 a4 a5 a6 a7 a8 a9 a10 a11 a12 a13 a14 → (∀ (b1 : A1) (b2 : A2) (b3 : A3) (b4 : A4) (b5 : A5) (b6 : A6) (b7 : A7) (b8 : A8) (b9 : A9) (b10 : A10) (b11 : A11) (b12 : A12) (b13 : A13) (b14 : A14), I b1 b2 b3 b4 b5 b6 b7 b8 b9 b10 b11 b12 b13 b14 → μ b1 b2 b3 b4 b5 b6 b7 b8 b9 b10 b11 b12 b13 b14 < μ a1 a2 a3 a4 a5 a6 a7 a8 a9 a10 a11 a12 a13 a14 → W n b1 b2 b3 b4 b5 b6 b7 b8 b9 b10 b11 b12 b13 b14) → W (n + 1) a1 a2 a3 a4 a5 a6 a7 a8 a9 a10 a11 a12 a13 a14) (a1 : A1) (a2 : A2) (a3 : A3) (a4 : A4) (a5 : A5) (a6 : A6) (a7 : A7) (a8 : A8) (a9 : A9) (a10 : A10) (a11 : A11) (a12 : A12) (a13 : A13) (a14 : A14) (h : I a1 a2 a3 a4 a5 a6 a7 a8 a9 a10 a11 a12 a13 a14) : ∃ n, W n a1 a2 a3 a4 a5 a6 a7 a8 a9 a10 a11 a12 a13 a14 :=
  loop_m (σ := A1 × A2 × A3 × A4 × A5 × A6 × A7 × A8 × A9 × A10 × A11 × A12 × A13 × A14) (fun n s => W n s.1 s.2.1 s.2.2.1 s.2.2.2.1 s.2.2.2.2.1 s.2.2.2.2.2.1 s.2.2.2.2.2.2.1 s.2.2.2.2.2.2.2.1 s.2.2.2.2.2.2.2.2.1 s.2.2.2.2.2.2.2.2.2.1 s.2.2.2.2.2.2.2.2.2.2.1 s.2.2.2.2.2.2.2.2.2.2.2.1 s.2.2.2.2.2.2.2.2.2.2.2.2.1 s.2.2.2.2.2.2.2.2.2.2.2.2.2) (fun s => I s.1 s.2.1 s.2.2.1 s.2.2.2.1 s.2.2.2.2.1 s.2.2.2.2.2.1 s.2.2.2.2.2.2.1 s.2.2.2.2.2.2.2.1 s.2.2.2.2.2.2.2.2.1 s.2.2.2.2.2.2.2.2.2.1 s.2.2.2.2.2.2.2.2.2.2.1 s.2.2.2.2.2.2.2.2.2.2.2.1 s.2.2.2.2.2.2.2.2.2.2.2.2.1 s.2.2.2.2.2.2.2.2.2.2.2.2.2) (fun s => μ s.1 s.2.1 s.2.2.1 s.2.2.2.1 s.2.2.2.2.1 s.2.2.2.2.2.1 s.2.2.2.2.2.2.1 s.2.2.2.2.2.2.2.1 s.2.2.2.2.2.2.2.2.1 s.2.2.2.2.2.2.2.2.2.1 s.2.2.2.2.2.2.2.2.2.2.1 s.2.2.2.2.2.2.2.2.2.2.2.1 s.2.2.2.2.2.2.2.2.2.2.2.2.1 s.2.2.2.2.2.2.2.2.2.2.2.2.2) (fun n s hI hk => hs n s.1 s.2.1 s.2.2.1 s.2.2.2.1 s.2.2.2.2.1 s.2.2.2.2.2.1 s.2.2.2.2.2.2.1 s.2.2.2.2.2.2.2.1 s.2.2.2.2.2.2.2.2.1 s.2.2.2.2.2.2.2.2.2.1 s.2.2.2.2.2.2.2.2.2.2.1 s.2.2.2.2.2.2.2.2.2.2.2.1 s.2.2.2.2.2.2.2.2.2.2.2.2.1 s.2.2.2.2.2.2.2.2.2.2.2.2.2 hI (fun b1 b2 b3 b4 b5 b6 b7 b8 b9 b10 b11 b12 b13 b14 h9 hm => hk (b1, b2, b3, b4, b5, b6, b7, b8, b9, b10, b11, b12, b13, b14) h9 hm)) (a1, a2, a3, a4, a5, a6, a7, a8, a9, a10, a11, a12, a13, a14) h
theorem lp15 {A1 A2 A3 A4 A5 A6 A7 A8 A9 A10 A11 A12 A13 A14 A15 : Type} (W : Nat → A1 → A2 → A3 → A4 → A5 → A6 → A7 → A8 → A9 → A10 → A11 → A12 → A13 → A14 → A15 → Prop) (I : A1 → A2 → A3 → A4 → A5 → A6 → A7 → A8 → A9 → A10 → A11 → A12 → A13 → A14 → A15 → Prop) (μ : A1 → A2 → A3 → A4 → A5 → A6 → A7 → A8 → A9 → A10 → A11 → A12 → A13 → A14 → A15 → Nat) (hs : ∀ (n : Nat) (a1 : A1) (a2 : A2) (a3 : A3) (a4 : A4) (a5 : A5) (a6 : A6) (a7 : A7) (a8 : A8) (a9 : A9) (a10 : A10) (a11 : A11) (a12 : A12) (a13 : A13) (a14 : A14) (a15 : A15), I a1 a2 a3 a4 a5 a6 a7 a8 a9 a10 a11 a12 a13 a14 a15 → (∀ (b1 : A1) (b2 : A2) (b3 : A3) (b4 : A4) (b5 : A5) (b6 : A6) (b7 : A7) (b8 : A8) (b9 : A9) (b10 : A10) (b11 : A11) (b12 : A12) (b13 : A13) (b14 : A14) (b15 : A15), I b1 b2 b3 b4 b5 b6 b7 b8 b9 b10 b11 b12 b13 b14 b15 → μ b1 b2 b3 b4 b5 b6 b7 b8 b9 b10 b11 b12 b13 b14 b15 < μ a1 a2 a3 a4 a5 a6 a7 a8 a9 a10 a11 a12 a13 a14 a15 → W n b1 b2 b3 b4 b5 b6 b7 b8 b9 b10 b11 b12 b13 b14 b15) → W (n + 1) a1 a2 a3 a4 a5 a6 a7 a8 a9 a10 a11 a12 a13 a14 a15) (a1 : A1) (a2 : A2) (a3 : A3) (a4 : A4) (a5 : A5) (a6 : A6) (a7 : A7) (a8 : A8) (a9 : A9) (a10 : A10) (a11 : A11) (a12 : A12) (a13 : A13) (a14 : A14) (a15 : A15) (h : I a1 a2 a3 a4 a5 a6 a7 a8 a9 a10 a11 a12 a13 a14 a15) : ∃ n, W n a1 a2 a3 a4 a5 a6 a7 a8 a9 a10 a11 a12 a13 a14 a15 :=
  loop_m (σ := A1 × A2 × A3 × A4 × A5 × A6 × A7 × A8 × A9 × A10 × A11 × A12 × A13 × A14 × A15) (fun n s => W n s.1 s.2.1 s.2.2.1 s.2.2.2.1 s.2.2.2.2.1 s.2.2.2.2.2.1 s.2.2.2.2.2.2.1 s.2.2.2.2.2.2.2.1 s.2.2.2.2.2.2.2.2.1 s.2.2.2.2.2.2.2.2.2.1 s.2.2.2.2.2.2.2.2.2.2.1 s.2.2.2.2.2.2.2.2.2.2.2.1 s.2.2.2.2.2.2.2.2.2.2.2.2.1 s.2.2.2.2.2.2.2.2.2.2.2.2.2.1 s.2.2.2.2.2.2.2.2.2.2.2.2.2.2) (fun s => I s.1 s.2.1 s.2.2.1 s.2.2.2.1 s.2.2.2.2.1 s.2.2.2.2.2.1 s.2.2.2.2.2.2.1 s.2.2.2.2.2.2.2.1 s.2.2.2.2.2.2.2.2.1 s.2.2.2.2.2.2.2.2.2.1 s.2.2.2.2.2.2.2.2.2.2.1 s.2.2.2.2.2.2.2.2.2.2.2.1 s.2.2.2.2.2.2.2.2.2.2.2.2.1 s.2.2.2.2.2.2.2.2.2.2.2.2.2.1 s.2.2.2.2.2.2.2.2.2.2.2.2.2.2) (fun s => μ s.1 s.2.1 s.2.2.1 s.2.2.2.1 s.2.2.2.2.1 s.2.2.2.2.2.1 s.2.2.2.2.2.2.1 s.2.2.2.2.2.2.2.1 s.2.2.2.2.2.2.2.2.1 s.2.2.2.2.2.2.2.2.2.1 s.2.2.2.2.2.2.2.2.2.2.1 s.2.2.2.2.2.2.2.2.2.2.2.1 s.2.2.2.2.2.2.2.2.2.2.2.2.1 s.2.2.2.2.2.2.2.2.2.2.2.2.2.1 s.2.2.2.2.2.2.2.2.2.2.2.2.2.2) (fun n s hI hk => hs n s.1 s.2.1 s.2.2.1 s.2.2.2.1 s.2.2.2.2.1 s.2.2.2.2.2.1 s.2.2.2.2.2.2.1 s.2.2.2.2.2.2.2.1 s.2.2.2.2.2.2.2.2.1 s.2.2.2.2.2.2.2.2.2.1 s.2.2.2.2.2.2.2.2.2.2.1 s.2.2.2.2.2.2.2.2.2.2.2.1 s.2.2.2.2.2.2.2.2.2.2.2.2.1 s.2.2.2.2.2.2.2.2.2.2.2.2.2.1 s.2.2.2.2.2.2.2.2.2.2.2.2.2.2 hI (fun b1 b2 b3 b4 b5 b6 b7 b8 b9 b10 b11 b12 b13 b14 b15 h9 hm => hk (b1, b2, b3, b4, b5, b6, b7, b8, b9, b10, b11, b12, b13, b14, b15) h9 hm)) (a1, a2, a3, a4, a5, a6, a7, a8, a9, a10, a11, a12, a13, a14, a15) h
theorem lp16 {A1 A2 A3 A4 A5 A6 A7 A8 A9 A10 A11 A12 A13 A14 A15 A16 : Type} (W : Nat → A1 → A2 → A3 → A4 → A5 → A6 → A7 → A8 → A9 → A10 → A11 → A12 → A13 → A14 → A15 → A16 → Prop) (I : A1 → A2 → A3 → A4 → A5 → A6 → A7 → A8 → A9 → A10 → A11 → A12 → A13 → A14 → A15 → A16 → Prop) (μ : A1 → A2 → A3 → A4 → A5 → A6 → A7 → A8 → A9 → A10 → A11 → A12 → A13 → A14 → A15 → A16 → Nat) (hs : ∀ (n : Nat) (a1 : A1) (a2 : A2) (a3 : A3) (a4 : A4) (a5 : A5) (a6 : A6) (a7 : A7) (a8 : A8) (a9 : A9) (a10 : A10) (a11 : A11) (a12 : A12) (a13 : A13) (a14 : A14) (a15 : A15) (a16 : A16), I a1 a2 a3 a4 a5 a6 a7 a8 a9 a10 a11 a12 a13 a14 a15 a16 → (∀ (b1 : A1) (b2 : A2) (b3 : A3) (b4 : A4) (b5 : A5) (b6 : A6) (b7 : A7) (b8 : A8) (b9 : A9) (b10 : A10) (b11 : A11) (b12 : A12) (b13 : A13) (b14 : A14) (b15 : A15) (b16 : A16), I b1 b2 b3 b4 b5 b6 b7 b8 b9 b10 b11 b12 b13 b14 b15 b16 → μ b1 b2 b3 b4 b5 b6 b7 b8 b9 b10 b11 b12 b13 b14 b15 b16 < μ a1 a2 a3 a4 a5 a6 a7 a8 a9 a10 a11 a12 a13 a14 a15 a16 → W n b1 b2 b3 b4 b5 b6 b7 b8 b9 b10 b11 b12 b13 b14 b15 b16) → W (n + 1) a1 a2 a3 a4 a5 a6 a7 a8 a9 a10 a11 a12 a13 a14 a15 a16) (a1 : A1) (a2 : A2) (a3 : A3) (a4 : A4) (a5 : A5) (a6 : A6) (a7 : A7) (a8 : A8) (a9 : A9) (a10 : A10) (a11 : A11) (a12 : A12) (a13 : A13) (a14 : A14) (a15 : A15) (a16 : A16) (h : I a1 a2 a3 a4 a5 a6 a7 a8 a9 a10 a11 a12 a13 a14 a15 a16) : ∃ n, W n a1 a2 a3 a4 a5 a6 a7 a8 a9 a10 a11 a12 a13 a14 a15 a16 :=
  loop_m (σ := A1 × A2 × A3 × A4 × A5 × A6 × A7 × A8 × A9 × A10 × A11 × A12 × A13 × A14 × A15 × A16) (fun n s => W n s.1 s.2.1 s.2.2.1 s.2.2.2.1 s.2.2.2.2.1 s.2.2.2.2.2.1 s.2.2.2.2.2.2.1 s.2.2.2.2.2.2.2.1 s.2.2.2.2.2.2.2.2.1 s.2.2.2.2.2.2.2.2.2.1 s.2.2.2.2.2.2.2.2.2.2.1 s.2.2.2.2.2.2.2.2.2.2.2.1 s.2.2.2.2.2.2.2.2.2.2.2.2.1 s.2.2.2.2.2.2.2.2.2.2.2.2.2.1 s.2.2.2.2.2.2.2.2.2.2.2.2.2.2.1 s.2.2.2.2.2.2.2.2.2.2.2.2.2.2.2) (fun s => I s.1 s.2.1 s.2.2.1 s.2.2.2.1 s.2.2.2.2.1 s.2.2.2.2.2.1 s.2.2.2.2.2.2.1 s.2.2.2.2.2.2.2.1 s.2.2.2.2.2.2.2.2.1 s.2.2.2.2.2.2.2.2.2.1 s.2.2.2.2.2.2.2.2.2.2.1 s.2.2.2.2.2.2.2.2.2.2.2.1 s.2.2.2.2.2.2.2.2.2.2.2.2.1 s.2.2.2.2.2.2.2.2.2.2.2.2.2.1 s.2.2.2.2.2.2.2.2.2.2.2.2.2.2.1 s.2.2.2.2.2.2.2.2.2.2.2.2.2.2.2) (fun s => μ s.1 s.2.1 s.2.2.1 s.2.2.2.1 s.2.2.2.2.1 s.2.2.2.2.2.1 s.2.2.2.2.2.2.1 s.2.2.2.2.2.2.2.1 s.2.2.2.2.2.2.2.2.1 s.2.2.2.2.2.2.2.2.2.1 s.2.2.2.2.2.2.2.2.2.2.1 s.2.2.2.2.2.2.2.2.2.2.2.1 s.2.2.2.2.2.2.2.2.2.2.2.2.1 s.2.2.2.2.2.2.2.2.2.2.2.2.2.1 s.2.2.2.2.2.2.2.2.2.2.2.2.2.2.1 s.2.2.2.2.2.2.2.2.2.2.2.2.2.2.2) (fun n s hI hk => hs n s.1 s.2.1 s.2.2.1 s.2.2.2.1 s.2.2.2.2.1 s.2.2.2.2.2.1 s.2.2.2.2.2.2.1 s.2.2.2.2.2.2.2.1 s.2.2.2.2.2.2.2.2.1 s.2.2.2.2.2.2.2.2.2.1 s.2.2.2.2.2.2.2.2.2.2.1 s.2.2.2.2.2.2.2.2.2.2.2.1 s.2.2.2.2.2.2.2.2.2.2.2.2.1 s.2.2.2.2.2.2.2.2.2.2.2.2.2.1 s.2.2.2.2.2.2.2.2.2.2.2.2.2.2.1 s.2.2.2.2.2.2.2.2.2.2.2.2.2.2.2 hI (fun b1 b2 b3 b4 b5 b6 b7 b8 b9 b10 b11 b12 b13 b14 b15 b16 h9 hm => hk (b1, b2, b3, b4, b5, b6, b7, b8, b9, b10, b11, b12, b13, b14, b15, b16) h9 hm)) (a1, a2, a3, a4, a5, a6, a7, a8, a9, a10, a11, a12, a13, a14, a15, a16) h
theorem pk_least (P : Nat → Prop) (h : ∃ k, P k) : ∃ k, P k ∧ ∀ j, j < k → ¬ P j := by
  obtain ⟨k, hk⟩ := h
  induction k using Nat.strongRecOn with
  | ind k ih =>
    by_cases e : ∃ j, j < k ∧ P j
    · obtain ⟨j, hj, pj⟩ := e
      exact ih j hj pj
    · exact ⟨k, hk, fun j hj pj => e ⟨j, hj, pj⟩⟩
theorem rp1 {ρ A1 : Type} (W : Nat → (ρ → Prop) → A1 → Prop) (ok : A1 → Prop) (μ : A1 → Nat) (val : A1 → ρ)
    (hs : ∀ (d : Nat) (post : ρ → Prop) (a1 : A1), ok a1 → post (val a1) → (∀ (post' : ρ → Prop) (b1 : A1), ok b1 → μ b1 < μ a1 → post' (val b1) → W d post' b1) → W (d + 1) post a1) :
    ∀ (d : Nat) (post : ρ → Prop) (a1 : A1), ok a1 → μ a1 < d → post (val a1) → W d post a1 := by
  intro d
  induction d with
  | zero => intro post a1 _ h; omega
  | succ d ih =>
    intro post a1 ho hm hp
    exact hs d post a1 ho hp (fun post' b1 ho' hm' hp' => ih post' b1 ho' (by omega) hp')
theorem rp2 {ρ A1 A2 : Type} (W : Nat → (ρ → Prop) → A1 → A2 → Prop) (ok : A1 → A2 → Prop) (μ : A1 → A2 → Nat) (val : A1 → A2 → ρ)
    (hs : ∀ (d : Nat) (post : ρ → Prop) (a1 : A1) (a2 : A2), ok a1 a2 → post (val a1 a2) → (∀ (post' : ρ → Prop) (b1 : A1) (b2 : A2), ok b1 b2 → μ b1 b2 < μ a1 a2 → post' (val b1 b2) → W d post' b1 b2) → W (d + 1) post a1 a2) :
    ∀ (d : Nat) (post : ρ → Prop) (a1 : A1) (a2 : A2), ok a1 a2 → μ a1 a2 < d → post (val a1 a2) → W d post a1 a2 := by
  intro d
  induction d with
  | zero => intro post a1 a2 _ h; omega
  | succ d ih =>
    intro post a1 a2 ho hm hp
    exact hs d post a1 a2 ho hp (fun post' b1 b2 ho' hm' hp' => ih post' b1 b2 ho' (by omega) hp')
theorem rp3 {ρ A1 A2 A3 : Type} (W : Nat → (ρ → Prop) → A1 → A2 → A3 → Prop) (ok : A1 → A2 → A3 → Prop) (μ : A1 → A2 → A3 → Nat) (val : A1 → A2 → A3 → ρ)
    (hs : ∀ (d : Nat) (post : ρ → Prop) (a1 : A1) (a2 : A2) (a3 : A3), ok a1 a2 a3 → post (val a1 a2 a3) → (∀ (post' : ρ → Prop) (b1 : A1) (b2 : A2) (b3 : A3), ok b1 b2 b3 → μ b1 b2 b3 < μ a1 a2 a3 → post' (val b1 b2 b3) → W d post' b1 b2 b3) → W (d + 1) post a1 a2 a3) :
    ∀ (d : Nat) (post : ρ → Prop) (a1 : A1) (a2 : A2) (a3 : A3), ok a1 a2 a3 → μ a1 a2 a3 < d → post (val a1 a2 a3) → W d post a1 a2 a3 := by
  intro d
  induction d with
  | zero => intro post a1 a2 a3 _ h; omega
  | succ d ih =>
    intro post a1 a2 a3 ho hm hp
    exact hs d post a1 a2 a3 ho hp (fun post' b1 b2 b3 ho' hm' hp' => ih post' b1 b2 b3 ho' (by omega) hp')
theorem rp4 {ρ A1 A2 A3 A4 : Type} (W : Nat → (ρ → Prop) → A1 → A2 → A3 → A4 → Prop) (ok : A1 → A2 → A3 → A4 → Prop) (μ : A1 → A2 → A3 → A4 → Nat) (val : A1 → A2 → A3 → A4 → ρ)
    (hs : ∀ (d : Nat) (post : ρ → Prop) (a1 : A1) (a2 : A2) (a3 : A3) (a4 : A4), ok a1 a2 a3 a4 → post (val a1 a2 a3 a4) → (∀ (post' : ρ → Prop) (b1 : A1) (b2 : A2) (b3 : A3) (b4 : A4), ok b1 b2 b3 b4 → μ b1 b2 b3 b4 < μ a1 a2 a3 a4 → post' (val b1 b2 b3 b4) → W d post' b1 b2 b3 b4) → W (d + 1) post a1 a2 a3 a4) :
    ∀ (d : Nat) (post : ρ → Prop) (a1 : A1) (a2 : A2) (a3 : A3) (a4 : A4), ok a1 a2 a3 a4 → μ a1 a2 a3 a4 < d → post (val a1 a2 a3 a4) → W d post a1 a2 a3 a4 := by
  intro d
  induction d with
  | zero => intro post a1 a2 a3 a4 _ h; omega
  | succ d ih =>
    intro post a1 a2 a3 a4 ho hm hp
    exact hs d post a1 a2 a3 a4 ho hp (fun post' b1 b2 b3 b4 ho' hm' hp' => ih post' b1 b2 b3 b4 ho' (by omega) hp')
theorem rp5 {ρ A1 A2 A3 A4 A5 : Type} (W : Nat → (ρ → Prop) → A1 → A2 → A3 → A4 → A5 → Prop) (ok : A1 → A2 → A3 → A4 → A5 → Prop) (μ : A1 → A2 → A3 → A4 → A5 → Nat) (val : A1 → A2 → A3 → A4 → A5 → ρ)
    (hs : ∀ (d : Nat) (post : ρ → Prop) (a1 : A1) (a2 : A2) (a3 : A3) (a4 : A4) (a5 : A5), ok a1 a2 a3 a4 a5 → post (val a1 a2 a3 a4 a5) → (∀ (post' : ρ → Prop) (b1 : A1) (b2 : A2) (b3 : A3) (b4 : A4) (b5 : A5), ok b1 b2 b3 b4 b5 → μ b1 b2 b3 b4 b5 < μ a1 a2 a3 a4 a5 → post' (val b1 b2 b3 b4 b5) → W d post' b1 b2 b3 b4 b5) → W (d + 1) post a1 a2 a3 a4 a5) :
    ∀ (d : Nat) (post : ρ → Prop) (a1 : A1) (a2 : A2) (a3 : A3) (a4 : A4) (a5 : A5), ok a1 a2 a3 a4 a5 → μ a1 a2 a3 a4 a5 < d → post (val a1 a2 a3 a4 a5) → W d post a1 a2 a3 a4 a5 := by
  intro d
  induction d with
  | zero => intro post a1 a2 a3 a4 a5 _ h; omega
  | succ d ih =>
    intro post a1 a2 a3 a4 a5 ho hm hp
    exact hs d post a1 a2 a3 a4 a5 ho hp (fun post' b1 b2 b3 b4 b5 ho' hm' hp' => ih post' b1 b2 b3 b4 b5 ho' (by omega) hp')
theorem rp6 {ρ A1 A2 A3 A4 A5 A6 : Type} (W : Nat → (ρ → Prop) → A1 → A2 → A3 → A4 → A5 → A6 → Prop) (ok : A1 → A2 → A3 → A4 → A5 → A6 → Prop) (μ : A1 → A2 → A3 → A4 → A5 → A6 → Nat) (val : A1 → A2 → A3 → A4 → A5 → A6 → ρ)
    (hs : ∀ (d : Nat) (post : ρ → Prop) (a1 : A1) (a2 : A2) (a3 : A3) (a4 : A4) (a5 : A5) (a6 : A6), ok a1 a2 a3 a4 a5 a6 → post (val a1 a2 a3 a4 a5 a6) → (∀ (post' : ρ → Prop) (b1 : A1) (b2 : A2) (b3 : A3) (b4 : A4) (b5 : A5) (b6 : A6), ok b1 b2 b3 b4 b5 b6 → μ b1 b2 b3 b4 b5 b6 < μ a1 a2 a3 a4 a5 a6 → post' (val b1 b2 b3 b4 b5 b6) → W d post' b1 b2 b3 b4 b5 b6) → W (d + 1) post a1 a2 a3 a4 a5 a6) :
    ∀ (d : Nat) (post : ρ → Prop) (a1 : A1) (a2 : A2) (a3 : A3) (a4 : A4) (a5 : A5) (a6 : A6), ok a1 a2 a3 a4 a5 a6 → μ a1 a2 a3 a4 a5 a6 < d → post (val a1 a2 a3 a4 a5 a6) → W d post a1 a2 a3 a4 a5 a6 := by
  intro d
  induction d with
  | zero => intro post a1 a2 a3 a4 a5 a6 _ h; omega
  | succ d ih =>
    intro post a1 a2 a3 a4 a5 a6 ho hm hp
    exact hs d post a1 a2 a3 a4 a5 a6 ho hp (fun post' b1 b2 b3 b4 b5 b6 ho' hm' hp' => ih post' b1 b2 b3 b4 b5 b6 ho' (by omega) hp')
theorem rec_p {σ ρ : Type} (W : Nat → (ρ → Prop) → σ → Prop) (ok : σ → Prop) (μ : σ → Nat) (val : σ → ρ)
    (hs : ∀ d s post, ok s → post (val s) → (∀ s' post', ok s' → μ s' < μ s → post' (val s') → W d post' s') → W (d + 1) post s) :
    ∀ d s post, ok s → μ s < d → post (val s) → W d post s := by
  intro d
  induction d with
  | zero => intro s post _ h; omega
  | succ d ih =>
    intro s post ho hm hp
    exact hs d s post ho hp (fun s' post' ho' hm' hp' => ih s' post' ho' (by omega) hp')
theorem rec_q {σ ρ : Type} (W : Nat → (ρ → Prop) → σ → Prop) (ok : σ → Prop) (μ : σ → Nat) (Q : σ → ρ → Prop)
    (hs : ∀ d s post, ok s → (∀ r, Q s r → post r) → (∀ s' post', ok s' → μ s' < μ s → (∀ r, Q s' r → post' r) → W d post' s') → W (d + 1) post s) :
    ∀ d s post, ok s → μ s < d → (∀ r, Q s r → post r) → W d post s := by
  intro d
  induction d with
  | zero => intro s post _ h; omega
  | succ d ih =>
    intro s post ho hm hp
    exact hs d s post ho hp (fun s' post' ho' hm' hp' => ih s' post' ho' (by omega) hp')
def bx_sum (f : Nat → Int32) : Nat → Int32
  | 0 => 0
  | n + 1 => bx_sum f n + f n
theorem ek_u {A : Prop} {B : Nat → Prop} {k N : Nat} (hk : k < N) (h : B k) : (some k = none → A) ∧ (∀ y : Nat, some k = some y → (y < N ∧ B y)) :=
  ⟨fun z => absurd z (Option.some_ne_none k), fun _ e => (by cases e; exact ⟨hk, h⟩)⟩
theorem ek_nu {A : Prop} {B : Nat → Prop} (h : A) : ((none : Option Nat) = none → A) ∧ (∀ y : Nat, (none : Option Nat) = some y → B y) :=
  ⟨fun _ => h, fun _ e => (by cases e)⟩
theorem ek_if {c d A B : Prop} (e : c ↔ d) (f : d → A) (g : ¬ d → B) : (c → A) ∧ (¬ c → B) :=
  ⟨fun z => f (e.mp z), fun z => g (fun y => z (e.mpr y))⟩
theorem ek_v {α : Sort _} {P : α → Prop} {a b : α} (e : a = b) (h : P b) : P a := e ▸ h
theorem co_some {x : Option Nat} {A : Prop} {B : Nat → Prop} (i : Nat) (h : B i) (hx : x = some i := by rfl) : (x = none → A) ∧ (∀ y : Nat, x = some y → B y) := by
  subst hx
  exact ⟨fun e => (nomatch e), fun y e => Option.some.inj e ▸ h⟩
theorem co_none {x : Option Nat} {A : Prop} {B : Nat → Prop} (h : A) (hx : x = none := by rfl) : (x = none → A) ∧ (∀ y : Nat, x = some y → B y) := by
  subst hx
  exact ⟨fun _ => h, fun y e => (nomatch e)⟩
theorem co_any {x : Option Nat} {A : Prop} {B : Nat → Prop} (hn : x = none → A) (hs : ∀ i : Nat, x = some i → B i) : (x = none → A) ∧ (∀ y : Nat, x = some y → B y) := ⟨hn, hs⟩
theorem co_2 {P : Nat → Prop} (h0 : P 0) (h1 : P 1) {i : Nat} (hi : i < 2) : P i :=
  match i, hi with
  | 0, _ => h0
  | 1, _ => h1
theorem co_3 {P : Nat → Prop} (h0 : P 0) (h1 : P 1) (h2 : P 2) {i : Nat} (hi : i < 3) : P i :=
  match i, hi with
  | 0, _ => h0
  | 1, _ => h1
  | 2, _ => h2
theorem co_4 {P : Nat → Prop} (h0 : P 0) (h1 : P 1) (h2 : P 2) (h3 : P 3) {i : Nat} (hi : i < 4) : P i :=
  match i, hi with
  | 0, _ => h0
  | 1, _ => h1
  | 2, _ => h2
  | 3, _ => h3
theorem co_dec {N : Nat} {P : Nat → Prop} [DecidablePred P] (h : (List.range N).all (fun i => decide (P i)) = true) {i : Nat} (hi : i < N) : P i := by
  have := List.all_eq_true.mp h i (List.mem_range.mpr hi)
  exact of_decide_eq_true this
theorem co_tab {α : Type} {l : List α} {d : α} {P : α → Prop} (h : ∀ a, a ∈ l → P a) {i : Nat} (hi : i < l.length) : P (l.getD i d) := by
  rw [List.getD_eq_getElem?_getD, List.getElem?_eq_getElem hi]
  exact h _ (List.getElem_mem hi)
theorem pk_mu {x : Int32} {L : Nat} (h0 : ¬ x < 0) (h : ¬ nI L ≤ x) (hL : L < 2 ^ 31) : ∃ j : Nat, j < L ∧ x = nI j ∧ x + 1 = nI (j + 1) ∧ x.toNatClampNeg = j ∧ L - (x + 1).toNatClampNeg < L - x.toNatClampNeg := by
  obtain ⟨j, hj, rfl⟩ := nI_of h0
  have hl : j < L := Nat.not_le.mp fun q => h (nI_le q hj)
  refine ⟨j, hl, rfl, nI_1 j, nI_clamp hj, ?_⟩
  rw [nI_1, nI_clamp (by omega), nI_clamp hj]
  omega
theorem op_s {α : Type} {r : Option α} {A : Prop} {B : α → Prop} {y : α} (h : r = some y) (b : B y) : (r = none → A) ∧ ∀ z, r = some z → B z :=
  ⟨fun e => (by rw [h] at e; cases e), fun z e => (by rw [h] at e; cases e; exact b)⟩
def l_holds {α : Type} (a : Nat → Option Nat) (LP : List Nat) (p : Nat → α) (c : Nat) (b : Nat → α) : Prop :=
  ∀ j, j < c → ∃ y, a j = some y ∧ y ∈ LP ∧ p y = b j
theorem l_holds_0 {α : Type} {a : Nat → Option Nat} {LP : List Nat} {p b : Nat → α} : l_holds a LP p 0 b := fun j h => absurd h (Nat.not_lt_zero j)
theorem l_in_new (LP : List Nat) (q : Nat) : q ∈ LP ++ [q] := List.mem_append.mpr (Or.inr (List.mem_singleton.mpr rfl))
def l_sum (b : Nat → Int32) : Nat → Int32
  | 0 => 0
  | k + 1 => l_sum b k + b k
theorem sb_shr0 (x : Int32) : x >>> ((0 : Int32) &&& 31) = x := by
  rw [show ((0 : Int32) &&& 31) = 0 by decide]
  simp
theorem sb_shl0 (x : Int32) : x <<< ((0 : Int32) &&& 31) = x := by
  rw [show ((0 : Int32) &&& 31) = 0 by decide]
  simp
theorem sb_cl0 : (0 : Int32).toNatClampNeg = 0 := by decide
theorem sb_m1 {p : Nat} (h : 0 < p) : nI p + (-1) = nI (p - 1) := by
  obtain ⟨q, rfl⟩ : ∃ q, p = q + 1 := ⟨p - 1, by omega⟩
  exact pk_m1 q
def sb_b (c : Nat) : Int32 := (nI c).toInt8.toInt32
theorem sb_byte : ∀ c, c < 256 → sb_b c &&& 255 = nI c ∧ ((nI c).toUInt32 % 65536).toInt32 = nI c ∧ nI c ≤ 255 := by decide +kernel
def sb_Fit (a : Nat → Int32) : Prop := ∀ j, fits .byte (.int (a j)) = true
def sb_Lat (t : Nat → Nat) (n : Nat) (a : Nat → Int32) : Prop := ∀ j, j < n → t j < 256 ∧ a j = sb_b (t j)
theorem sb_fitB (c : Nat) : fits .byte (.int (sb_b c)) = true := pk_fb _
theorem sb_fit0 : sb_Fit (fun _ => 0) := fun _ => by
  show fits .byte (.int 0) = true
  decide
theorem sb_fitU {a : Nat → Int32} {k : Nat} {x : Int32} (h : sb_Fit a) (hx : fits .byte (.int x) = true) : sb_Fit (upd a k x) := by
  intro j
  by_cases e : j = k
  · subst e
    rw [pk_us]
    exact hx
  · rw [pk_un e]
    exact h j
def sb_cat (t : Nat → Nat) (n : Nat) (s : Nat → Nat) : Nat → Nat := fun j => if j < n then t j else s (j - n)
theorem sb_cat_lo {t s : Nat → Nat} {n j : Nat} (h : j < n) : sb_cat t n s j = t j := if_pos h
theorem sb_cat_hi {t s : Nat → Nat} {n j : Nat} : sb_cat t n s (n + j) = s j := by
  show (if n + j < n then t (n + j) else s (n + j - n)) = s j
  rw [if_neg (by omega), Nat.add_sub_cancel_left]
theorem sb_latPut {t s : Nat → Nat} {n w : Nat} {a a' : Nat → Int32} (h : sb_Lat t n a) (hk : ∀ j, j < n → a' j = a j) (hs : ∀ i, i < w → s i < 256 ∧ a' (n + i) = sb_b (s i)) : sb_Lat (sb_cat t n s) (n + w) a' := by
  intro j hj
  by_cases e : j < n
  · rw [sb_cat_lo e, hk j e]
    exact h j e
  · obtain ⟨i, rfl⟩ : ∃ i, j = n + i := ⟨j - n, by omega⟩
    rw [sb_cat_hi]
    exact hs i (by omega)
theorem sb_latKeep {t : Nat → Nat} {n : Nat} {a a' : Nat → Int32} (h : sb_Lat t n a) (hk : ∀ j, j < n → a' j = a j) : sb_Lat t n a' := fun j hj => by
  rw [hk j hj]
  exact h j hj
def sb_cap (q m : Nat) : Nat := if q ≤ m then m else if 2 * m + 2 < q then q else 2 * m + 2
def sb_Room (q m mc ms : Nat) : Prop := q ≤ m ∨ (1 ≤ mc ∧ sb_cap q m ≤ ms ∧ sb_cap q m ≤ 65536)
theorem sb_cap_ge (q m : Nat) : q ≤ sb_cap q m := by
  unfold sb_cap
  split
  · omega
  · split <;> omega
theorem sb_cap_gem (q m : Nat) : m ≤ sb_cap q m := by
  unfold sb_cap
  split
  · omega
  · split <;> omega
theorem sb_cap_le {q m mc ms : Nat} (hm : m ≤ 65536) (hr : sb_Room q m mc ms) : sb_cap q m ≤ 65536 := by
  rcases hr with h | h
  · rw [sb_cap, if_pos h]
    exact hm
  · exact h.2.2
theorem sb_at {P : Int32 → Prop} {x y : Int32} (e : x = y) (h : P y) : P x := e ▸ h
def sb_dg (w : Nat) : Nat := if w < 10 then 1 else if w < 100 then 2 else if w < 1000 then 3 else if w < 10000 then 4 else if w < 100000 then 5 else if w < 1000000 then 6 else if w < 10000000 then 7 else if w < 100000000 then 8 else if w < 1000000000 then 9 else 10
def sb_dec (v : Nat) : Nat → Nat := fun i => 48 + v / 10 ^ (sb_dg v - 1 - i) % 10
theorem sb_dg_in (w : Nat) : 1 ≤ sb_dg w ∧ sb_dg w ≤ 10 := by
  unfold sb_dg
  constructor <;> (repeat' split) <;> omega
theorem sb_dg100 {w : Nat} (h : 100 ≤ w) (hw : w < 2 ^ 31) : sb_dg w = sb_dg (w / 100) + 2 := by
  rw [sb_dg, sb_dg, if_neg (show ¬ w < 10 by omega), if_neg (show ¬ w < 100 by omega)]
  by_cases h3 : w < 1000
  · rw [if_pos h3, if_pos (show w / 100 < 10 by omega)]
  rw [if_neg h3, if_neg (show ¬ w / 100 < 10 by omega)]
  by_cases h4 : w < 10000
  · rw [if_pos h4, if_pos (show w / 100 < 100 by omega)]
  rw [if_neg h4, if_neg (show ¬ w / 100 < 100 by omega)]
  by_cases h5 : w < 100000
  · rw [if_pos h5, if_pos (show w / 100 < 1000 by omega)]
  rw [if_neg h5, if_neg (show ¬ w / 100 < 1000 by omega)]
  by_cases h6 : w < 1000000
  · rw [if_pos h6, if_pos (show w / 100 < 10000 by omega)]
  rw [if_neg h6, if_neg (show ¬ w / 100 < 10000 by omega)]
  by_cases h7 : w < 10000000
  · rw [if_pos h7, if_pos (show w / 100 < 100000 by omega)]
  rw [if_neg h7, if_neg (show ¬ w / 100 < 100000 by omega)]
  by_cases h8 : w < 100000000
  · rw [if_pos h8, if_pos (show w / 100 < 1000000 by omega)]
  rw [if_neg h8, if_neg (show ¬ w / 100 < 1000000 by omega)]
  by_cases h9 : w < 1000000000
  · rw [if_pos h9, if_pos (show w / 100 < 10000000 by omega)]
  rw [if_neg h9, if_neg (show ¬ w / 100 < 10000000 by omega)]
  rw [if_pos (show w / 100 < 100000000 by omega)]
theorem sb_negT {w : Nat} (h : w < 2 ^ 31) : (-nI w).toInt = -(w : Int) := by
  rw [Int32.toInt_neg, nI_toInt h]
  exact Int.bmod_eq_of_le (by omega) (by omega)
theorem sb_nle {a b : Nat} (ha : a < 2 ^ 31) (hb : b < 2 ^ 31) : -nI a ≤ -nI b ↔ b ≤ a := by
  rw [Int32.le_iff_toInt_le, sb_negT ha, sb_negT hb]
  omega
theorem sb_nlt {a b : Nat} (ha : a < 2 ^ 31) (hb : b < 2 ^ 31) : -nI a < -nI b ↔ b < a := by
  rw [Int32.lt_iff_toInt_lt, sb_negT ha, sb_negT hb]
  omega
theorem sb_cmp {A B : Prop} {x : Int32} (v c : Nat) (f : c ≤ v → A) (g : v < c → B) (hv : v < 2 ^ 31) (hx : x = -nI c := by rfl) (hc : c < 2 ^ 31 := by omega) : (-nI v ≤ x → A) ∧ (¬ -nI v ≤ x → B) := by
  subst hx
  rw [sb_nle hv hc]
  exact ⟨f, fun z => g (by omega)⟩
theorem sb_ndiv {w : Nat} (hw : w < 2 ^ 31) : (-nI w) / 100 = -nI (w / 100) := by
  apply Int32.toInt_inj.mp
  have h100 : (100 : Int32).toInt = 100 := by decide
  rw [Int32.toInt_div, sb_negT hw, h100, sb_negT (by omega), Int.neg_tdiv, Int.tdiv_eq_ediv_of_nonneg (by omega), Int.bmod_eq_of_le (by omega) (by omega)]
  omega
theorem sb_nrem {w : Nat} (hw : w < 2 ^ 31) : (-nI (w / 100)) * 100 - (-nI w) = nI (w % 100) := by
  have h := pk_rem (a := w) (d := 100) hw (by decide) (by decide)
  rw [pk_div hw (by decide) (by decide)] at h
  rw [← h]
  show (-nI (w / 100)) * nI 100 - (-nI w) = nI w - nI (w / 100) * nI 100
  rw [Int32.neg_mul, Int32.sub_neg, Int32.add_comm, ← Int32.sub_eq_add_neg]
end
section
/-! rows on bits, shifts and unsigned numbers, to paste: each family out of a closed proof of our own, whole with what it rests on; each by itself clean at Lean in its own claim (generation 39, form 5). Take a family whole -/
/-! ===== Int32 by its bits: bt x i ===== -/
def bt (x : Int32) (i : Nat) : Bool := x.toBitVec.getLsbD i
theorem b_ext {x y : Int32} (h : ∀ i, i < 32 → bt x i = bt y i) : x = y := Int32.toBitVec_inj.mp (BitVec.eq_of_getLsbD_eq (fun i hi => h i hi))
theorem b_or (x y : Int32) (i : Nat) : bt (x ||| y) i = (bt x i || bt y i) := by unfold bt; rw [Int32.toBitVec_or, BitVec.getLsbD_or]
theorem b_and (x y : Int32) (i : Nat) : bt (x &&& y) i = (bt x i && bt y i) := by unfold bt; rw [Int32.toBitVec_and, BitVec.getLsbD_and]
theorem b_xor (x y : Int32) (i : Nat) : bt (x ^^^ y) i = (bt x i ^^ bt y i) := by unfold bt; rw [Int32.toBitVec_xor, BitVec.getLsbD_xor]
theorem b_big {x : Int32} {i : Nat} (h : 32 ≤ i) : bt x i = false := BitVec.getLsbD_of_ge _ _ h
theorem b_255 (i : Nat) : bt 255 i = decide (i < 8) := by
  rcases Nat.lt_or_ge i 32 with h | h
  · exact (by decide +kernel : ∀ i, i < 32 → bt 255 i = decide (i < 8)) i h
  · rw [b_big h, decide_eq_false (by omega)]
theorem b_65535 (i : Nat) : bt 65535 i = decide (i < 16) := by
  rcases Nat.lt_or_ge i 32 with h | h
  · exact (by decide +kernel : ∀ i, i < 32 → bt 65535 i = decide (i < 16)) i h
  · rw [b_big h, decide_eq_false (by omega)]
theorem b_m1 : ∀ i, i < 32 → bt (-1) i = true := by decide +kernel
theorem b_0 (i : Nat) : bt 0 i = false := BitVec.getLsbD_zero
theorem s_l : ∀ n, n < 32 → ((nI n &&& 31).toBitVec.smod 32).toNat = n := by decide +kernel
theorem s_u : ∀ n, n < 32 → (((nI n).toUInt32 &&& Int32.toUInt32 31).toBitVec % 32).toNat = n := by decide +kernel
theorem b_shl (n : Nat) (hn : n < 32) (x : Int32) {i : Nat} (hi : i < 32) : bt (x <<< (nI n &&& 31)) i = (decide (n ≤ i) && bt x (i - n)) := by
  unfold bt
  rw [Int32.toBitVec_shiftLeft]
  show (x.toBitVec <<< ((nI n &&& 31).toBitVec.smod 32).toNat).getLsbD i = _
  rw [s_l n hn, BitVec.getLsbD_shiftLeft]
  rcases Nat.lt_or_ge i n with h | h
  · simp [h, Nat.not_le.mpr h]
  · simp [hi, h, Nat.not_lt.mpr h]
theorem b_ushr (n : Nat) (hn : n < 32) (x : Int32) (i : Nat) : bt ((x.toUInt32 >>> ((nI n).toUInt32 &&& Int32.toUInt32 31)).toInt32) i = bt x (n + i) := by
  show (x.toUInt32 >>> ((nI n).toUInt32 &&& Int32.toUInt32 31)).toBitVec.getLsbD i = x.toUInt32.toBitVec.getLsbD (n + i)
  rw [UInt32.toBitVec_shiftRight]
  show (x.toUInt32.toBitVec >>> (((nI n).toUInt32 &&& Int32.toUInt32 31).toBitVec % 32).toNat).getLsbD i = _
  rw [s_u n hn, BitVec.getLsbD_ushiftRight]
theorem b_sshr (n : Nat) (hn : n < 32) (x : Int32) {i : Nat} (hi : i < 32) : bt (x >>> (nI n &&& 31)) i = if n + i < 32 then bt x (n + i) else bt x 31 := by
  unfold bt
  rw [Int32.toBitVec_shiftRight]
  show (x.toBitVec.sshiftRight ((nI n &&& 31).toBitVec.smod 32).toNat).getLsbD i = _
  rw [s_l n hn, BitVec.getLsbD_sshiftRight, BitVec.msb_eq_getLsbD_last]
  simp [hi]
theorem b_shl8 (x : Int32) {i : Nat} (hi : i < 32) : bt (x <<< ((8 : Int32) &&& 31)) i = (decide (8 ≤ i) && bt x (i - 8)) := b_shl 8 (by omega) x hi
theorem b_shl16 (x : Int32) {i : Nat} (hi : i < 32) : bt (x <<< ((16 : Int32) &&& 31)) i = (decide (16 ≤ i) && bt x (i - 16)) := b_shl 16 (by omega) x hi
theorem b_shl24 (x : Int32) {i : Nat} (hi : i < 32) : bt (x <<< ((24 : Int32) &&& 31)) i = (decide (24 ≤ i) && bt x (i - 24)) := b_shl 24 (by omega) x hi
theorem b_sshr8 (x : Int32) {i : Nat} (hi : i < 32) : bt (x >>> ((8 : Int32) &&& 31)) i = if 8 + i < 32 then bt x (8 + i) else bt x 31 := b_sshr 8 (by omega) x hi
/-! ===== nI under and, xor, >>>, one bit, 65535 ===== -/
theorem nx_and (a b : Nat) : nI a &&& nI b = nI (a &&& b) := by
  apply Int32.toBitVec_inj.1
  show BitVec.ofNat 32 a &&& BitVec.ofNat 32 b = BitVec.ofNat 32 (a &&& b)
  apply BitVec.eq_of_getLsbD_eq
  intro i hi
  simp [hi]
theorem nx_xor (a b : Nat) : nI a ^^^ nI b = nI (a ^^^ b) := by
  apply Int32.toBitVec_inj.1
  show BitVec.ofNat 32 a ^^^ BitVec.ofNat 32 b = BitVec.ofNat 32 (a ^^^ b)
  apply BitVec.eq_of_getLsbD_eq
  intro i hi
  simp [hi]
theorem nx_cnt : ∀ j : Fin 32, (UInt32.ofNat j.val &&& Int32.toUInt32 31).toNat % 32 = j.val := by decide +kernel
theorem nx_ush {k j : Nat} (hk : k < 65536) (hj : j < 32) : ((nI k).toUInt32 >>> ((nI j).toUInt32 &&& Int32.toUInt32 31)).toInt32 = nI (k >>> j) := by
  have hs : k >>> j ≤ k := by
    rw [Nat.shiftRight_eq_div_pow]
    exact Nat.div_le_self _ _
  have e2 : UInt32.ofNat k >>> (UInt32.ofNat j &&& Int32.toUInt32 31) = UInt32.ofNat (k >>> j) := by
    apply UInt32.toNat_inj.1
    have h1 : (UInt32.ofNat k).toNat = k := Nat.mod_eq_of_lt (by omega)
    have h2 : (UInt32.ofNat (k >>> j)).toNat = k >>> j := Nat.mod_eq_of_lt (by omega)
    rw [UInt32.toNat_shiftRight, nx_cnt ⟨j, hj⟩, h1, h2]
  show (UInt32.ofNat k >>> (UInt32.ofNat j &&& Int32.toUInt32 31)).toInt32 = _
  rw [e2]
  rfl
theorem nx_bit {k j : Nat} (hk : k < 65536) (hj : j < 16) : (((nI k).toUInt32 >>> ((nI j).toUInt32 &&& Int32.toUInt32 31)).toInt32 &&& 1) = 0 ↔ k.testBit j = false := by
  rw [nx_ush hk (by omega)]
  show nI (k >>> j) &&& nI 1 = 0 ↔ _
  rw [nx_and, Nat.and_one_is_mod, ← nI_0, nI_eq (by omega) (by omega), Nat.testBit_eq_decide_div_mod_eq, Nat.shiftRight_eq_div_pow, decide_eq_false_iff_not]
  generalize k / 2 ^ j = z
  omega
theorem nx_mod (k : Nat) : nI k &&& 65535 = nI (k % 65536) := by
  show nI k &&& nI 65535 = _
  rw [nx_and, show (65535 : Nat) = 2 ^ 16 - 1 from rfl, Nat.and_two_pow_sub_one_eq_mod]
theorem nx_m16 {k : Nat} (h : k < 65536) : nI k &&& 65535 = nI k := by rw [nx_mod, Nat.mod_eq_of_lt h]
theorem nx_mask (x : Int32) : ∃ k, k < 65536 ∧ x &&& 65535 = nI k := by
  have e : x = nI x.toBitVec.toNat := by
    apply Int32.toBitVec_inj.1
    show x.toBitVec = BitVec.ofNat 32 x.toBitVec.toNat
    simp
  refine ⟨x.toBitVec.toNat % 65536, Nat.mod_lt _ (by omega), ?_⟩
  rw [← nx_mod, ← e]
/-! ===== Int32 as a set of bits: test, set ===== -/
def nf_M (m : Int32) : Nat := 4294967296 - m.toBitVec.toNat
theorem nf_sh : ∀ l, l < 32 → ((1 : Int32) <<< (nI l &&& 31)).toBitVec = BitVec.twoPow 32 l := by decide +kernel
theorem nf_sl : ∀ l, l < 32 → (((nI l).toUInt32 &&& Int32.toUInt32 31).toBitVec % 32).toNat = l := by decide +kernel
theorem nf_tp : ∀ l, l < 32 → BitVec.twoPow 32 l ≠ 0#32 := by decide +kernel
theorem nf_bit (m : Int32) (l : Nat) (hl : l < 32) : ((m.toUInt32 >>> ((nI l).toUInt32 &&& Int32.toUInt32 31)).toInt32 &&& 1) = 0 ↔ (m &&& ((1 : Int32) <<< (nI l &&& 31))) = 0 := by
  have e : ((m.toUInt32 >>> ((nI l).toUInt32 &&& Int32.toUInt32 31)).toInt32).toBitVec = m.toBitVec >>> l := by
    show m.toBitVec >>> (((nI l).toUInt32 &&& Int32.toUInt32 31).toBitVec % 32) = m.toBitVec >>> l
    rw [BitVec.ushiftRight_eq', nf_sl l hl]
  rw [← Int32.toBitVec_inj, ← Int32.toBitVec_inj, Int32.toBitVec_and, Int32.toBitVec_and, nf_sh l hl, e, BitVec.and_twoPow]
  show (m.toBitVec >>> l &&& 1#32) = 0#32 ↔ _ = 0#32
  rw [BitVec.and_one_eq_setWidth_ofBool_getLsbD, BitVec.getLsbD_ushiftRight, Nat.add_zero]
  cases hb : m.toBitVec.getLsbD l
  · exact ⟨fun _ => by simp, fun _ => by decide⟩
  · exact ⟨fun z => absurd z (by decide), fun z => absurd ((if_pos rfl).symm.trans z) (nf_tp l hl)⟩
theorem nf_gr (m k : Int32) (h : m &&& k = 0) (hk : k ≠ 0) : nf_M (m ||| k) < nf_M m := by
  have hm := m.toBitVec.isLt
  have hm' := (m ||| k).toBitVec.isLt
  have h1 : m.toBitVec.toNat ≤ (m ||| k).toBitVec.toNat := by
    rw [Int32.toBitVec_or, BitVec.toNat_or]
    exact Nat.left_le_or
  have h2 : m.toBitVec.toNat ≠ (m ||| k).toBitVec.toNat := by
    intro e
    have e2 : m = m ||| k := Int32.toBitVec_inj.mp (BitVec.eq_of_toNat_eq e)
    apply hk
    apply Int32.toBitVec_inj.mp
    show k.toBitVec = 0#32
    apply BitVec.eq_of_getLsbD_eq
    intro i hi
    have a : m.toBitVec.getLsbD i = (m.toBitVec.getLsbD i || k.toBitVec.getLsbD i) := by rw [← BitVec.getLsbD_or, ← Int32.toBitVec_or, ← e2]
    have b : (m.toBitVec.getLsbD i && k.toBitVec.getLsbD i) = false := by
      rw [← BitVec.getLsbD_and, ← Int32.toBitVec_and, h]
      exact BitVec.getLsbD_zero
    rw [BitVec.getLsbD_zero]
    revert a b
    cases m.toBitVec.getLsbD i <;> cases k.toBitVec.getLsbD i <;> simp
  unfold nf_M
  omega
/-! ===== a byte read unsigned ===== -/
theorem bp_b (x : Int32) : x.toInt8.toInt32 &&& 255 = x &&& 255 := by
  apply Int32.toBitVec_inj.mp
  rw [Int32.toBitVec_and, Int32.toBitVec_and, Int8.toBitVec_toInt32, Int32.toBitVec_toInt8]
  apply BitVec.eq_of_getLsbD_eq
  intro i hi
  rw [BitVec.getLsbD_and, BitVec.getLsbD_and]
  have hm : ∀ i < 32, 8 ≤ i → (255 : Int32).toBitVec.getLsbD i = false := by decide
  rcases Nat.lt_or_ge i 8 with z | z
  · rw [BitVec.getLsbD_signExtend, BitVec.getLsbD_signExtend, if_pos z, if_pos hi]
    simp only [z, hi, decide_true, Bool.true_and]
  · rw [hm i hi z]; simp
/-! ===== the char cast and 65535 ===== -/
theorem em_w (v : Int32) : ∃ w : Nat, w < 65536 ∧ (v.toUInt32 % 65536).toInt32 = nI w ∧ v &&& 65535 = nI w := by
  have hr := lw_u16_r v
  have h0 : (0 : Int32).toInt = 0 := by decide
  obtain ⟨w, h1, h2⟩ := nI_of (x := lw_u16 v) (by rw [Int32.lt_iff_toInt_lt]; omega)
  have h3 : (v.toUInt32 % 65536).toInt32 = nI w := h2
  rw [h2, nI_toInt h1] at hr
  exact ⟨w, by omega, h3, by rw [← lg_i2c_mask, ← lg_i2c_nf, h3]⟩
/-! ===== Int64 as a set of bits: test, set, clear ===== -/
theorem ts_nf {x : Bool} (h : ¬ x = false) : x = true := by cases x <;> first | rfl | exact absurd rfl h
theorem ts_nt {x : Bool} (h : ¬ x = true) : x = false := by cases x <;> first | rfl | exact absurd rfl h
theorem ts_bit {w : Int64} {s : UInt64} {j : Nat} (hj : j < 64) (hs : s.toNat = j) : ((w.toUInt64 >>> s).toInt64 &&& 1) = 0 ↔ w.toBitVec.getLsbD j = false := by
  have e : (w.toUInt64 >>> s).toInt64.toBitVec = w.toBitVec >>> j := by
    apply BitVec.eq_of_toNat_eq
    show (w.toUInt64 >>> s).toNat = _
    rw [UInt64.toNat_shiftRight, hs, Nat.mod_eq_of_lt hj, BitVec.toNat_ushiftRight]
    rfl
  rw [← Int64.toBitVec_inj, Int64.toBitVec_and, e]
  show w.toBitVec >>> j &&& 1#64 = 0#64 ↔ _
  constructor
  · intro h
    have t := congrArg (fun x => x.getLsbD 0) h
    simpa using t
  · intro h
    apply BitVec.eq_of_getLsbD_eq
    intro i hi
    cases i with
    | zero => simp [h]
    | succ i => simp
theorem ts_or {w m : Int64} {j : Nat} (hj : j < 64) (hm : m.toBitVec = BitVec.twoPow 64 j) : (w ||| m) = w ↔ w.toBitVec.getLsbD j = true := by
  rw [← Int64.toBitVec_inj, Int64.toBitVec_or, hm]
  constructor
  · intro h
    have t := congrArg (fun x => x.getLsbD j) h
    simp only [BitVec.getLsbD_or, BitVec.getLsbD_twoPow] at t
    simpa [hj] using t.symm
  · intro h
    apply BitVec.eq_of_getLsbD_eq
    intro i hi
    rw [BitVec.getLsbD_or, BitVec.getLsbD_twoPow]
    by_cases e : j = i
    · subst e; rw [h, Bool.true_or]
    · simp [e]
theorem ts_and {w m : Int64} {j : Nat} (hj : j < 64) (hm : m.toBitVec = BitVec.twoPow 64 j) : (w &&& (m ^^^ (-1))) = w ↔ w.toBitVec.getLsbD j = false := by
  have ha : (-1 : Int64).toBitVec = BitVec.allOnes 64 := by decide
  rw [← Int64.toBitVec_inj, Int64.toBitVec_and, Int64.toBitVec_xor, hm, ha]
  constructor
  · intro h
    have t := congrArg (fun x => x.getLsbD j) h
    simp only [BitVec.getLsbD_and, BitVec.getLsbD_xor, BitVec.getLsbD_twoPow, BitVec.getLsbD_allOnes] at t
    simpa [hj] using t.symm
  · intro h
    apply BitVec.eq_of_getLsbD_eq
    intro i hi
    rw [BitVec.getLsbD_and, BitVec.getLsbD_xor, BitVec.getLsbD_twoPow, BitVec.getLsbD_allOnes]
    by_cases e : j = i
    · subst e; rw [h, Bool.false_and]
    · simp [e, hi]
/-! ===== lN n to 2^64: shifts, and, or, masks, one bit ===== -/
theorem wb_tb (n : Nat) : (lN n).toBitVec = BitVec.ofNat 64 n := rfl
theorem wb_inj {a b : Int64} (h : a.toBitVec = b.toBitVec) : a = b := Int64.toBitVec_inj.mp h
theorem wb_tn {n : Nat} (h : n < 2 ^ 64) : (lN n).toBitVec.toNat = n := by rw [wb_tb, BitVec.toNat_ofNat, Nat.mod_eq_of_lt h]
theorem wb_of (x : Int64) : ∃ n, n < 2 ^ 64 ∧ x = lN n := ⟨x.toBitVec.toNat, x.toBitVec.isLt, wb_inj (by rw [wb_tb]; simp)⟩
theorem wb_of32 (x : Int32) : ∃ n, n < 2 ^ 32 ∧ x = nI n := ⟨x.toBitVec.toNat, x.toBitVec.isLt, Int32.toBitVec_inj.mp (by show _ = BitVec.ofNat 32 _; simp)⟩
theorem wb_c : ∀ k, k < 64 → ((nI k).toInt64 &&& 63) = lN k := by decide +kernel
theorem wb_cu : ∀ k, k < 64 → ((nI k).toInt64.toUInt64 &&& Int64.toUInt64 63) = UInt64.ofNat k := by decide +kernel
theorem wb_sm : ∀ k, k < 64 → (BitVec.ofNat 64 k).smod 64 = BitVec.ofNat 64 k := by decide +kernel
theorem wb_pw {a b : Nat} (h : a ≤ b) : 2 ^ b = 2 ^ a * 2 ^ (b - a) := by rw [← Nat.pow_add]; congr 1; omega
theorem wb_lt2 {a b : Nat} (h : a < b) : 2 ^ a < 2 ^ b := Nat.pow_lt_pow_right (by decide) h
theorem wb_mod (n : Nat) : lN n = lN (n % 2 ^ 64) := wb_inj (by rw [wb_tb, wb_tb]; apply BitVec.eq_of_toNat_eq; rw [BitVec.toNat_ofNat, BitVec.toNat_ofNat, Nat.mod_mod])
theorem wb_shr {n k : Nat} (hn : n < 2 ^ 64) (hk : k < 64) : ((lN n).toUInt64 >>> ((nI k).toInt64.toUInt64 &&& Int64.toUInt64 63)).toInt64 = lN (n / 2 ^ k) := by
  rw [wb_cu k hk]
  apply wb_inj
  apply BitVec.eq_of_toNat_eq
  show ((lN n).toUInt64 >>> UInt64.ofNat k).toNat = (BitVec.ofNat 64 _).toNat
  have h1 : (UInt64.ofNat k).toNat = k := by
    show (BitVec.ofNat 64 k).toNat = k
    rw [BitVec.toNat_ofNat, Nat.mod_eq_of_lt (by omega)]
  have h2 : (lN n).toUInt64.toNat = n := wb_tn hn
  rw [UInt64.toNat_shiftRight, h1, h2, Nat.mod_eq_of_lt hk, Nat.shiftRight_eq_div_pow, BitVec.toNat_ofNat, Nat.mod_eq_of_lt (Nat.lt_of_le_of_lt (Nat.div_le_self _ _) hn)]
theorem wb_shl (n : Nat) {k : Nat} (hk : k < 64) : lN n <<< ((nI k).toInt64 &&& 63) = lN (n * 2 ^ k) := by
  rw [wb_c k hk]
  apply wb_inj
  rw [Int64.toBitVec_shiftLeft, wb_tb, wb_tb, wb_tb, wb_sm k hk]
  apply BitVec.eq_of_toNat_eq
  rw [BitVec.shiftLeft_eq', BitVec.toNat_shiftLeft, BitVec.toNat_ofNat, BitVec.toNat_ofNat, BitVec.toNat_ofNat, Nat.mod_eq_of_lt (show k < 2 ^ 64 by omega), Nat.shiftLeft_eq, Nat.mul_mod, Nat.mod_mod, ← Nat.mul_mod]
theorem wb_and {a b : Nat} (ha : a < 2 ^ 64) (hb : b < 2 ^ 64) : lN a &&& lN b = lN (a &&& b) := by
  apply wb_inj
  rw [Int64.toBitVec_and, wb_tb, wb_tb, wb_tb]
  apply BitVec.eq_of_toNat_eq
  rw [BitVec.toNat_and, BitVec.toNat_ofNat, BitVec.toNat_ofNat, BitVec.toNat_ofNat, Nat.mod_eq_of_lt ha, Nat.mod_eq_of_lt hb, Nat.mod_eq_of_lt (Nat.and_lt_two_pow _ hb)]
theorem wb_or {a b : Nat} (ha : a < 2 ^ 64) (hb : b < 2 ^ 64) : lN a ||| lN b = lN (a ||| b) := by
  apply wb_inj
  rw [Int64.toBitVec_or, wb_tb, wb_tb, wb_tb]
  apply BitVec.eq_of_toNat_eq
  rw [BitVec.toNat_or, BitVec.toNat_ofNat, BitVec.toNat_ofNat, BitVec.toNat_ofNat, Nat.mod_eq_of_lt ha, Nat.mod_eq_of_lt hb, Nat.mod_eq_of_lt (Nat.or_lt_two_pow ha hb)]
theorem wb_mask {n k : Nat} (hn : n < 2 ^ 64) (hk : k < 64) : lN n &&& lN (2 ^ k - 1) = lN (n % 2 ^ k) := by
  rw [wb_and hn (by have := wb_lt2 hk; omega), Nat.and_two_pow_sub_one_eq_mod]
theorem wb_a1 {n : Nat} (hn : n < 2 ^ 64) : lN n &&& 1 = lN (n % 2) := wb_mask (k := 1) hn (by decide)
theorem wb_bit {n k : Nat} (hn : n < 2 ^ 64) (hk : k < 64) : ((lN n).toUInt64 >>> ((nI k).toInt64.toUInt64 &&& Int64.toUInt64 63)).toInt64 &&& 1 = lN (n / 2 ^ k % 2) := by
  rw [wb_shr hn hk, wb_a1 (Nat.lt_of_le_of_lt (Nat.div_le_self _ _) hn)]
theorem wb_xor {q k : Nat} (hk : k < 63) (h : 2 ^ k ≤ q) (h2 : q < 2 ^ (k + 1)) : lN q ^^^ lN (2 ^ k) = lN (q - 2 ^ k) := by
  obtain ⟨r, rfl⟩ : ∃ r, q = 2 ^ k + r := ⟨q - 2 ^ k, by omega⟩
  have hr : r < 2 ^ k := by rw [Nat.pow_succ] at h2; omega
  have hx : (2 ^ k + r) ^^^ 2 ^ k = r := by
    apply Nat.eq_of_testBit_eq
    intro i
    rw [Nat.testBit_xor, Nat.testBit_two_pow]
    rcases Nat.lt_trichotomy i k with h | h | h
    · rw [Nat.testBit_two_pow_add_gt h]
      simp [show ¬ k = i by omega]
    · subst h
      rw [Nat.testBit_two_pow_add_eq]
      simp
    · have a1 : 2 ^ (k + 1) ≤ 2 ^ i := Nat.pow_le_pow_right (by decide) h
      rw [Nat.testBit_lt_two_pow (show 2 ^ k + r < 2 ^ i by omega), Nat.testBit_lt_two_pow (show r < 2 ^ i by omega)]
      simp [show ¬ k = i by omega]
  have b1 := wb_lt2 (show k + 1 < 64 by omega)
  have b2 := wb_lt2 (show k < 64 by omega)
  apply wb_inj
  rw [Int64.toBitVec_xor, wb_tb, wb_tb, wb_tb]
  apply BitVec.eq_of_toNat_eq
  rw [BitVec.toNat_xor, BitVec.toNat_ofNat, BitVec.toNat_ofNat, BitVec.toNat_ofNat, Nat.mod_eq_of_lt (by omega : 2 ^ k + r < 2 ^ 64), Nat.mod_eq_of_lt b2, hx, Nat.add_sub_cancel_left, Nat.mod_eq_of_lt (by omega)]
/-! ===== lN: masks, 'or' of parts that don't overlap is a sum ===== -/
theorem u_tn {n : Nat} (h : n < 2 ^ 64) : (UInt64.ofNat n).toNat = n := Nat.mod_eq_of_lt h
theorem g_and {a b c : Nat} (ha : a < 2 ^ 64) (hb : b < 2 ^ 64) (hc : a &&& b = c) : lN a &&& lN b = lN c := by
  subst hc
  have h : UInt64.ofNat a &&& UInt64.ofNat b = UInt64.ofNat (a &&& b) := UInt64.toNat_inj.mp (by rw [UInt64.toNat_and, u_tn ha, u_tn hb, u_tn (Nat.and_lt_two_pow a hb)])
  have h2 := congrArg UInt64.toInt64 h
  exact h2
theorem g_and1 {a : Nat} (ha : a < 2 ^ 64) : lN a &&& 1 = lN (a % 2) := g_and (b := 1) ha (by decide) (Nat.and_two_pow_sub_one_eq_mod a 1)
theorem g_mask {a s p : Nat} (hp : 2 ^ s = p) (hs : s < 64) (ha : a < 2 ^ 64) : lN a &&& lN (p - 1) = lN (a % p) := by
  subst hp
  have := Nat.pow_lt_pow_right (show 1 < 2 by decide) hs
  exact g_and ha (by omega) (Nat.and_two_pow_sub_one_eq_mod a s)
theorem g_or {k p a b : Nat} (hp : 2 ^ k = p) (ha : a < p) (h : b * p + a < 2 ^ 64) : lN (b * p) ||| lN a = lN (b * p + a) := by
  subst hp
  have h1 : b * 2 ^ k ||| a = b * 2 ^ k + a := by rw [← Nat.shiftLeft_eq, Nat.shiftLeft_add_eq_or_of_lt ha]
  have h3 : UInt64.ofNat (b * 2 ^ k) ||| UInt64.ofNat a = UInt64.ofNat (b * 2 ^ k + a) := UInt64.toNat_inj.mp (by rw [UInt64.toNat_or, u_tn (by omega), u_tn (by omega), u_tn h, h1])
  have h2 := congrArg UInt64.toInt64 h3
  exact h2
theorem g_or' {k p a b : Nat} (hp : 2 ^ k = p) (ha : a < p) (h : a + b * p < 2 ^ 64) : lN a ||| lN (b * p) = lN (a + b * p) := by
  rw [Int64.or_comm, g_or hp ha (by omega), Nat.add_comm]
theorem g_ushr {a k p : Nat} {y : UInt64} (hy : y = UInt64.ofNat k) (hk : k < 64) (hp : 2 ^ k = p) (ha : a < 2 ^ 64) : ((lN a).toUInt64 >>> y).toInt64 = lN (a / p) := by
  subst hy hp
  have h : UInt64.ofNat a >>> UInt64.ofNat k = UInt64.ofNat (a / 2 ^ k) := UInt64.toNat_inj.mp (by rw [UInt64.toNat_shiftRight, u_tn ha, u_tn (by omega), u_tn (Nat.lt_of_le_of_lt (Nat.div_le_self _ _) ha), Nat.mod_eq_of_lt hk, Nat.shiftRight_eq_div_pow])
  have h2 := congrArg UInt64.toInt64 h
  exact h2
theorem g_shl {a k p : Nat} {y : Int64} (hy : y.toBitVec.smod 64 = BitVec.ofNat 64 k) (hk : k < 64) (hp : 2 ^ k = p) (ha : a < 2 ^ 64) : lN a <<< y = lN (a * p) := by
  subst hp
  apply Int64.toBitVec_inj.mp
  rw [Int64.toBitVec_shiftLeft, hy]
  apply BitVec.eq_of_toNat_eq
  have hb : (lN a).toBitVec.toNat = a := Nat.mod_eq_of_lt ha
  have hk' : (BitVec.ofNat 64 k).toNat = k := Nat.mod_eq_of_lt (by omega)
  have h : ((lN a).toBitVec <<< BitVec.ofNat 64 k).toNat = (a * 2 ^ k) % 2 ^ 64 := by simp only [BitVec.shiftLeft_eq', BitVec.toNat_shiftLeft, hb, hk', Nat.shiftLeft_eq]
  exact h
/-! ===== lN to 2^62 under >> and >>> ===== -/
theorem pf_lI {a : Nat} (h : a < 2 ^ 63) : (lN a).toInt = (a : Int) := lg_ofNat_toInt h
theorem pf_shr {a d : Nat} {D : Int64} (hD : (D.toBitVec.smod 64).toNat = d) (h : a < 2 ^ 62) : lN a >>> D = lN (a / 2 ^ d) := by
  have hd : a / 2 ^ d ≤ a := Nat.div_le_self _ _
  apply Int64.toInt_inj.mp
  have e : (lN a >>> D).toInt = (lN a).toInt >>> d := by
    rw [← hD]
    exact BitVec.toInt_sshiftRight ..
  rw [e, Int.shiftRight_eq_div_pow, pf_lI (by omega), pf_lI (by omega)]
  rfl
theorem pf_ushr {a d : Nat} {D : UInt64} (hD : D.toNat % 64 = d) (h : a < 2 ^ 62) : ((lN a).toUInt64 >>> D).toInt64 = lN (a / 2 ^ d) := by
  have hd : a / 2 ^ d ≤ a := Nat.div_le_self _ _
  have e : (lN a).toUInt64 >>> D = UInt64.ofNat (a / 2 ^ d) := UInt64.toNat_inj.mp (by
    rw [UInt64.toNat_shiftRight, hD, Nat.shiftRight_eq_div_pow, UInt64.toNat_ofNat']
    show (UInt64.ofNat a).toNat / 2 ^ d = _
    rw [UInt64.toNat_ofNat', Nat.mod_eq_of_lt (by omega), Nat.mod_eq_of_lt (by omega)])
  rw [e]
  rfl
theorem pf_andw (x : Int64) : ∃ m, m < 2 ^ 32 ∧ x &&& 4294967295 = lN m := ⟨x.toBitVec.toNat % 2 ^ 32, Nat.mod_lt _ (by decide), Int64.toBitVec_inj.mp (BitVec.eq_of_toNat_eq (by
  show (x.toBitVec &&& 4294967295#64).toNat = (BitVec.ofNat 64 (x.toBitVec.toNat % 2 ^ 32)).toNat
  rw [BitVec.toNat_and, show (4294967295#64).toNat = 2 ^ 32 - 1 from by decide, Nat.and_two_pow_sub_one_eq_mod, BitVec.toNat_ofNat]
  omega))⟩
/-! ===== Int64 as an unsigned number: uN x ===== -/
def uN (x : Int64) : Nat := x.toUInt64.toNat
theorem uN_lt (x : Int64) : uN x < 18446744073709551616 := x.toUInt64.toNat_lt
theorem uN_inj {x y : Int64} (h : uN x = uN y) : x = y := congrArg UInt64.toInt64 (UInt64.toNat_inj.mp h)
theorem uN_add (x y : Int64) : uN (x + y) = (uN x + uN y) % 18446744073709551616 := by
  show (x.toUInt64 + y.toUInt64).toNat = _
  exact UInt64.toNat_add _ _
theorem uN_mul (x y : Int64) : uN (x * y) = (uN x * uN y) % 18446744073709551616 := by
  show (x.toUInt64 * y.toUInt64).toNat = _
  exact UInt64.toNat_mul _ _
theorem uN_shl (x : Int64) : uN (x <<< ((1 : Int32).toInt64 &&& 63)) = (2 * uN x) % 18446744073709551616 := by
  have h : (((1 : Int32).toInt64 &&& 63).toBitVec.smod 64).toNat = 1 := by decide
  show (x.toBitVec <<< (((1 : Int32).toInt64 &&& 63).toBitVec.smod 64).toNat).toNat = _
  rw [h, BitVec.toNat_shiftLeft, Nat.shiftLeft_eq, Nat.mul_comm]
  rfl
theorem uN_shr (x : Int64) (s : UInt64) : uN (x.toUInt64 >>> s).toInt64 = uN x / 2 ^ (s.toNat % 64) := by
  show (x.toUInt64 >>> s).toNat = _
  rw [UInt64.toNat_shiftRight, Nat.shiftRight_eq_div_pow]
  rfl
theorem uN_s32 (x : Int64) : uN (x.toUInt64 >>> ((32 : Int32).toInt64.toUInt64 &&& Int64.toUInt64 63)).toInt64 = uN x / 4294967296 := by
  have h : ((32 : Int32).toInt64.toUInt64 &&& Int64.toUInt64 63).toNat % 64 = 32 := by decide
  rw [uN_shr, h]
theorem uN_s63 (x : Int64) : uN (x.toUInt64 >>> ((63 : Int32).toInt64.toUInt64 &&& Int64.toUInt64 63)).toInt64 = uN x / 9223372036854775808 := by
  have h : ((63 : Int32).toInt64.toUInt64 &&& Int64.toUInt64 63).toNat % 64 = 63 := by decide
  rw [uN_shr, h]
theorem uN_lo (x : Int64) : uN (x &&& 4294967295) = uN x % 4294967296 := by
  show (x.toUInt64 &&& Int64.toUInt64 4294967295).toNat = _
  rw [UInt64.toNat_and]
  exact Nat.and_two_pow_sub_one_eq_mod _ 32
theorem uN_bit (x : Int64) : (x &&& 1) = 0 ↔ uN x % 2 = 0 := by
  have h : uN (x &&& 1) = uN x % 2 := by
    show (x.toUInt64 &&& Int64.toUInt64 1).toNat = _
    rw [UInt64.toNat_and]
    exact Nat.and_two_pow_sub_one_eq_mod _ 1
  rw [← h]
  exact ⟨fun z => by rw [z]; rfl, fun z => uN_inj (z.trans rfl)⟩
theorem uN_or {x y : Int64} (hy : uN y < 2) : uN ((x <<< ((1 : Int32).toInt64 &&& 63)) ||| y) = (2 * uN x) % 18446744073709551616 + uN y := by
  have h1 : uN ((x <<< ((1 : Int32).toInt64 &&& 63)) ||| y) = uN (x <<< ((1 : Int32).toInt64 &&& 63)) ||| uN y := UInt64.toNat_or _ _
  have h2 : (2 * uN x) % 18446744073709551616 = 2 ^ 1 * (uN x % 9223372036854775808) := by omega
  rw [h1, uN_shl, h2]
  exact (Nat.two_pow_add_eq_or_of_lt (i := 1) hy _).symm
theorem nat_xor {a : Nat} (h : a < 18446744073709551616) : a ^^^ 2 ^ 63 = (a + 9223372036854775808) % 18446744073709551616 := by
  have h1 : (a ^^^ 2 ^ 63) % 2 ^ 63 = a % 2 ^ 63 := by rw [Nat.xor_mod_two_pow, Nat.mod_self, Nat.xor_zero]
  have h2 : (a ^^^ 2 ^ 63) / 2 ^ 63 = (a / 2 ^ 63) ^^^ 1 := by rw [Nat.xor_div_two_pow, Nat.div_self (Nat.two_pow_pos 63)]
  have h3 : a / 2 ^ 63 = 0 ∨ a / 2 ^ 63 = 1 := by omega
  generalize a ^^^ 2 ^ 63 = t at h1 h2
  rcases h3 with h3 | h3
  · rw [h3] at h2
    have h2 : t / 2 ^ 63 = 1 := h2
    omega
  · rw [h3] at h2
    have h2 : t / 2 ^ 63 = 0 := h2
    omega
theorem uN_xor (x : Int64) : uN (x ^^^ (-9223372036854775808)) = (uN x + 9223372036854775808) % 18446744073709551616 := by
  rw [← nat_xor (uN_lt x)]
  exact UInt64.toNat_xor _ _
theorem uN_int (x : Int64) : x.toInt = if 2 * uN x < 18446744073709551616 then (uN x : Int) else (uN x : Int) - 18446744073709551616 := BitVec.toInt_eq_toNat_cond _
theorem uN_le (x y : Int64) : (x ^^^ (-9223372036854775808)) ≤ (y ^^^ (-9223372036854775808)) ↔ uN x ≤ uN y := by
  have hx := uN_lt x
  have hy := uN_lt y
  rw [Int64.le_iff_toInt_le, uN_int, uN_int, uN_xor, uN_xor]
  omega
theorem uN_sk (x : Int64) {k : Nat} (hk : k < 64) : uN (x.toUInt64 >>> ((nI k).toInt64.toUInt64 &&& Int64.toUInt64 63)).toInt64 = uN x / 2 ^ k := by
  have h : ((nI k).toInt64.toUInt64 &&& Int64.toUInt64 63).toNat % 64 = k := by
    rw [nI_l (by omega), UInt64.toNat_and]
    have e : (lN k).toUInt64.toNat = k % 2 ^ 64 := rfl
    have e2 : (Int64.toUInt64 63).toNat = 2 ^ 6 - 1 := by decide
    rw [e, e2, Nat.and_two_pow_sub_one_eq_mod]
    omega
  rw [uN_shr, h]
/-! ===== unsigned comparison by xor with the least ===== -/
theorem lN_bv (n : Nat) : (lN n).toBitVec = BitVec.ofNat 64 n := rfl
theorem lN_nat {n : Nat} (h : n < 2 ^ 64) : (lN n).toBitVec.toNat = n := by rw [lN_bv, BitVec.toNat_ofNat]; exact Nat.mod_eq_of_lt h
theorem lN_xor (a b : Nat) : lN a ^^^ lN b = lN (a ^^^ b) := by
  apply Int64.toBitVec_inj.mp; rw [Int64.toBitVec_xor, lN_bv, lN_bv, lN_bv]; apply BitVec.eq_of_getLsbD_eq; intro i hi; simp [BitVec.getLsbD_ofNat, Nat.testBit_xor, hi]
theorem lN_ti {m : Nat} (h : m < 2 ^ 64) : (lN m).toInt = if m < 2 ^ 63 then (m : Int) else (m : Int) - 2 ^ 64 := by
  have c := BitVec.toInt_eq_toNat_cond (lN m).toBitVec
  rw [lN_nat h] at c
  show (lN m).toBitVec.toInt = _
  rw [c]
  split <;> split <;> omega
theorem xor63 {x : Nat} (h : x < 2 ^ 63) : x ^^^ 2 ^ 63 = 2 ^ 63 + x := by
  apply Nat.eq_of_testBit_eq
  intro i
  rw [Nat.testBit_xor, Nat.testBit_two_pow]
  rcases Nat.lt_trichotomy i 63 with z | z | z
  · rw [Nat.testBit_two_pow_add_gt z, decide_eq_false (by omega)]; simp
  · subst z; rw [Nat.testBit_two_pow_add_eq]; simp
  · have hp : 2 ^ 64 ≤ 2 ^ i := Nat.pow_le_pow_right (by decide) z
    rw [Nat.testBit_lt_two_pow (show x < 2 ^ i by omega), Nat.testBit_lt_two_pow (show 2 ^ 63 + x < 2 ^ i by omega), decide_eq_false (by omega)]; rfl
theorem xorS {a : Nat} (h : a < 2 ^ 64) : (lN a ^^^ (-9223372036854775808)).toInt = (a : Int) - 2 ^ 63 := by
  rw [show (-9223372036854775808 : Int64) = lN (2 ^ 63) from by decide +kernel, lN_xor]
  rcases Nat.lt_or_ge a (2 ^ 63) with z | z
  · rw [xor63 z, lN_ti (by omega), if_neg (by omega)]; omega
  · obtain ⟨x, rfl⟩ : ∃ x, a = 2 ^ 63 + x := ⟨a - 2 ^ 63, by omega⟩
    rw [← xor63 (by omega), Nat.xor_assoc, Nat.xor_self, Nat.xor_zero, lN_ti (by omega), if_pos (by omega), xor63 (by omega)]; omega
theorem ultL {a b : Nat} (ha : a < 2 ^ 64) (hb : b < 2 ^ 64) : ((lN b ^^^ (-9223372036854775808)) ≤ (lN a ^^^ (-9223372036854775808))) ↔ b ≤ a := by
  rw [Int64.le_iff_toInt_le, xorS ha, xorS hb]; omega
/-! ===== Int64 masks of n low bits ===== -/
theorem cr_bits (W U M : BitVec 64) : ((W &&& U) &&& (U &&& (M ^^^ BitVec.allOnes 64))) = 0#64 ↔ (W &&& U) &&& M = W &&& U := by
  constructor
  · intro h
    apply BitVec.eq_of_getLsbD_eq
    intro i hi
    have e := congrArg (fun x => BitVec.getLsbD x i) h
    simp only [BitVec.getLsbD_and, BitVec.getLsbD_xor, BitVec.getLsbD_allOnes, BitVec.getLsbD_zero, hi, decide_true] at e ⊢
    revert e
    cases W.getLsbD i <;> cases U.getLsbD i <;> cases M.getLsbD i <;> decide
  · intro h
    apply BitVec.eq_of_getLsbD_eq
    intro i hi
    have e := congrArg (fun x => BitVec.getLsbD x i) h
    simp only [BitVec.getLsbD_and, BitVec.getLsbD_xor, BitVec.getLsbD_allOnes, BitVec.getLsbD_zero, hi, decide_true] at e ⊢
    revert e
    cases W.getLsbD i <;> cases U.getLsbD i <;> cases M.getLsbD i <;> decide
theorem cr_mask (w U m : Int64) (n : Nat) (hm : m.toBitVec.toNat = 2 ^ n - 1) : ((w &&& U) &&& (U &&& (m ^^^ (-1)))) = 0 ↔ (w &&& U).toBitVec.toNat < 2 ^ n := by
  have e0 : (-1 : Int64).toBitVec = BitVec.allOnes 64 := by decide
  have z0 : (0 : Int64).toBitVec = 0#64 := by decide
  rw [← Int64.toBitVec_inj, z0, Int64.toBitVec_and, Int64.toBitVec_and, Int64.toBitVec_and, Int64.toBitVec_xor, e0, cr_bits]
  generalize w.toBitVec &&& U.toBitVec = T
  rw [← BitVec.toNat_inj, BitVec.toNat_and, hm, Nat.and_two_pow_sub_one_eq_mod]
  constructor
  · intro h
    have t := Nat.mod_lt T.toNat (Nat.two_pow_pos n)
    rw [h] at t
    exact t
  · exact Nat.mod_eq_of_lt
theorem cr_shr (t : Int64) (x : UInt64) (n : Nat) (hx : x.toNat % 64 = n) : (t.toUInt64 >>> x).toInt64 = 0 ↔ t.toBitVec.toNat < 2 ^ n := by
  rw [← Int64.toBitVec_inj, ← BitVec.toNat_inj]
  show (t.toUInt64 >>> x).toNat = 0 ↔ t.toUInt64.toNat < 2 ^ n
  rw [UInt64.toNat_shiftRight, hx, Nat.shiftRight_eq_div_pow]
  constructor
  · intro h
    have d : t.toUInt64.toNat / 2 ^ n < 1 := by
      rw [h]
      decide
    have e := (Nat.div_lt_iff_lt_mul (Nat.two_pow_pos n)).mp d
    rw [Nat.one_mul] at e
    exact e
  · exact Nat.div_eq_of_lt
theorem cr_amt (s : Int64) : ∃ n, n < 64 ∧ s &&& 63 = lN n ∧ (s.toUInt64 &&& Int64.toUInt64 63).toNat % 64 = n := by
  have e : (s.toUInt64 &&& Int64.toUInt64 63).toNat = s.toUInt64.toNat % 2 ^ 6 := by
    rw [UInt64.toNat_and, show (Int64.toUInt64 63).toNat = 2 ^ 6 - 1 from by decide, Nat.and_two_pow_sub_one_eq_mod]
  refine ⟨s.toUInt64.toNat % 2 ^ 6, by omega, ?_, by omega⟩
  rw [← Int64.toBitVec_inj, ← BitVec.toNat_inj]
  show (s.toUInt64 &&& Int64.toUInt64 63).toNat = (BitVec.ofNat 64 (s.toUInt64.toNat % 2 ^ 6)).toNat
  rw [e, BitVec.toNat_ofNat]
  omega
end
section
/-! numbers, small terms -/
theorem ss_a0 {n : Nat} (h : n < 2 ^ 31) : (0 : Int32) ≤ nI n ↔ 0 ≤ n := nI_leI (a := 0) (by omega) h
theorem ss_b0 {n : Nat} (h : n < 2 ^ 31) : nI n ≤ (0 : Int32) ↔ n ≤ 0 := nI_leI (b := 0) h (by omega)
theorem ss_c0 {n : Nat} (h : n < 2 ^ 31) : nI n < (0 : Int32) ↔ n < 0 := nI_ltI (b := 0) h (by omega)
theorem ss_d0 {n : Nat} (h : n < 2 ^ 31) : (0 : Int32) < nI n ↔ 0 < n := nI_ltI (a := 0) (by omega) h
theorem ss_e0 {n : Nat} (h : n < 2 ^ 31) : nI n = (0 : Int32) ↔ n = 0 := nI_eq (b := 0) h (by omega)
theorem ss_a1 {n : Nat} (h : n < 2 ^ 31) : (1 : Int32) ≤ nI n ↔ 1 ≤ n := nI_leI (a := 1) (by omega) h
theorem ss_b1 {n : Nat} (h : n < 2 ^ 31) : nI n ≤ (1 : Int32) ↔ n ≤ 1 := nI_leI (b := 1) h (by omega)
theorem ss_c1 {n : Nat} (h : n < 2 ^ 31) : nI n < (1 : Int32) ↔ n < 1 := nI_ltI (b := 1) h (by omega)
theorem ss_d1 {n : Nat} (h : n < 2 ^ 31) : (1 : Int32) < nI n ↔ 1 < n := nI_ltI (a := 1) (by omega) h
theorem ss_e1 {n : Nat} (h : n < 2 ^ 31) : nI n = (1 : Int32) ↔ n = 1 := nI_eq (b := 1) h (by omega)
theorem ss_a2 {n : Nat} (h : n < 2 ^ 31) : (2 : Int32) ≤ nI n ↔ 2 ≤ n := nI_leI (a := 2) (by omega) h
theorem ss_b2 {n : Nat} (h : n < 2 ^ 31) : nI n ≤ (2 : Int32) ↔ n ≤ 2 := nI_leI (b := 2) h (by omega)
theorem ss_c2 {n : Nat} (h : n < 2 ^ 31) : nI n < (2 : Int32) ↔ n < 2 := nI_ltI (b := 2) h (by omega)
theorem ss_d2 {n : Nat} (h : n < 2 ^ 31) : (2 : Int32) < nI n ↔ 2 < n := nI_ltI (a := 2) (by omega) h
theorem ss_e2 {n : Nat} (h : n < 2 ^ 31) : nI n = (2 : Int32) ↔ n = 2 := nI_eq (b := 2) h (by omega)
theorem ss_a3 {n : Nat} (h : n < 2 ^ 31) : (3 : Int32) ≤ nI n ↔ 3 ≤ n := nI_leI (a := 3) (by omega) h
theorem ss_b3 {n : Nat} (h : n < 2 ^ 31) : nI n ≤ (3 : Int32) ↔ n ≤ 3 := nI_leI (b := 3) h (by omega)
theorem ss_c3 {n : Nat} (h : n < 2 ^ 31) : nI n < (3 : Int32) ↔ n < 3 := nI_ltI (b := 3) h (by omega)
theorem ss_d3 {n : Nat} (h : n < 2 ^ 31) : (3 : Int32) < nI n ↔ 3 < n := nI_ltI (a := 3) (by omega) h
theorem ss_e3 {n : Nat} (h : n < 2 ^ 31) : nI n = (3 : Int32) ↔ n = 3 := nI_eq (b := 3) h (by omega)
theorem ss_a4 {n : Nat} (h : n < 2 ^ 31) : (4 : Int32) ≤ nI n ↔ 4 ≤ n := nI_leI (a := 4) (by omega) h
theorem ss_b4 {n : Nat} (h : n < 2 ^ 31) : nI n ≤ (4 : Int32) ↔ n ≤ 4 := nI_leI (b := 4) h (by omega)
theorem ss_c4 {n : Nat} (h : n < 2 ^ 31) : nI n < (4 : Int32) ↔ n < 4 := nI_ltI (b := 4) h (by omega)
theorem ss_d4 {n : Nat} (h : n < 2 ^ 31) : (4 : Int32) < nI n ↔ 4 < n := nI_ltI (a := 4) (by omega) h
theorem ss_e4 {n : Nat} (h : n < 2 ^ 31) : nI n = (4 : Int32) ↔ n = 4 := nI_eq (b := 4) h (by omega)
theorem ss_a5 {n : Nat} (h : n < 2 ^ 31) : (5 : Int32) ≤ nI n ↔ 5 ≤ n := nI_leI (a := 5) (by omega) h
theorem ss_b5 {n : Nat} (h : n < 2 ^ 31) : nI n ≤ (5 : Int32) ↔ n ≤ 5 := nI_leI (b := 5) h (by omega)
theorem ss_c5 {n : Nat} (h : n < 2 ^ 31) : nI n < (5 : Int32) ↔ n < 5 := nI_ltI (b := 5) h (by omega)
theorem ss_d5 {n : Nat} (h : n < 2 ^ 31) : (5 : Int32) < nI n ↔ 5 < n := nI_ltI (a := 5) (by omega) h
theorem ss_e5 {n : Nat} (h : n < 2 ^ 31) : nI n = (5 : Int32) ↔ n = 5 := nI_eq (b := 5) h (by omega)
theorem ss_a8 {n : Nat} (h : n < 2 ^ 31) : (8 : Int32) ≤ nI n ↔ 8 ≤ n := nI_leI (a := 8) (by omega) h
theorem ss_b8 {n : Nat} (h : n < 2 ^ 31) : nI n ≤ (8 : Int32) ↔ n ≤ 8 := nI_leI (b := 8) h (by omega)
theorem ss_c8 {n : Nat} (h : n < 2 ^ 31) : nI n < (8 : Int32) ↔ n < 8 := nI_ltI (b := 8) h (by omega)
theorem ss_d8 {n : Nat} (h : n < 2 ^ 31) : (8 : Int32) < nI n ↔ 8 < n := nI_ltI (a := 8) (by omega) h
theorem ss_e8 {n : Nat} (h : n < 2 ^ 31) : nI n = (8 : Int32) ↔ n = 8 := nI_eq (b := 8) h (by omega)
theorem ss_a32 {n : Nat} (h : n < 2 ^ 31) : (32 : Int32) ≤ nI n ↔ 32 ≤ n := nI_leI (a := 32) (by omega) h
theorem ss_b32 {n : Nat} (h : n < 2 ^ 31) : nI n ≤ (32 : Int32) ↔ n ≤ 32 := nI_leI (b := 32) h (by omega)
theorem ss_c32 {n : Nat} (h : n < 2 ^ 31) : nI n < (32 : Int32) ↔ n < 32 := nI_ltI (b := 32) h (by omega)
theorem ss_d32 {n : Nat} (h : n < 2 ^ 31) : (32 : Int32) < nI n ↔ 32 < n := nI_ltI (a := 32) (by omega) h
theorem ss_e32 {n : Nat} (h : n < 2 ^ 31) : nI n = (32 : Int32) ↔ n = 32 := nI_eq (b := 32) h (by omega)
theorem ss_a40 {n : Nat} (h : n < 2 ^ 31) : (40 : Int32) ≤ nI n ↔ 40 ≤ n := nI_leI (a := 40) (by omega) h
theorem ss_b40 {n : Nat} (h : n < 2 ^ 31) : nI n ≤ (40 : Int32) ↔ n ≤ 40 := nI_leI (b := 40) h (by omega)
theorem ss_c40 {n : Nat} (h : n < 2 ^ 31) : nI n < (40 : Int32) ↔ n < 40 := nI_ltI (b := 40) h (by omega)
theorem ss_d40 {n : Nat} (h : n < 2 ^ 31) : (40 : Int32) < nI n ↔ 40 < n := nI_ltI (a := 40) (by omega) h
theorem ss_e40 {n : Nat} (h : n < 2 ^ 31) : nI n = (40 : Int32) ↔ n = 40 := nI_eq (b := 40) h (by omega)
theorem ss_a48 {n : Nat} (h : n < 2 ^ 31) : (48 : Int32) ≤ nI n ↔ 48 ≤ n := nI_leI (a := 48) (by omega) h
theorem ss_b48 {n : Nat} (h : n < 2 ^ 31) : nI n ≤ (48 : Int32) ↔ n ≤ 48 := nI_leI (b := 48) h (by omega)
theorem ss_c48 {n : Nat} (h : n < 2 ^ 31) : nI n < (48 : Int32) ↔ n < 48 := nI_ltI (b := 48) h (by omega)
theorem ss_d48 {n : Nat} (h : n < 2 ^ 31) : (48 : Int32) < nI n ↔ 48 < n := nI_ltI (a := 48) (by omega) h
theorem ss_e48 {n : Nat} (h : n < 2 ^ 31) : nI n = (48 : Int32) ↔ n = 48 := nI_eq (b := 48) h (by omega)
theorem ss_a64 {n : Nat} (h : n < 2 ^ 31) : (64 : Int32) ≤ nI n ↔ 64 ≤ n := nI_leI (a := 64) (by omega) h
theorem ss_b64 {n : Nat} (h : n < 2 ^ 31) : nI n ≤ (64 : Int32) ↔ n ≤ 64 := nI_leI (b := 64) h (by omega)
theorem ss_c64 {n : Nat} (h : n < 2 ^ 31) : nI n < (64 : Int32) ↔ n < 64 := nI_ltI (b := 64) h (by omega)
theorem ss_d64 {n : Nat} (h : n < 2 ^ 31) : (64 : Int32) < nI n ↔ 64 < n := nI_ltI (a := 64) (by omega) h
theorem ss_e64 {n : Nat} (h : n < 2 ^ 31) : nI n = (64 : Int32) ↔ n = 64 := nI_eq (b := 64) h (by omega)
theorem ss_m2 (a : Nat) : (2 : Int32) * nI a = nI (2 * a) := pk_mul 2 a
theorem ss_m3 (a : Nat) : (3 : Int32) * nI a = nI (3 * a) := pk_mul 3 a
theorem ss_m4 (a : Nat) : (4 : Int32) * nI a = nI (4 * a) := pk_mul 4 a
theorem ss_m8 (a : Nat) : (8 : Int32) * nI a = nI (8 * a) := pk_mul 8 a
theorem ss_p2 (a : Nat) : nI a + (2 : Int32) = nI (a + 2) := nI_add a 2
theorem ss_p3 (a : Nat) : nI a + (3 : Int32) = nI (a + 3) := nI_add a 3
theorem ss_p4 (a : Nat) : nI a + (4 : Int32) = nI (a + 4) := nI_add a 4
theorem ss_p8 (a : Nat) : nI a + (8 : Int32) = nI (a + 8) := nI_add a 8
theorem ss_48p (a : Nat) : (48 : Int32) + nI a = nI (48 + a) := nI_add 48 a
theorem ss_in {n N : Nat} (h : n < 2 ^ 31) : vp_in (nI n) N ↔ n < N := by
  rw [vp_in_iff, nI_toInt h]; omega
theorem ss_n1lt : ((-1 : Int32) < 0) ↔ True := by decide
theorem ss_n1le : ((0 : Int32) ≤ -1) ↔ False := by decide
theorem ss_n1e {a : Nat} (h : a < 2 ^ 31) : nI a = -1 ↔ False := by
  refine ⟨fun e => ?_, False.elim⟩
  have := nI_pos (n := a) h
  rw [e] at this
  exact this (by decide)
theorem ss_s1 {n : Nat} (h : 0 < n) : nI n - 1 = nI (n - 1) := by
  obtain ⟨m, rfl⟩ : ∃ m, n = m + 1 := ⟨n - 1, by omega⟩
  exact nI_pred m
theorem ss_sm1 {n : Nat} (h : 0 < n) : nI n + (-1) = nI (n - 1) := by
  obtain ⟨m, rfl⟩ : ∃ m, n = m + 1 := ⟨n - 1, by omega⟩
  exact pk_m1 m
theorem ss_s48 {n : Nat} (h : 48 ≤ n) : nI n - 48 = nI (n - 48) := pk_sub (b := 48) h
theorem ss_s3 {n : Nat} (h : 3 ≤ n) : nI n - 3 = nI (n - 3) := pk_sub (b := 3) h
/-- a truth value as the machine holds it -/
def ss_bi : Bool → Int32
  | true => 1
  | false => 0
theorem ss_bt : ss_bi true = 1 := rfl
theorem ss_bf : ss_bi false = 0 := rfl
theorem ss_bz (b : Bool) : ss_bi b = 0 ↔ b = false := by cases b <;> decide
theorem ss_bor0 (b : Bool) : ss_bi b ||| 0 = ss_bi b := by cases b <;> decide
theorem ss_bor1 (b : Bool) : ss_bi b ||| 1 = 1 := by cases b <;> decide
theorem ss_bn (b : Bool) : narrow .boolean (.int (ss_bi b)) = .int (ss_bi b) := by cases b <;> rfl
theorem ss_br {b : Bool} {A B : Prop} (f : b = false → A) (g : b = true → B) : (ss_bi b = 0 → A) ∧ (¬ ss_bi b = 0 → B) := by
  cases b
  · exact ⟨fun _ => f rfl, fun h => absurd rfl h⟩
  · exact ⟨fun h => absurd h (by decide), fun _ => g rfl⟩
theorem ss_nb0 : vp_nar .boolean 0 = 0 := by decide
theorem ss_nb1 : vp_nar .boolean 1 = 1 := by decide
/-- one value of an array by a general index -/
theorem ss_cases3 {P : Nat → Prop} (h0 : P 0) (h1 : P 1) (h2 : P 2) : ∀ c, c < 3 → P c := by
  intro c hc
  rcases (by omega : c = 0 ∨ c = 1 ∨ c = 2) with rfl | rfl | rfl <;> assumption

/-! versions -/
abbrev ss_T : Type := Int32 × Int32 × Int32
abbrev ss_V : Type := Int32 × Int32 × Int32 × ss_T
def ss_c (v : ss_T) (c : Nat) : Int32 := if c = 0 then v.1 else if c = 1 then v.2.1 else v.2.2
def ss_tr (f : Nat → Int32) (i : Nat) : ss_T := (f (3 * i), f (3 * i + 1), f (3 * i + 2))
theorem ss_ctr (f : Nat → Int32) (i : Nat) {c : Nat} (h : c < 3) : ss_c (ss_tr f i) c = f (3 * i + c) := by
  rcases (by omega : c = 0 ∨ c = 1 ∨ c = 2) with rfl | rfl | rfl <;> rfl
theorem ss_trC {f g : Nat → Int32} {i j : Nat} (h : ∀ c, c < 3 → f (3 * i + c) = g (3 * j + c)) : ss_tr f i = ss_tr g j := by
  have h0 := h 0 (by omega)
  have h1 := h 1 (by omega)
  have h2 := h 2 (by omega)
  simp only [Nat.add_zero] at h0
  simp only [ss_tr, h0, h1, h2]
theorem ss_tE {v w : ss_T} (h : ∀ c, c < 3 → ss_c v c = ss_c w c) : v = w := by
  have h0 := h 0 (by omega)
  have h1 := h 1 (by omega)
  have h2 := h 2 (by omega)
  obtain ⟨a, b, c⟩ := v
  obtain ⟨d, e, f⟩ := w
  simp [ss_c] at h0 h1 h2
  rw [h0, h1, h2]
def ss_ve (r f t v : Nat → Int32) (i : Nat) : ss_V := (r i, f i, t i, ss_tr v i)
def ss_h (f t time : Int32) : Bool := decide (f ≤ time) && decide (time < t)
theorem ss_hT {f t time : Int32} : ss_h f t time = true ↔ f ≤ time ∧ time < t := by simp [ss_h]
theorem ss_hF {f t time : Int32} : ss_h f t time = false ↔ ¬ (f ≤ time ∧ time < t) := by
  rw [← ss_hT]; cases ss_h f t time <;> simp
/-- live: holds now, or at the start of an open one other than one -/
def ss_lvn (op st : Nat → Int32) (but f t : Int32) (b : Bool) : Nat → Bool
  | 0 => b
  | n + 1 => ss_lvn op st but f t b n || (decide (¬ nI n = but) && decide (¬ op n = 0) && ss_h f t (st n))
def ss_lv (cl : Int32) (op st : Nat → Int32) (but : Int32) (x : ss_V) : Bool := ss_lvn op st but x.2.1 x.2.2.1 (ss_h x.2.1 x.2.2.1 cl) 4
theorem ss_lvnT {op st : Nat → Int32} {but f t : Int32} {b : Bool} : ∀ {n : Nat}, ss_lvn op st but f t b n = true ↔ b = true ∨ ∃ k, k < n ∧ ¬ nI k = but ∧ ¬ op k = 0 ∧ ss_h f t (st k) = true := by
  intro n
  induction n with
  | zero => simp [ss_lvn]
  | succ n ih =>
    rw [ss_lvn, Bool.or_eq_true, ih]
    constructor
    · rintro ((h | ⟨k, hk, h⟩) | h)
      · exact Or.inl h
      · exact Or.inr ⟨k, by omega, h⟩
      · simp only [Bool.and_eq_true, decide_eq_true_eq] at h
        exact Or.inr ⟨n, by omega, h.1.1, h.1.2, h.2⟩
    · rintro (h | ⟨k, hk, h⟩)
      · exact Or.inl (Or.inl h)
      · rcases (by omega : k < n ∨ k = n) with h' | rfl
        · exact Or.inl (Or.inr ⟨k, h', h⟩)
        · refine Or.inr ?_
          simp only [Bool.and_eq_true, decide_eq_true_eq]
          exact ⟨⟨h.1, h.2.1⟩, h.2.2⟩
theorem ss_lvT {cl : Int32} {op st : Nat → Int32} {but : Int32} {x : ss_V} : ss_lv cl op st but x = true ↔ ss_h x.2.1 x.2.2.1 cl = true ∨ ∃ k, k < 4 ∧ ¬ nI k = but ∧ ¬ op k = 0 ∧ ss_h x.2.1 x.2.2.1 (st k) = true := ss_lvnT

/-! lists laid out by a function -/
def ss_ls {α : Type} (g : Nat → α) (n : Nat) : List α := (List.range n).map g
theorem ss_lsS {α : Type} {g : Nat → α} {n : Nat} : ss_ls g (n + 1) = ss_ls g n ++ [g n] := by
  simp [ss_ls, List.range_succ]
theorem ss_lsC {α : Type} {g g' : Nat → α} {n : Nat} (h : ∀ i, i < n → g i = g' i) : ss_ls g n = ss_ls g' n := by
  refine List.map_congr_left fun i hi => h i ?_
  exact List.mem_range.mp hi
theorem ss_lsL {α : Type} {g : Nat → α} {n : Nat} : (ss_ls g n).length = n := by simp [ss_ls]
theorem ss_lsM {α : Type} {g : Nat → α} {n : Nat} {x : α} : x ∈ ss_ls g n ↔ ∃ i, i < n ∧ g i = x := by
  simp [ss_ls]
theorem ss_lsI {α : Type} {g : Nat → α} {n i : Nat} (h : i < n) : g i ∈ ss_ls g n := ss_lsM.mpr ⟨i, h, rfl⟩
theorem ss_lsG {α : Type} {g : Nat → α} {n i : Nat} (h : i < (ss_ls g n).length) : (ss_ls g n)[i] = g i := by
  simp [ss_ls]
theorem ss_lsA {α : Type} {g : Nat → α} {n m : Nat} : ss_ls g (n + m) = ss_ls g n ++ ss_ls (fun i => g (n + i)) m := by
  induction m with
  | zero => simp [ss_ls]
  | succ m ih => rw [← Nat.add_assoc, ss_lsS, ih, ss_lsS, List.append_assoc]
theorem ss_lsF {α β : Type} {g : Nat → α} {n : Nat} {f : α → β} : (ss_ls g n).map f = ss_ls (fun i => f (g i)) n := by
  simp [ss_ls]
theorem ss_lsX {α : Type} {l : List α} {g : Nat → α} {n : Nat} (hl : l.length = n) (h : ∀ i (hi : i < l.length), l[i] = g i) : l = ss_ls g n := by
  apply List.ext_getElem
  · rw [ss_lsL, hl]
  · intro i h1 h2
    rw [h i h1, ss_lsG]
/-- two of a list exchanged -/
theorem ss_lsSw {α : Type} {g g' : Nat → α} {n i j : Nat} (hi : i < n) (hj : j < n) (h1 : g' i = g j) (h2 : g' j = g i) (ho : ∀ k, k < n → k ≠ i → k ≠ j → g' k = g k) : List.Perm (ss_ls g' n) (ss_ls g n) := by
  have e : ss_ls g' n = ((ss_ls g n).set i ((ss_ls g n)[j]'(by rw [ss_lsL]; exact hj))).set j ((ss_ls g n)[i]'(by rw [ss_lsL]; exact hi)) := by
    symm
    refine ss_lsX (by simp [ss_lsL]) fun k hk => ?_
    simp only [List.length_set, ss_lsL] at hk
    rw [List.getElem_set, List.getElem_set]
    by_cases hkj : j = k
    · subst hkj; rw [if_pos rfl, ss_lsG, h2]
    · rw [if_neg hkj]
      by_cases hki : i = k
      · subst hki; rw [if_pos rfl, ss_lsG, h1]
      · rw [if_neg hki, ss_lsG, ho k hk (fun z => hki z.symm) (fun z => hkj z.symm)]
  rw [e]
  exact List.set_set_perm _ _
theorem ss_cP {α : Type} {p : α → Bool} {l : List α} {x : α} : (l ++ [x]).countP p = l.countP p + (if p x = true then 1 else 0) := by
  simp [List.countP_append, List.countP_singleton]
end
section
section
variable {f_segments f_added f_kept f_clock f_rows f_many : Int32} {a_row a_from a_to a_held a_sort a_bits a_base a_least a_greatest a_dictionary a_dRow a_dFrom a_dTo a_dValue a_wRow a_wFrom a_wTo a_wValue a_open a_start a_changed a_change a_changes a_fresh a_gone a_column a_low a_high a_found a_value : Nat → Int32} {a_words : Nat → Int64}
variable {sg na cl N : Nat} {wv : Nat → Int32}
theorem ss_sh3 {v : Nat} (h : v < 2 ^ 31) : nI v >>> ((3 : Int32) &&& 31) = nI (v / 8) := pk_shrN h _ 3 (by decide)
theorem ss_an7 {v : Nat} (h : v < 2 ^ 31) : nI v &&& 7 = nI (v % 8) := pk_andN (by omega) 3 (by decide)
theorem ss_xw {post : Int32 → Prop} {v a b : Int32} : wpX_within post v a b ↔ post (ss_bi (decide (a ≤ v) && decide (v ≤ b))) := by
  unfold wpX_within
  by_cases h1 : v < a
  · have h1' : ¬ a ≤ v := Int32.not_le.mpr h1
    simp only [h1, h1', true_implies, false_implies, not_true_eq_false, and_true, decide_false, Bool.false_and, ss_bf]
  · have h1' : a ≤ v := Int32.not_lt.mp h1
    by_cases h2 : b < v
    · have h2' : ¬ v ≤ b := Int32.not_le.mpr h2
      simp only [h1, h1', h2, h2', true_implies, false_implies, not_true_eq_false, not_false_eq_true, and_true, true_and, decide_true, decide_false, Bool.and_false, ss_bf]
    · have h2' : v ≤ b := Int32.not_lt.mp h2
      simp only [h1, h1', h2, h2', true_implies, false_implies, not_true_eq_false, not_false_eq_true, and_true, true_and, decide_true, Bool.and_self, ss_bt]
theorem ss_hgen {post : Int32 → Prop} {f t time : Int32} : ((time < f → post 0) ∧ (¬ time < f → ((t ≤ time → post 0) ∧ (¬ t ≤ time → post 1)))) ↔ post (ss_bi (ss_h f t time)) := by
  unfold ss_h
  by_cases h1 : time < f
  · have h1' : ¬ f ≤ time := Int32.not_le.mpr h1
    simp only [h1, h1', true_implies, false_implies, not_true_eq_false, and_true, decide_false, Bool.false_and, ss_bf]
  · have h1' : f ≤ time := Int32.not_lt.mp h1
    by_cases h2 : t ≤ time
    · have h2' : ¬ time < t := Int32.not_lt.mpr h2
      simp only [h1, h1', h2, h2', true_implies, false_implies, not_true_eq_false, not_false_eq_true, and_true, true_and, decide_true, decide_false, Bool.and_false, ss_bf]
    · have h2' : time < t := Int32.not_le.mp h2
      simp only [h1, h1', h2, h2', true_implies, false_implies, not_true_eq_false, not_false_eq_true, and_true, true_and, decide_true, Bool.and_self, ss_bt]
theorem ss_xh {post : Int32 → Prop} {f t time : Int32} : wpX_holdsAt post (nI sg, nI na, f_kept, nI cl, f_rows, f_many, a_row, a_from, a_to, a_held, a_sort, a_bits, a_base, a_least, a_greatest, a_words, a_dictionary, a_dRow, a_dFrom, a_dTo, a_dValue, a_wRow, a_wFrom, a_wTo, a_wValue, a_open, a_start, a_changed, a_change, a_changes, a_fresh, a_gone, a_column, a_low, a_high, a_found, a_value) f t time ↔ post (ss_bi (ss_h f t time)) := ss_hgen
/-- closed: not the number of an open transaction -/
def ss_cls (op : Nat → Int32) (t : Int32) : Prop := t < 0 ∨ 3 < t ∨ ∃ j, j < 4 ∧ t = nI j ∧ op j = 0
theorem ss_oc (op : Nat → Int32) (t : Int32) : ss_cls op t ∨ ∃ j, j < 4 ∧ t = nI j ∧ ¬ op j = 0 := by
  rcases pk_ix t (n := 4) (by omega) with h | h | ⟨j, hj, rfl⟩
  · exact Or.inl (Or.inl h)
  · refine Or.inl (Or.inr (Or.inl ?_))
    exact Int32.lt_of_lt_of_le (by decide) h
  · by_cases ho : op j = 0
    · exact Or.inl (Or.inr (Or.inr ⟨j, hj, rfl, ho⟩))
    · exact Or.inr ⟨j, hj, rfl, ho⟩
theorem ss_xo1 {post : Int32 → Prop} {j : Nat} (hj : j < 4) (ho : ¬ a_open j = 0) (h : post 1) : wpX_isOpen post (nI sg, nI na, f_kept, nI cl, f_rows, f_many, a_row, a_from, a_to, a_held, a_sort, a_bits, a_base, a_least, a_greatest, a_words, a_dictionary, a_dRow, a_dFrom, a_dTo, a_dValue, a_wRow, a_wFrom, a_wTo, a_wValue, a_open, a_start, a_changed, a_change, a_changes, a_fresh, a_gone, a_column, a_low, a_high, a_found, a_value) (nI j) := by
  have h3 : j ≤ 3 := by omega
  simp (disch := omega) only [wpX_isOpen, ss_xw, ss_a0, ss_b0, ss_c0, ss_d0, ss_e0, ss_a1, ss_b1, ss_c1, ss_d1, ss_e1, ss_a2, ss_b2, ss_c2, ss_d2, ss_e2, ss_a3, ss_b3, ss_c3, ss_d3, ss_e3, ss_a4, ss_b4, ss_c4, ss_d4, ss_e4, ss_a5, ss_b5, ss_c5, ss_d5, ss_e5, ss_a8, ss_b8, ss_c8, ss_d8, ss_e8, ss_a32, ss_b32, ss_c32, ss_d32, ss_e32, ss_a40, ss_b40, ss_c40, ss_d40, ss_e40, ss_a48, ss_b48, ss_c48, ss_d48, ss_e48, ss_a64, ss_b64, ss_c64, ss_d64, ss_e64, ss_m2, ss_m3, ss_m4, ss_m8, ss_p2, ss_p3, ss_p4, ss_p8, ss_48p, ss_in, nI_add, nI_1, nI_clamp, nI_leI, nI_ltI, nI_eq, forall_eq, true_and, and_true, Nat.zero_le, h3, decide_true, Bool.and_self, ss_bz, ho]
  exact ⟨fun z => (nomatch z), fun _ => ⟨by omega, fun z => z.elim, fun _ => h⟩⟩
theorem ss_xo0 {post : Int32 → Prop} {t : Int32} (hc : ss_cls a_open t) (h : post 0) : wpX_isOpen post (nI sg, nI na, f_kept, nI cl, f_rows, f_many, a_row, a_from, a_to, a_held, a_sort, a_bits, a_base, a_least, a_greatest, a_words, a_dictionary, a_dRow, a_dFrom, a_dTo, a_dValue, a_wRow, a_wFrom, a_wTo, a_wValue, a_open, a_start, a_changed, a_change, a_changes, a_fresh, a_gone, a_column, a_low, a_high, a_found, a_value) t := by
  rcases hc with h1 | h1 | ⟨j, hj, rfl, ho⟩
  · have h1' : ¬ 0 ≤ t := Int32.not_le.mpr h1
    simp only [wpX_isOpen, ss_xw, h1', decide_false, Bool.false_and, ss_bz]
    exact ⟨fun _ => h, fun z => absurd trivial z⟩
  · have h1' : ¬ t ≤ 3 := Int32.not_le.mpr h1
    simp only [wpX_isOpen, ss_xw, h1', decide_false, Bool.and_false, ss_bz]
    exact ⟨fun _ => h, fun z => absurd trivial z⟩
  · have h3 : j ≤ 3 := by omega
    simp (disch := omega) only [wpX_isOpen, ss_xw, ss_a0, ss_b0, ss_c0, ss_d0, ss_e0, ss_a1, ss_b1, ss_c1, ss_d1, ss_e1, ss_a2, ss_b2, ss_c2, ss_d2, ss_e2, ss_a3, ss_b3, ss_c3, ss_d3, ss_e3, ss_a4, ss_b4, ss_c4, ss_d4, ss_e4, ss_a5, ss_b5, ss_c5, ss_d5, ss_e5, ss_a8, ss_b8, ss_c8, ss_d8, ss_e8, ss_a32, ss_b32, ss_c32, ss_d32, ss_e32, ss_a40, ss_b40, ss_c40, ss_d40, ss_e40, ss_a48, ss_b48, ss_c48, ss_d48, ss_e48, ss_a64, ss_b64, ss_c64, ss_d64, ss_e64, ss_m2, ss_m3, ss_m4, ss_m8, ss_p2, ss_p3, ss_p4, ss_p8, ss_48p, ss_in, nI_add, nI_1, nI_clamp, nI_leI, nI_ltI, nI_eq, forall_eq, true_and, and_true, Nat.zero_le, h3, decide_true, Bool.and_self, ss_bz, ho]
    exact ⟨fun z => (nomatch z), fun _ => ⟨by omega, fun _ => h, fun z => absurd trivial z⟩⟩
theorem ss_xlv_l {post : Int32 → Prop} {f t but : Int32} {b0 : Bool} (h : post (ss_bi (ss_lvn a_open a_start but f t b0 4))) :
    ∀ n i, i ≤ 4 → 4 < n + i → wX_isLive_15 post f t but (nI sg) (nI na) f_kept (nI cl) f_rows f_many a_row a_from a_to a_held a_sort a_bits a_base a_least a_greatest a_words a_dictionary a_dRow a_dFrom a_dTo a_dValue a_wRow a_wFrom a_wTo a_wValue a_open a_start a_changed a_change a_changes a_fresh a_gone a_column a_low a_high a_found a_value n (ss_bi (ss_lvn a_open a_start but f t b0 i)) (nI i) := by
  intro n
  induction n with
  | zero => intro i h1 h2; omega
  | succ n ih =>
    intro i h1 h2
    have st : ∀ b, ss_lvn a_open a_start but f t b0 (i + 1) = b → i < 4 → wX_isLive_15 post f t but (nI sg) (nI na) f_kept (nI cl) f_rows f_many a_row a_from a_to a_held a_sort a_bits a_base a_least a_greatest a_words a_dictionary a_dRow a_dFrom a_dTo a_dValue a_wRow a_wFrom a_wTo a_wValue a_open a_start a_changed a_change a_changes a_fresh a_gone a_column a_low a_high a_found a_value n (ss_bi b) (nI (i + 1)) := by
      rintro b rfl h4
      exact ih (i + 1) (by omega) (by omega)
    simp (disch := omega) only [wX_isLive_15, ss_a0, ss_b0, ss_c0, ss_d0, ss_e0, ss_a1, ss_b1, ss_c1, ss_d1, ss_e1, ss_a2, ss_b2, ss_c2, ss_d2, ss_e2, ss_a3, ss_b3, ss_c3, ss_d3, ss_e3, ss_a4, ss_b4, ss_c4, ss_d4, ss_e4, ss_a5, ss_b5, ss_c5, ss_d5, ss_e5, ss_a8, ss_b8, ss_c8, ss_d8, ss_e8, ss_a32, ss_b32, ss_c32, ss_d32, ss_e32, ss_a40, ss_b40, ss_c40, ss_d40, ss_e40, ss_a48, ss_b48, ss_c48, ss_d48, ss_e48, ss_a64, ss_b64, ss_c64, ss_d64, ss_e64, ss_m2, ss_m3, ss_m4, ss_m8, ss_p2, ss_p3, ss_p4, ss_p8, ss_48p, ss_in, nI_add, nI_1, nI_clamp, nI_leI, nI_ltI, nI_eq, forall_eq, true_and, and_true, ss_xh, ss_bor0, ss_bor1]
    refine ⟨fun h4 => ?_, fun h4 => ⟨fun hb => ?_, fun hb => ⟨by omega, fun ho => ?_, fun ho => ⟨by omega, ss_br (fun hh => ?_) (fun hh => ?_)⟩⟩⟩⟩
    · have e : i = 4 := by omega
      subst e
      exact ⟨ss_bn _, h⟩
    · exact st _ (by simp [ss_lvn, hb]) (by omega)
    · exact st _ (by simp [ss_lvn, ho]) (by omega)
    · exact st _ (by simp [ss_lvn, hh]) (by omega)
    · exact st true (by simp [ss_lvn, hh, hb, ho]) (by omega)
theorem ss_xlv {post : Int32 → Prop} {f t but : Int32} (h : post (ss_bi (ss_lvn a_open a_start but f t (ss_h f t (nI cl)) 4))) : wpX_isLive post (nI sg, nI na, f_kept, nI cl, f_rows, f_many, a_row, a_from, a_to, a_held, a_sort, a_bits, a_base, a_least, a_greatest, a_words, a_dictionary, a_dRow, a_dFrom, a_dTo, a_dValue, a_wRow, a_wFrom, a_wTo, a_wValue, a_open, a_start, a_changed, a_change, a_changes, a_fresh, a_gone, a_column, a_low, a_high, a_found, a_value) f t but := by
  simp only [wpX_isLive, ss_xh]
  exact ⟨5, ss_xlv_l h 5 0 (by omega) (by omega)⟩

/-! the change of a row -/
def ss_cf (cr : Nat → Int32) (r : Int32) : Nat → Nat → Int32
  | _, 0 => -1
  | k, m + 1 => if cr k = r then nI k else ss_cf cr r (k + 1) m
theorem ss_cfS {cr : Nat → Int32} {r : Int32} : ∀ {m k : Nat}, (ss_cf cr r k m = -1 ∧ ∀ i, k ≤ i → i < k + m → ¬ cr i = r) ∨ ∃ i, k ≤ i ∧ i < k + m ∧ cr i = r ∧ ss_cf cr r k m = nI i := by
  intro m
  induction m with
  | zero => intro k; exact Or.inl ⟨rfl, fun i h1 h2 => by omega⟩
  | succ m ih =>
    intro k
    by_cases e : cr k = r
    · exact Or.inr ⟨k, by omega, by omega, e, by rw [ss_cf, if_pos e]⟩
    · rcases ih (k := k + 1) with ⟨h1, h2⟩ | ⟨i, h1, h2, h3, h4⟩
      · refine Or.inl ⟨by rw [ss_cf, if_neg e, h1], fun i hi hi2 => ?_⟩
        rcases (by omega : i = k ∨ k + 1 ≤ i) with rfl | h'
        · exact e
        · exact h2 i h' (by omega)
      · exact Or.inr ⟨i, by omega, by omega, h3, by rw [ss_cf, if_neg e, h4]⟩
/-- whether a transaction has changed a row -/
def ss_ic (cr : Nat → Int32) (r : Int32) (k m : Nat) : Bool := decide (0 ≤ ss_cf cr r k m)
theorem ss_icT {cr : Nat → Int32} {r : Int32} {k m : Nat} (h : k + m < 2 ^ 31) : ss_ic cr r k m = true ↔ ∃ i, k ≤ i ∧ i < k + m ∧ cr i = r := by
  unfold ss_ic
  rcases ss_cfS (cr := cr) (r := r) (m := m) (k := k) with ⟨h1, h2⟩ | ⟨i, h1, h2, h3, h4⟩
  · rw [h1]
    simp only [ss_n1le, decide_false]
    exact ⟨fun z => (nomatch z), fun ⟨i, a, b, c⟩ => absurd c (h2 i a b)⟩
  · rw [h4]
    simp only [nI_pos' (n := i) (by omega), decide_true, true_iff]
    exact ⟨i, h1, h2, h3⟩
theorem ss_icL {cr : Nat → Int32} {r : Int32} {k m : Nat} : 0 ≤ ss_cf cr r k m ↔ ss_ic cr r k m = true := by
  unfold ss_ic; exact decide_eq_true_iff.symm
theorem ss_icN {cr : Nat → Int32} {r : Int32} {k m : Nat} : ss_cf cr r k m < 0 ↔ ss_ic cr r k m = false := by
  unfold ss_ic; rw [decide_eq_false_iff_not, Int32.not_le]
theorem ss_xcf_l {post : Int32 → Prop} {t c : Nat} {r : Int32} (ht : t < 4) (hc : a_changes t = nI c) (hc8 : c ≤ 8) :
    ∀ m k n, k + m = 8 * t + c → m < n → post (ss_cf a_changed r k m) → wX_changeOf_5 post (nI t) r (nI sg) (nI na) f_kept (nI cl) f_rows f_many a_row a_from a_to a_held a_sort a_bits a_base a_least a_greatest a_words a_dictionary a_dRow a_dFrom a_dTo a_dValue a_wRow a_wFrom a_wTo a_wValue a_open a_start a_changed a_change a_changes a_fresh a_gone a_column a_low a_high a_found a_value n (nI k) := by
  intro m
  induction m with
  | zero =>
    intro k n hk hn h
    obtain ⟨n, rfl⟩ : ∃ n', n = n' + 1 := ⟨n - 1, by omega⟩
    simp (disch := omega) only [wX_changeOf_5, ss_a0, ss_b0, ss_c0, ss_d0, ss_e0, ss_a1, ss_b1, ss_c1, ss_d1, ss_e1, ss_a2, ss_b2, ss_c2, ss_d2, ss_e2, ss_a3, ss_b3, ss_c3, ss_d3, ss_e3, ss_a4, ss_b4, ss_c4, ss_d4, ss_e4, ss_a5, ss_b5, ss_c5, ss_d5, ss_e5, ss_a8, ss_b8, ss_c8, ss_d8, ss_e8, ss_a32, ss_b32, ss_c32, ss_d32, ss_e32, ss_a40, ss_b40, ss_c40, ss_d40, ss_e40, ss_a48, ss_b48, ss_c48, ss_d48, ss_e48, ss_a64, ss_b64, ss_c64, ss_d64, ss_e64, ss_m2, ss_m3, ss_m4, ss_m8, ss_p2, ss_p3, ss_p4, ss_p8, ss_48p, ss_in, nI_add, nI_1, nI_clamp, nI_leI, nI_ltI, nI_eq, forall_eq, true_and, and_true, hc]
    exact ⟨by omega, fun _ => h, fun z => absurd (by omega) z⟩
  | succ m ih =>
    intro k n hk hn h
    obtain ⟨n, rfl⟩ : ∃ n', n = n' + 1 := ⟨n - 1, by omega⟩
    simp (disch := omega) only [wX_changeOf_5, ss_a0, ss_b0, ss_c0, ss_d0, ss_e0, ss_a1, ss_b1, ss_c1, ss_d1, ss_e1, ss_a2, ss_b2, ss_c2, ss_d2, ss_e2, ss_a3, ss_b3, ss_c3, ss_d3, ss_e3, ss_a4, ss_b4, ss_c4, ss_d4, ss_e4, ss_a5, ss_b5, ss_c5, ss_d5, ss_e5, ss_a8, ss_b8, ss_c8, ss_d8, ss_e8, ss_a32, ss_b32, ss_c32, ss_d32, ss_e32, ss_a40, ss_b40, ss_c40, ss_d40, ss_e40, ss_a48, ss_b48, ss_c48, ss_d48, ss_e48, ss_a64, ss_b64, ss_c64, ss_d64, ss_e64, ss_m2, ss_m3, ss_m4, ss_m8, ss_p2, ss_p3, ss_p4, ss_p8, ss_48p, ss_in, nI_add, nI_1, nI_clamp, nI_leI, nI_ltI, nI_eq, forall_eq, true_and, and_true, hc]
    refine ⟨by omega, fun z => absurd z (by omega), fun _ => ⟨by omega, fun e => ?_, fun e => ?_⟩⟩
    · rw [ss_cf, if_pos e] at h; exact h
    · rw [ss_cf, if_neg e] at h; exact ih _ _ (by omega) (by omega) h
theorem ss_xcf {post : Int32 → Prop} {t c : Nat} {r : Int32} (ht : t < 4) (hc : a_changes t = nI c) (hc8 : c ≤ 8) (h : post (ss_cf a_changed r (8 * t) c)) : wpX_changeOf post (nI sg, nI na, f_kept, nI cl, f_rows, f_many, a_row, a_from, a_to, a_held, a_sort, a_bits, a_base, a_least, a_greatest, a_words, a_dictionary, a_dRow, a_dFrom, a_dTo, a_dValue, a_wRow, a_wFrom, a_wTo, a_wValue, a_open, a_start, a_changed, a_change, a_changes, a_fresh, a_gone, a_column, a_low, a_high, a_found, a_value) (nI t) r := by
  simp only [wpX_changeOf, ss_m8, forall_eq]
  exact ⟨c + 1, ss_xcf_l ht hc hc8 c (8 * t) (c + 1) rfl (by omega) h⟩

/-! the version of a row at a time -/
def ss_Seg (sg N : Nat) (held row : Nat → Int32) : Prop := N ≤ 48 ∧ 8 * sg < N + 8 ∧ N ≤ 8 * sg ∧ (∀ g, g < sg → held g = nI (min 8 (N - 8 * g))) ∧ ∀ i j, i ≤ j → j < N → row i ≤ row j
/-- a version by its number: the delta's from 48 on -/
def ss_vx (N na : Nat) (s d : Nat → ss_V) (v : Int32) (x : ss_V) : Prop := (∃ i, i < N ∧ v = nI i ∧ s i = x) ∨ ∃ i, i < na ∧ v = nI (48 + i) ∧ d i = x
/-- an answer of versionAt -/
def ss_va (N na : Nat) (s d : Nat → ss_V) (r time v : Int32) : Prop :=
  (v = -1 ∧ ∀ x, x ∈ ss_ls s N ++ ss_ls d na → x.1 = r → ss_h x.2.1 x.2.2.1 time = true → False) ∨ ∃ x, x ∈ ss_ls s N ++ ss_ls d na ∧ ss_vx N na s d v x ∧ x.1 = r ∧ ss_h x.2.1 x.2.2.1 time = true
theorem ss_xva_v {post : Int32 → Prop} {J : Int32 → Prop} {r time : Int32} {g : Nat} (S : ss_Seg sg N a_held a_row) (hg : g < sg)
    (hp : ∀ i, i < N → a_row i = r → ss_h (a_from i) (a_to i) time = true → post (nI i))
    (hJ : (∀ i, 8 * g ≤ i → i < 8 * g + 8 → i < N → a_row i = r → ss_h (a_from i) (a_to i) time = true → False) → J (nI (g + 1))) :
    ∀ n v, 8 * g ≤ v → v ≤ 8 * g + min 8 (N - 8 * g) → 8 * g + 8 < n + v → (∀ i, 8 * g ≤ i → i < v → a_row i = r → ss_h (a_from i) (a_to i) time = true → False) → wX_versionAt_105 post J r time (nI g) (nI sg) (nI na) f_kept (nI cl) f_rows f_many a_row a_from a_to a_held a_sort a_bits a_base a_least a_greatest a_words a_dictionary a_dRow a_dFrom a_dTo a_dValue a_wRow a_wFrom a_wTo a_wValue a_open a_start a_changed a_change a_changes a_fresh a_gone a_column a_low a_high a_found a_value n (nI v) := by
  obtain ⟨hN, s1, s2, hh, hs⟩ := S
  intro n
  induction n with
  | zero => intro v h1 h2 h3; omega
  | succ n ih =>
    intro v h1 h2 h3 hno
    have e := hh g hg
    simp (disch := omega) only [wX_versionAt_105, ss_a0, ss_b0, ss_c0, ss_d0, ss_e0, ss_a1, ss_b1, ss_c1, ss_d1, ss_e1, ss_a2, ss_b2, ss_c2, ss_d2, ss_e2, ss_a3, ss_b3, ss_c3, ss_d3, ss_e3, ss_a4, ss_b4, ss_c4, ss_d4, ss_e4, ss_a5, ss_b5, ss_c5, ss_d5, ss_e5, ss_a8, ss_b8, ss_c8, ss_d8, ss_e8, ss_a32, ss_b32, ss_c32, ss_d32, ss_e32, ss_a40, ss_b40, ss_c40, ss_d40, ss_e40, ss_a48, ss_b48, ss_c48, ss_d48, ss_e48, ss_a64, ss_b64, ss_c64, ss_d64, ss_e64, ss_m2, ss_m3, ss_m4, ss_m8, ss_p2, ss_p3, ss_p4, ss_p8, ss_48p, ss_in, nI_add, nI_1, nI_clamp, nI_leI, nI_ltI, nI_eq, forall_eq, true_and, and_true, e, ss_xh]
    refine ⟨by omega, fun h4 => ?_, fun h4 => ⟨by omega, fun er => ⟨by omega, by omega, ss_br (fun hb => ?_) (fun hb => ?_)⟩, fun er => ?_⟩⟩
    · exact hJ fun i a b c => hno i a (by omega)
    · refine ih (v + 1) (by omega) (by omega) (by omega) fun i a b => ?_
      rcases (by omega : i < v ∨ i = v) with h' | rfl
      · exact hno i a h'
      · intro _ z; rw [hb] at z; exact nomatch z
    · exact hp v (by omega) er hb
    · refine ih (v + 1) (by omega) (by omega) (by omega) fun i a b => ?_
      rcases (by omega : i < v ∨ i = v) with h' | rfl
      · exact hno i a h'
      · intro z; exact absurd z er
theorem ss_xva_g {post : Int32 → Prop} {r time : Int32} (S : ss_Seg sg N a_held a_row)
    (hp : ∀ i, i < N → a_row i = r → ss_h (a_from i) (a_to i) time = true → post (nI i))
    (hq : (∀ i, i < N → a_row i = r → ss_h (a_from i) (a_to i) time = true → False) → post (-1)) :
    ∀ n g, g ≤ sg → sg < n + g → (∀ i, i < 8 * g → i < N → a_row i = r → ss_h (a_from i) (a_to i) time = true → False) → wX_versionAt_53 post r time (nI sg) (nI na) f_kept (nI cl) f_rows f_many a_row a_from a_to a_held a_sort a_bits a_base a_least a_greatest a_words a_dictionary a_dRow a_dFrom a_dTo a_dValue a_wRow a_wFrom a_wTo a_wValue a_open a_start a_changed a_change a_changes a_fresh a_gone a_column a_low a_high a_found a_value n (nI g) := by
  have S' := S
  obtain ⟨hN, s1, s2, hh, hs⟩ := S'
  intro n
  induction n with
  | zero => intro g h1 h2; omega
  | succ n ih =>
    intro g h1 h2 hno
    by_cases hg : sg ≤ g
    · simp (disch := omega) only [wX_versionAt_53, ss_a0, ss_b0, ss_c0, ss_d0, ss_e0, ss_a1, ss_b1, ss_c1, ss_d1, ss_e1, ss_a2, ss_b2, ss_c2, ss_d2, ss_e2, ss_a3, ss_b3, ss_c3, ss_d3, ss_e3, ss_a4, ss_b4, ss_c4, ss_d4, ss_e4, ss_a5, ss_b5, ss_c5, ss_d5, ss_e5, ss_a8, ss_b8, ss_c8, ss_d8, ss_e8, ss_a32, ss_b32, ss_c32, ss_d32, ss_e32, ss_a40, ss_b40, ss_c40, ss_d40, ss_e40, ss_a48, ss_b48, ss_c48, ss_d48, ss_e48, ss_a64, ss_b64, ss_c64, ss_d64, ss_e64, ss_m2, ss_m3, ss_m4, ss_m8, ss_p2, ss_p3, ss_p4, ss_p8, ss_48p, ss_in, nI_add, nI_1, nI_clamp, nI_leI, nI_ltI, nI_eq, forall_eq, true_and, and_true]
      exact ⟨fun _ => hq fun i a => hno i (by omega) a, fun z => absurd hg z⟩
    · have e := hh g (by omega)
      have e1 : nI (8 * g + min 8 (N - 8 * g)) - 1 = nI (8 * g + min 8 (N - 8 * g) - 1) := ss_s1 (by omega)
      simp (disch := omega) only [wX_versionAt_53, ss_a0, ss_b0, ss_c0, ss_d0, ss_e0, ss_a1, ss_b1, ss_c1, ss_d1, ss_e1, ss_a2, ss_b2, ss_c2, ss_d2, ss_e2, ss_a3, ss_b3, ss_c3, ss_d3, ss_e3, ss_a4, ss_b4, ss_c4, ss_d4, ss_e4, ss_a5, ss_b5, ss_c5, ss_d5, ss_e5, ss_a8, ss_b8, ss_c8, ss_d8, ss_e8, ss_a32, ss_b32, ss_c32, ss_d32, ss_e32, ss_a40, ss_b40, ss_c40, ss_d40, ss_e40, ss_a48, ss_b48, ss_c48, ss_d48, ss_e48, ss_a64, ss_b64, ss_c64, ss_d64, ss_e64, ss_m2, ss_m3, ss_m4, ss_m8, ss_p2, ss_p3, ss_p4, ss_p8, ss_48p, ss_in, nI_add, nI_1, nI_clamp, nI_leI, nI_ltI, nI_eq, forall_eq, true_and, and_true, e, e1]
      refine ⟨fun z => absurd z hg, fun _ => ⟨by omega, fun hl => ?_, fun hl => ⟨by omega, by omega, fun hu => ?_, fun hu => ?_⟩⟩⟩
      · refine ih (g + 1) (by omega) (by omega) fun i a b c d => ?_
        rcases (by omega : i < 8 * g ∨ 8 * g ≤ i) with h' | h'
        · exact hno i h' b c d
        · have := hs (8 * g) i h' b
          rw [c] at this
          exact absurd this (Int32.not_le.mpr hl)
      · refine ⟨17, ss_xva_v S (by omega) hp (fun z => ?_) 17 (8 * g) (by omega) (by omega) (by omega) (fun i a b => by omega)⟩
        refine ih (g + 1) (by omega) (by omega) fun i a b c d => ?_
        rcases (by omega : i < 8 * g ∨ 8 * g ≤ i) with h' | h'
        · exact hno i h' b c d
        · exact z i h' (by omega) b c d
      · refine ih (g + 1) (by omega) (by omega) fun i a b c d => ?_
        rcases (by omega : i < 8 * g ∨ 8 * g ≤ i) with h' | h'
        · exact hno i h' b c d
        · have := hs i (8 * g + min 8 (N - 8 * g) - 1) (by omega) (by omega)
          rw [c] at this
          exact absurd this hu
theorem ss_xva_d {post : Int32 → Prop} {r time : Int32} (S : ss_Seg sg N a_held a_row) (hna : na ≤ 32)
    (hd : ∀ i, i < na → a_dRow i = r → ss_h (a_dFrom i) (a_dTo i) time = true → post (nI (48 + i)))
    (hp : ∀ i, i < N → a_row i = r → ss_h (a_from i) (a_to i) time = true → post (nI i))
    (hq : (∀ i, i < na → a_dRow i = r → ss_h (a_dFrom i) (a_dTo i) time = true → False) → (∀ i, i < N → a_row i = r → ss_h (a_from i) (a_to i) time = true → False) → post (-1)) :
    ∀ n d, d ≤ na → na < n + d → (∀ i, i < d → a_dRow i = r → ss_h (a_dFrom i) (a_dTo i) time = true → False) → wX_versionAt_2 post r time (nI sg) (nI na) f_kept (nI cl) f_rows f_many a_row a_from a_to a_held a_sort a_bits a_base a_least a_greatest a_words a_dictionary a_dRow a_dFrom a_dTo a_dValue a_wRow a_wFrom a_wTo a_wValue a_open a_start a_changed a_change a_changes a_fresh a_gone a_column a_low a_high a_found a_value n (nI d) := by
  intro n
  induction n with
  | zero => intro g h1 h2; omega
  | succ n ih =>
    intro d h1 h2 hno
    simp (disch := omega) only [wX_versionAt_2, ss_a0, ss_b0, ss_c0, ss_d0, ss_e0, ss_a1, ss_b1, ss_c1, ss_d1, ss_e1, ss_a2, ss_b2, ss_c2, ss_d2, ss_e2, ss_a3, ss_b3, ss_c3, ss_d3, ss_e3, ss_a4, ss_b4, ss_c4, ss_d4, ss_e4, ss_a5, ss_b5, ss_c5, ss_d5, ss_e5, ss_a8, ss_b8, ss_c8, ss_d8, ss_e8, ss_a32, ss_b32, ss_c32, ss_d32, ss_e32, ss_a40, ss_b40, ss_c40, ss_d40, ss_e40, ss_a48, ss_b48, ss_c48, ss_d48, ss_e48, ss_a64, ss_b64, ss_c64, ss_d64, ss_e64, ss_m2, ss_m3, ss_m4, ss_m8, ss_p2, ss_p3, ss_p4, ss_p8, ss_48p, ss_in, nI_add, nI_1, nI_clamp, nI_leI, nI_ltI, nI_eq, forall_eq, true_and, and_true, ss_xh]
    refine ⟨fun h4 => ?_, fun h4 => ⟨by omega, fun er => ⟨by omega, by omega, ss_br (fun hb => ?_) (fun hb => ?_)⟩, fun er => ?_⟩⟩
    · refine ⟨sg + 1, ?_⟩
      exact ss_xva_g (time := time) S hp (fun z => hq (fun i a => hno i (by omega)) z) (sg + 1) 0 (by omega) (by omega) (fun i a => by omega)
    · refine ih (d + 1) (by omega) (by omega) fun i b => ?_
      rcases (by omega : i < d ∨ i = d) with h' | rfl
      · exact hno i h'
      · intro _ z; rw [hb] at z; exact nomatch z
    · exact hd d (by omega) er hb
    · refine ih (d + 1) (by omega) (by omega) fun i b => ?_
      rcases (by omega : i < d ∨ i = d) with h' | rfl
      · exact hno i h'
      · intro z; exact absurd z er
theorem ss_xva {post : Int32 → Prop} {r time : Int32} (S : ss_Seg sg N a_held a_row) (hna : na ≤ 32)
    (h : ∀ v, ss_va N na (ss_ve a_row a_from a_to wv) (ss_ve a_dRow a_dFrom a_dTo a_dValue) r time v → post v) : wpX_versionAt post (nI sg, nI na, f_kept, nI cl, f_rows, f_many, a_row, a_from, a_to, a_held, a_sort, a_bits, a_base, a_least, a_greatest, a_words, a_dictionary, a_dRow, a_dFrom, a_dTo, a_dValue, a_wRow, a_wFrom, a_wTo, a_wValue, a_open, a_start, a_changed, a_change, a_changes, a_fresh, a_gone, a_column, a_low, a_high, a_found, a_value) r time := by
  refine ⟨na + 1, ss_xva_d S hna (fun i hi a b => h _ (Or.inr ⟨_, List.mem_append_right _ (ss_lsI hi), Or.inr ⟨i, hi, rfl, rfl⟩, a, b⟩)) (fun i hi a b => h _ (Or.inr ⟨_, List.mem_append_left _ (ss_lsI hi), Or.inl ⟨i, hi, rfl, rfl⟩, a, b⟩)) (fun h1 h2 => h _ (Or.inl ⟨rfl, fun x hx a b => ?_⟩)) (na + 1) 0 (by omega) (by omega) (fun i a => by omega)⟩
  rcases List.mem_append.mp hx with hx | hx
  · obtain ⟨i, hi, rfl⟩ := ss_lsM.mp hx
    exact h2 i hi a b
  · obtain ⟨i, hi, rfl⟩ := ss_lsM.mp hx
    exact h1 i hi a b
end
end
section
section
variable {f_segments f_added f_kept f_clock f_rows f_many : Int32} {a_row a_from a_to a_held a_sort a_bits a_base a_least a_greatest a_dictionary a_dRow a_dFrom a_dTo a_dValue a_wRow a_wFrom a_wTo a_wValue a_open a_start a_changed a_change a_changes a_fresh a_gone a_column a_low a_high a_found a_value : Nat → Int32} {a_words : Nat → Int64}
variable {sg na cl N : Nat} {wv : Nat → Int32}
/-- within the segments: by the number's parts -/
theorem ss_hel (S : ss_Seg sg N a_held a_row) {v : Nat} (h : v < 8 * sg) : v / 8 < 6 ∧ (a_held (v / 8) ≤ nI (v % 8) ↔ N ≤ v) := by
  obtain ⟨hN, s1, s2, hh, hs⟩ := S
  have e := hh (v / 8) (by omega)
  refine ⟨by omega, ?_⟩
  rw [e, nI_leI (by omega) (by omega)]
  omega
/-- a version of a row begins or ends behind a time -/
def ss_dq (r time : Int32) (x : ss_V) : Prop := x.1 = r ∧ (time < x.2.1 ∨ (¬ x.2.2.1 = 2147483647 ∧ time < x.2.2.1))
theorem ss_xdi_s {post : Int32 → Prop} {r time : Int32} (S : ss_Seg sg N a_held a_row)
    (h1 : ∀ i, i < N → ss_dq r time (ss_ve a_row a_from a_to wv i) → post 1)
    (h0 : (∀ i, i < N → ¬ ss_dq r time (ss_ve a_row a_from a_to wv i)) → post 0) :
    ∀ n v, v ≤ 8 * sg → 8 * sg < n + v → (∀ i, i < v → i < N → ¬ ss_dq r time (ss_ve a_row a_from a_to wv i)) → wX_disturbed_61 post r time (nI sg) (nI na) f_kept (nI cl) f_rows f_many a_row a_from a_to a_held a_sort a_bits a_base a_least a_greatest a_words a_dictionary a_dRow a_dFrom a_dTo a_dValue a_wRow a_wFrom a_wTo a_wValue a_open a_start a_changed a_change a_changes a_fresh a_gone a_column a_low a_high a_found a_value n (nI v) := by
  have S' := S
  obtain ⟨hN, s1, s2, hh, hs⟩ := S'
  intro n
  induction n with
  | zero => intro v a b; omega
  | succ n ih =>
    intro v hv hn hno
    by_cases hl : 8 * sg ≤ v
    · simp (disch := omega) only [wX_disturbed_61, ss_a0, ss_b0, ss_c0, ss_d0, ss_e0, ss_a1, ss_b1, ss_c1, ss_d1, ss_e1, ss_a2, ss_b2, ss_c2, ss_d2, ss_e2, ss_a3, ss_b3, ss_c3, ss_d3, ss_e3, ss_a4, ss_b4, ss_c4, ss_d4, ss_e4, ss_a5, ss_b5, ss_c5, ss_d5, ss_e5, ss_a8, ss_b8, ss_c8, ss_d8, ss_e8, ss_a32, ss_b32, ss_c32, ss_d32, ss_e32, ss_a40, ss_b40, ss_c40, ss_d40, ss_e40, ss_a48, ss_b48, ss_c48, ss_d48, ss_e48, ss_a64, ss_b64, ss_c64, ss_d64, ss_e64, ss_m2, ss_m3, ss_m4, ss_m8, ss_p2, ss_p3, ss_p4, ss_p8, ss_48p, ss_in, nI_add, nI_1, nI_clamp, nI_leI, nI_ltI, nI_eq, forall_eq, true_and, and_true]
      exact ⟨fun _ => h0 fun i hi => hno i (by omega) hi, fun z => absurd hl z⟩
    · obtain ⟨e1, e2⟩ := ss_hel S (v := v) (by omega)
      have nx : (v < N → ¬ ss_dq r time (ss_ve a_row a_from a_to wv v)) → wX_disturbed_61 post r time (nI sg) (nI na) f_kept (nI cl) f_rows f_many a_row a_from a_to a_held a_sort a_bits a_base a_least a_greatest a_words a_dictionary a_dRow a_dFrom a_dTo a_dValue a_wRow a_wFrom a_wTo a_wValue a_open a_start a_changed a_change a_changes a_fresh a_gone a_column a_low a_high a_found a_value n (nI (v + 1)) := by
        intro hh
        refine ih (v + 1) (by omega) (by omega) fun i a b => ?_
        rcases (by omega : i < v ∨ i = v) with h' | rfl
        · exact hno i h' b
        · exact hh b
      simp (disch := omega) only [wX_disturbed_61, wX_disturbed_101, wX_disturbed_102, ss_a0, ss_b0, ss_c0, ss_d0, ss_e0, ss_a1, ss_b1, ss_c1, ss_d1, ss_e1, ss_a2, ss_b2, ss_c2, ss_d2, ss_e2, ss_a3, ss_b3, ss_c3, ss_d3, ss_e3, ss_a4, ss_b4, ss_c4, ss_d4, ss_e4, ss_a5, ss_b5, ss_c5, ss_d5, ss_e5, ss_a8, ss_b8, ss_c8, ss_d8, ss_e8, ss_a32, ss_b32, ss_c32, ss_d32, ss_e32, ss_a40, ss_b40, ss_c40, ss_d40, ss_e40, ss_a48, ss_b48, ss_c48, ss_d48, ss_e48, ss_a64, ss_b64, ss_c64, ss_d64, ss_e64, ss_m2, ss_m3, ss_m4, ss_m8, ss_p2, ss_p3, ss_p4, ss_p8, ss_48p, ss_in, nI_add, nI_1, nI_clamp, nI_leI, nI_ltI, nI_eq, forall_eq, true_and, and_true, ss_sh3, ss_an7, e2]
      refine ⟨fun z => absurd z hl, fun _ => ⟨e1, fun hN' => ⟨fun _ => nx fun z => absurd z (by omega), fun z => absurd trivial z⟩, fun hN' => ⟨by omega, fun er => ⟨fun z => absurd z (by decide), fun _ => ⟨by omega, fun hf => ?_, fun hf => ⟨by omega, fun ht => ?_, fun ht => ⟨by omega, fun hl => ?_, fun hl => ?_⟩⟩⟩⟩, fun er => ⟨fun _ => ?_, fun z => absurd trivial z⟩⟩⟩⟩
      · exact h1 v (by omega) ⟨er, Or.inl hf⟩
      · refine nx fun _ => ?_
        rintro ⟨_, h | ⟨h, _⟩⟩
        · exact hf h
        · exact h ht
      · refine nx fun _ => ?_
        rintro ⟨_, h | ⟨_, h⟩⟩
        · exact hf h
        · exact absurd hl (Int32.not_le.mpr h)
      · exact h1 v (by omega) ⟨er, Or.inr ⟨ht, Int32.not_le.mp hl⟩⟩
      · exact nx fun _ h => er h.1
theorem ss_xdi_d {post : Int32 → Prop} {r time : Int32} (S : ss_Seg sg N a_held a_row) (hna : na ≤ 32)
    (h1 : ∀ i, i < N → ss_dq r time (ss_ve a_row a_from a_to wv i) → post 1)
    (h2 : ∀ i, i < na → ss_dq r time (ss_ve a_dRow a_dFrom a_dTo a_dValue i) → post 1)
    (h0 : (∀ i, i < na → ¬ ss_dq r time (ss_ve a_dRow a_dFrom a_dTo a_dValue i)) → (∀ i, i < N → ¬ ss_dq r time (ss_ve a_row a_from a_to wv i)) → post 0) :
    ∀ n v, v ≤ na → na < n + v → (∀ i, i < v → ¬ ss_dq r time (ss_ve a_dRow a_dFrom a_dTo a_dValue i)) → wX_disturbed_2 post r time (nI sg) (nI na) f_kept (nI cl) f_rows f_many a_row a_from a_to a_held a_sort a_bits a_base a_least a_greatest a_words a_dictionary a_dRow a_dFrom a_dTo a_dValue a_wRow a_wFrom a_wTo a_wValue a_open a_start a_changed a_change a_changes a_fresh a_gone a_column a_low a_high a_found a_value n (nI v) := by
  intro n
  induction n with
  | zero => intro v a b; omega
  | succ n ih =>
    intro v hv hn hno
    have nx : (v < na → ¬ ss_dq r time (ss_ve a_dRow a_dFrom a_dTo a_dValue v)) → ¬ na ≤ v → wX_disturbed_2 post r time (nI sg) (nI na) f_kept (nI cl) f_rows f_many a_row a_from a_to a_held a_sort a_bits a_base a_least a_greatest a_words a_dictionary a_dRow a_dFrom a_dTo a_dValue a_wRow a_wFrom a_wTo a_wValue a_open a_start a_changed a_change a_changes a_fresh a_gone a_column a_low a_high a_found a_value n (nI (v + 1)) := by
      intro hh h4
      refine ih (v + 1) (by omega) (by omega) fun i a => ?_
      rcases (by omega : i < v ∨ i = v) with h' | rfl
      · exact hno i h'
      · exact hh (by omega)
    simp (disch := omega) only [wX_disturbed_2, ss_a0, ss_b0, ss_c0, ss_d0, ss_e0, ss_a1, ss_b1, ss_c1, ss_d1, ss_e1, ss_a2, ss_b2, ss_c2, ss_d2, ss_e2, ss_a3, ss_b3, ss_c3, ss_d3, ss_e3, ss_a4, ss_b4, ss_c4, ss_d4, ss_e4, ss_a5, ss_b5, ss_c5, ss_d5, ss_e5, ss_a8, ss_b8, ss_c8, ss_d8, ss_e8, ss_a32, ss_b32, ss_c32, ss_d32, ss_e32, ss_a40, ss_b40, ss_c40, ss_d40, ss_e40, ss_a48, ss_b48, ss_c48, ss_d48, ss_e48, ss_a64, ss_b64, ss_c64, ss_d64, ss_e64, ss_m2, ss_m3, ss_m4, ss_m8, ss_p2, ss_p3, ss_p4, ss_p8, ss_48p, ss_in, nI_add, nI_1, nI_clamp, nI_leI, nI_ltI, nI_eq, forall_eq, true_and, and_true]
    refine ⟨fun h4 => ⟨8 * sg + 1, ?_⟩, fun h4 => ⟨by omega, fun er => ⟨by omega, fun hf => ?_, fun hf => ⟨by omega, fun ht => ?_, fun ht => ⟨by omega, fun hl => ?_, fun hl => ?_⟩⟩⟩, fun er => ?_⟩⟩
    · exact ss_xdi_s S h1 (fun z => h0 (fun i hi => hno i (by omega)) z) (8 * sg + 1) 0 (by omega) (by omega) (fun i a => by omega)
    · exact h2 v (by omega) ⟨er, Or.inl hf⟩
    · refine nx (fun _ => ?_) h4
      rintro ⟨_, h | ⟨h, _⟩⟩
      · exact hf h
      · exact h ht
    · refine nx (fun _ => ?_) h4
      rintro ⟨_, h | ⟨_, h⟩⟩
      · exact hf h
      · exact absurd hl (Int32.not_le.mpr h)
    · exact h2 v (by omega) ⟨er, Or.inr ⟨ht, Int32.not_le.mp hl⟩⟩
    · exact nx (fun _ h => er h.1) h4
theorem ss_xdi {post : Int32 → Prop} {r time : Int32} (S : ss_Seg sg N a_held a_row) (hna : na ≤ 32)
    (h1 : (∃ x, x ∈ ss_ls (ss_ve a_row a_from a_to wv) N ++ ss_ls (ss_ve a_dRow a_dFrom a_dTo a_dValue) na ∧ ss_dq r time x) → post 1)
    (h0 : (∀ x, x ∈ ss_ls (ss_ve a_row a_from a_to wv) N ++ ss_ls (ss_ve a_dRow a_dFrom a_dTo a_dValue) na → ¬ ss_dq r time x) → post 0) : wpX_disturbed post (nI sg, nI na, f_kept, nI cl, f_rows, f_many, a_row, a_from, a_to, a_held, a_sort, a_bits, a_base, a_least, a_greatest, a_words, a_dictionary, a_dRow, a_dFrom, a_dTo, a_dValue, a_wRow, a_wFrom, a_wTo, a_wValue, a_open, a_start, a_changed, a_change, a_changes, a_fresh, a_gone, a_column, a_low, a_high, a_found, a_value) r time := by
  refine ⟨na + 1, ss_xdi_d (wv := wv) S hna (fun i hi a => h1 ⟨_, List.mem_append_left _ (ss_lsI hi), a⟩) (fun i hi a => h1 ⟨_, List.mem_append_right _ (ss_lsI hi), a⟩) (fun a b => h0 fun x hx => ?_) (na + 1) 0 (by omega) (by omega) (fun i a => by omega)⟩
  rcases List.mem_append.mp hx with hx | hx
  · obtain ⟨i, hi, rfl⟩ := ss_lsM.mp hx
    exact b i hi
  · obtain ⟨i, hi, rfl⟩ := ss_lsM.mp hx
    exact a i hi
/-! counting what is live -/
theorem ss_xln_d {post : Int32 → Prop} {but : Int32} {c0 : Nat} (hc0 : c0 ≤ 100) (hna : na ≤ 32)
    (h : post (nI (c0 + (ss_ls (ss_ve a_dRow a_dFrom a_dTo a_dValue) na).countP (ss_lv (nI cl) a_open a_start but)))) :
    ∀ n v, v ≤ na → na < n + v → wX_live_61 post but (nI sg) (nI na) f_kept (nI cl) f_rows f_many a_row a_from a_to a_held a_sort a_bits a_base a_least a_greatest a_words a_dictionary a_dRow a_dFrom a_dTo a_dValue a_wRow a_wFrom a_wTo a_wValue a_open a_start a_changed a_change a_changes a_fresh a_gone a_column a_low a_high a_found a_value n (nI (c0 + (ss_ls (ss_ve a_dRow a_dFrom a_dTo a_dValue) v).countP (ss_lv (nI cl) a_open a_start but))) (nI v) := by
  intro n
  induction n with
  | zero => intro v a b; omega
  | succ n ih =>
    intro v hv hn
    have b1 : (ss_ls (ss_ve a_dRow a_dFrom a_dTo a_dValue) v).countP (ss_lv (nI cl) a_open a_start but) ≤ v := by
      have := List.countP_le_length (p := ss_lv (nI cl) a_open a_start but) (l := ss_ls (ss_ve a_dRow a_dFrom a_dTo a_dValue) v)
      rw [ss_lsL] at this; exact this
    have st := ih (v + 1)
    rw [ss_lsS, ss_cP] at st
    simp (disch := omega) only [wX_live_61, ss_a0, ss_b0, ss_c0, ss_d0, ss_e0, ss_a1, ss_b1, ss_c1, ss_d1, ss_e1, ss_a2, ss_b2, ss_c2, ss_d2, ss_e2, ss_a3, ss_b3, ss_c3, ss_d3, ss_e3, ss_a4, ss_b4, ss_c4, ss_d4, ss_e4, ss_a5, ss_b5, ss_c5, ss_d5, ss_e5, ss_a8, ss_b8, ss_c8, ss_d8, ss_e8, ss_a32, ss_b32, ss_c32, ss_d32, ss_e32, ss_a40, ss_b40, ss_c40, ss_d40, ss_e40, ss_a48, ss_b48, ss_c48, ss_d48, ss_e48, ss_a64, ss_b64, ss_c64, ss_d64, ss_e64, ss_m2, ss_m3, ss_m4, ss_m8, ss_p2, ss_p3, ss_p4, ss_p8, ss_48p, ss_in, nI_add, nI_1, nI_clamp, nI_leI, nI_ltI, nI_eq, forall_eq, true_and, and_true]
    refine ⟨fun h4 => ?_, fun h4 => ⟨by omega, by omega, ss_xlv (ss_br (fun hb => ?_) (fun hb => ?_))⟩⟩
    · have e : v = na := by omega
      subst e; exact h
    · have := st (by omega) (by omega)
      rw [show ss_lv (nI cl) a_open a_start but (ss_ve a_dRow a_dFrom a_dTo a_dValue v) = false from hb] at this
      exact this
    · have := st (by omega) (by omega)
      rw [show ss_lv (nI cl) a_open a_start but (ss_ve a_dRow a_dFrom a_dTo a_dValue v) = true from hb] at this
      exact this
theorem ss_xln_s {post : Int32 → Prop} {but : Int32} (S : ss_Seg sg N a_held a_row) (hna : na ≤ 32)
    (h : post (nI ((ss_ls (ss_ve a_row a_from a_to wv) N).countP (ss_lv (nI cl) a_open a_start but) + (ss_ls (ss_ve a_dRow a_dFrom a_dTo a_dValue) na).countP (ss_lv (nI cl) a_open a_start but)))) :
    ∀ n v, v ≤ 8 * sg → 8 * sg < n + v → wX_live_4 post but (nI sg) (nI na) f_kept (nI cl) f_rows f_many a_row a_from a_to a_held a_sort a_bits a_base a_least a_greatest a_words a_dictionary a_dRow a_dFrom a_dTo a_dValue a_wRow a_wFrom a_wTo a_wValue a_open a_start a_changed a_change a_changes a_fresh a_gone a_column a_low a_high a_found a_value n (nI ((ss_ls (ss_ve a_row a_from a_to wv) (min v N)).countP (ss_lv (nI cl) a_open a_start but))) (nI v) := by
  have S' := S
  obtain ⟨hN, s1, s2, hh, hs⟩ := S'
  intro n
  induction n with
  | zero => intro v a b; omega
  | succ n ih =>
    intro v hv hn
    have b1 : (ss_ls (ss_ve a_row a_from a_to wv) (min v N)).countP (ss_lv (nI cl) a_open a_start but) ≤ min v N := by
      have := List.countP_le_length (p := ss_lv (nI cl) a_open a_start but) (l := ss_ls (ss_ve a_row a_from a_to wv) (min v N))
      rw [ss_lsL] at this; exact this
    by_cases hl : 8 * sg ≤ v
    · simp (disch := omega) only [wX_live_4, ss_a0, ss_b0, ss_c0, ss_d0, ss_e0, ss_a1, ss_b1, ss_c1, ss_d1, ss_e1, ss_a2, ss_b2, ss_c2, ss_d2, ss_e2, ss_a3, ss_b3, ss_c3, ss_d3, ss_e3, ss_a4, ss_b4, ss_c4, ss_d4, ss_e4, ss_a5, ss_b5, ss_c5, ss_d5, ss_e5, ss_a8, ss_b8, ss_c8, ss_d8, ss_e8, ss_a32, ss_b32, ss_c32, ss_d32, ss_e32, ss_a40, ss_b40, ss_c40, ss_d40, ss_e40, ss_a48, ss_b48, ss_c48, ss_d48, ss_e48, ss_a64, ss_b64, ss_c64, ss_d64, ss_e64, ss_m2, ss_m3, ss_m4, ss_m8, ss_p2, ss_p3, ss_p4, ss_p8, ss_48p, ss_in, nI_add, nI_1, nI_clamp, nI_leI, nI_ltI, nI_eq, forall_eq, true_and, and_true]
      refine ⟨fun _ => ⟨na + 1, ?_⟩, fun z => absurd hl z⟩
      rw [show min v N = N by omega]
      exact ss_xln_d (but := but) (post := post) (c0 := (ss_ls (ss_ve a_row a_from a_to wv) N).countP (ss_lv (nI cl) a_open a_start but)) (by rw [show min v N = N by omega] at b1; omega) hna h (na + 1) 0 (by omega) (by omega)
    · obtain ⟨e1, e2⟩ := ss_hel S (v := v) (by omega)
      have st := ih (v + 1) (by omega) (by omega)
      simp (disch := omega) only [wX_live_4, ss_a0, ss_b0, ss_c0, ss_d0, ss_e0, ss_a1, ss_b1, ss_c1, ss_d1, ss_e1, ss_a2, ss_b2, ss_c2, ss_d2, ss_e2, ss_a3, ss_b3, ss_c3, ss_d3, ss_e3, ss_a4, ss_b4, ss_c4, ss_d4, ss_e4, ss_a5, ss_b5, ss_c5, ss_d5, ss_e5, ss_a8, ss_b8, ss_c8, ss_d8, ss_e8, ss_a32, ss_b32, ss_c32, ss_d32, ss_e32, ss_a40, ss_b40, ss_c40, ss_d40, ss_e40, ss_a48, ss_b48, ss_c48, ss_d48, ss_e48, ss_a64, ss_b64, ss_c64, ss_d64, ss_e64, ss_m2, ss_m3, ss_m4, ss_m8, ss_p2, ss_p3, ss_p4, ss_p8, ss_48p, ss_in, nI_add, nI_1, nI_clamp, nI_leI, nI_ltI, nI_eq, forall_eq, true_and, and_true, ss_sh3, ss_an7, e2]
      refine ⟨fun z => absurd z hl, fun _ => ⟨e1, fun hN' => ?_, fun hN' => ⟨by omega, by omega, ss_xlv (ss_br (fun hb => ?_) (fun hb => ?_))⟩⟩⟩
      · rw [show min (v + 1) N = min v N by omega] at st
        exact st
      · rw [show min (v + 1) N = min v N + 1 by omega, ss_lsS, ss_cP, show min v N = v by omega] at st
        rw [show ss_lv (nI cl) a_open a_start but (ss_ve a_row a_from a_to wv v) = false from hb] at st
        rw [show min v N = v by omega]
        exact st
      · rw [show min (v + 1) N = min v N + 1 by omega, ss_lsS, ss_cP, show min v N = v by omega] at st
        rw [show ss_lv (nI cl) a_open a_start but (ss_ve a_row a_from a_to wv v) = true from hb] at st
        rw [show min v N = v by omega]
        exact st
theorem ss_xln {post : Int32 → Prop} {but : Int32} (S : ss_Seg sg N a_held a_row) (hna : na ≤ 32)
    (h : post (nI ((ss_ls (ss_ve a_row a_from a_to wv) N ++ ss_ls (ss_ve a_dRow a_dFrom a_dTo a_dValue) na).countP (ss_lv (nI cl) a_open a_start but)))) : wpX_live post (nI sg, nI na, f_kept, nI cl, f_rows, f_many, a_row, a_from, a_to, a_held, a_sort, a_bits, a_base, a_least, a_greatest, a_words, a_dictionary, a_dRow, a_dFrom, a_dTo, a_dValue, a_wRow, a_wFrom, a_wTo, a_wValue, a_open, a_start, a_changed, a_change, a_changes, a_fresh, a_gone, a_column, a_low, a_high, a_found, a_value) but := by
  rw [List.countP_append] at h
  refine ⟨8 * sg + 1, ?_⟩
  have e : nI ((ss_ls (ss_ve a_row a_from a_to wv) (min 0 N)).countP (ss_lv (nI cl) a_open a_start but)) = 0 := by rw [Nat.zero_min]; rfl
  rw [← e]
  exact ss_xln_s S hna h (8 * sg + 1) 0 (by omega) (by omega)
/-! ends: whether nobody else sees a version -/
def ss_sn (op st : Nat → Int32) (t f : Int32) : Nat → Bool
  | 0 => false
  | n + 1 => ss_sn op st t f n || (decide (¬ nI n = t) && decide (¬ op n = 0) && decide (f ≤ st n))
theorem ss_snT {op st : Nat → Int32} {t f : Int32} : ∀ {n : Nat}, ss_sn op st t f n = true ↔ ∃ k, k < n ∧ ¬ nI k = t ∧ ¬ op k = 0 ∧ f ≤ st k := by
  intro n
  induction n with
  | zero => simp [ss_sn]
  | succ n ih =>
    rw [ss_sn, Bool.or_eq_true, ih]
    constructor
    · rintro (⟨k, hk, h⟩ | h)
      · exact ⟨k, by omega, h⟩
      · simp only [Bool.and_eq_true, decide_eq_true_eq] at h
        exact ⟨n, by omega, h.1.1, h.1.2, h.2⟩
    · rintro ⟨k, hk, h⟩
      rcases (by omega : k < n ∨ k = n) with h' | rfl
      · exact Or.inl ⟨k, h', h⟩
      · refine Or.inr ?_
        simp only [Bool.and_eq_true, decide_eq_true_eq]
        exact ⟨⟨h.1, h.2.1⟩, h.2.2⟩
theorem ss_xen_l {post : Int32 → Prop} {t f : Int32} (h : post (ss_bi (!ss_sn a_open a_start t f 4))) :
    ∀ n i, i ≤ 4 → 4 < n + i → wX_ends_42 post t f (nI sg) (nI na) f_kept (nI cl) f_rows f_many a_row a_from a_to a_held a_sort a_bits a_base a_least a_greatest a_words a_dictionary a_dRow a_dFrom a_dTo a_dValue a_wRow a_wFrom a_wTo a_wValue a_open a_start a_changed a_change a_changes a_fresh a_gone a_column a_low a_high a_found a_value n (ss_bi (ss_sn a_open a_start t f i)) (nI i) := by
  intro n
  induction n with
  | zero => intro i a b; omega
  | succ n ih =>
    intro i hi hn
    have st : ∀ b, ss_sn a_open a_start t f (i + 1) = b → i < 4 → wX_ends_42 post t f (nI sg) (nI na) f_kept (nI cl) f_rows f_many a_row a_from a_to a_held a_sort a_bits a_base a_least a_greatest a_words a_dictionary a_dRow a_dFrom a_dTo a_dValue a_wRow a_wFrom a_wTo a_wValue a_open a_start a_changed a_change a_changes a_fresh a_gone a_column a_low a_high a_found a_value n (ss_bi b) (nI (i + 1)) := by
      rintro b rfl h4
      exact ih (i + 1) (by omega) (by omega)
    simp (disch := omega) only [wX_ends_42, ss_a0, ss_b0, ss_c0, ss_d0, ss_e0, ss_a1, ss_b1, ss_c1, ss_d1, ss_e1, ss_a2, ss_b2, ss_c2, ss_d2, ss_e2, ss_a3, ss_b3, ss_c3, ss_d3, ss_e3, ss_a4, ss_b4, ss_c4, ss_d4, ss_e4, ss_a5, ss_b5, ss_c5, ss_d5, ss_e5, ss_a8, ss_b8, ss_c8, ss_d8, ss_e8, ss_a32, ss_b32, ss_c32, ss_d32, ss_e32, ss_a40, ss_b40, ss_c40, ss_d40, ss_e40, ss_a48, ss_b48, ss_c48, ss_d48, ss_e48, ss_a64, ss_b64, ss_c64, ss_d64, ss_e64, ss_m2, ss_m3, ss_m4, ss_m8, ss_p2, ss_p3, ss_p4, ss_p8, ss_48p, ss_in, nI_add, nI_1, nI_clamp, nI_leI, nI_ltI, nI_eq, forall_eq, true_and, and_true, ss_bor0, ss_bor1]
    refine ⟨fun h4 => ?_, fun h4 => ⟨fun hb => ?_, fun hb => ⟨by omega, fun ho => ?_, fun ho => ⟨by omega, fun hh => ?_, fun hh => ?_⟩⟩⟩⟩
    · have e : i = 4 := by omega
      subst e
      refine ss_br (fun e => ?_) (fun e => ?_)
      · rw [e] at h; exact h
      · rw [e] at h; exact h
    · exact st _ (by simp [ss_sn, hb]) (by omega)
    · exact st _ (by simp [ss_sn, ho]) (by omega)
    · exact st _ (by simp [ss_sn, Int32.not_le.mpr hh]) (by omega)
    · exact st true (by simp [ss_sn, Int32.not_lt.mp hh, hb, ho]) (by omega)
theorem ss_xen {post : Int32 → Prop} {r t : Int32} (S : ss_Seg sg N a_held a_row) (hna : na ≤ 32)
    (hex : ∃ x, x ∈ ss_ls (ss_ve a_row a_from a_to wv) N ++ ss_ls (ss_ve a_dRow a_dFrom a_dTo a_dValue) na ∧ x.1 = r ∧ ss_h x.2.1 x.2.2.1 (nI cl) = true)
    (h : ∀ x, x ∈ ss_ls (ss_ve a_row a_from a_to wv) N ++ ss_ls (ss_ve a_dRow a_dFrom a_dTo a_dValue) na → x.1 = r → ss_h x.2.1 x.2.2.1 (nI cl) = true → post (ss_bi (!ss_sn a_open a_start t x.2.1 4))) : wpX_ends post (nI sg, nI na, f_kept, nI cl, f_rows, f_many, a_row, a_from, a_to, a_held, a_sort, a_bits, a_base, a_least, a_greatest, a_words, a_dictionary, a_dRow, a_dFrom, a_dTo, a_dValue, a_wRow, a_wFrom, a_wTo, a_wValue, a_open, a_start, a_changed, a_change, a_changes, a_fresh, a_gone, a_column, a_low, a_high, a_found, a_value) r t := by
  have hN := S.1
  refine ss_xva (wv := wv) S hna fun v hv => ?_
  rcases hv with ⟨rfl, hno⟩ | ⟨x, hx, hvx, hr, hh⟩
  · obtain ⟨x, h1, h2, h3⟩ := hex
    exact (hno x h1 h2 h3).elim
  · have hp := h x hx hr hh
    rcases hvx with ⟨i, hi, rfl, rfl⟩ | ⟨i, hi, rfl, rfl⟩
    · simp (disch := omega) only [ss_a0, ss_b0, ss_c0, ss_d0, ss_e0, ss_a1, ss_b1, ss_c1, ss_d1, ss_e1, ss_a2, ss_b2, ss_c2, ss_d2, ss_e2, ss_a3, ss_b3, ss_c3, ss_d3, ss_e3, ss_a4, ss_b4, ss_c4, ss_d4, ss_e4, ss_a5, ss_b5, ss_c5, ss_d5, ss_e5, ss_a8, ss_b8, ss_c8, ss_d8, ss_e8, ss_a32, ss_b32, ss_c32, ss_d32, ss_e32, ss_a40, ss_b40, ss_c40, ss_d40, ss_e40, ss_a48, ss_b48, ss_c48, ss_d48, ss_e48, ss_a64, ss_b64, ss_c64, ss_d64, ss_e64, ss_m2, ss_m3, ss_m4, ss_m8, ss_p2, ss_p3, ss_p4, ss_p8, ss_48p, ss_in, nI_add, nI_1, nI_clamp, nI_leI, nI_ltI, nI_eq, forall_eq, true_and, and_true]
      refine ⟨fun z => absurd z (by omega), fun _ => ⟨by omega, 5, ?_⟩⟩
      exact ss_xen_l hp 5 0 (by omega) (by omega)
    · simp (disch := omega) only [ss_a0, ss_b0, ss_c0, ss_d0, ss_e0, ss_a1, ss_b1, ss_c1, ss_d1, ss_e1, ss_a2, ss_b2, ss_c2, ss_d2, ss_e2, ss_a3, ss_b3, ss_c3, ss_d3, ss_e3, ss_a4, ss_b4, ss_c4, ss_d4, ss_e4, ss_a5, ss_b5, ss_c5, ss_d5, ss_e5, ss_a8, ss_b8, ss_c8, ss_d8, ss_e8, ss_a32, ss_b32, ss_c32, ss_d32, ss_e32, ss_a40, ss_b40, ss_c40, ss_d40, ss_e40, ss_a48, ss_b48, ss_c48, ss_d48, ss_e48, ss_a64, ss_b64, ss_c64, ss_d64, ss_e64, ss_m2, ss_m3, ss_m4, ss_m8, ss_p2, ss_p3, ss_p4, ss_p8, ss_48p, ss_in, nI_add, nI_1, nI_clamp, nI_leI, nI_ltI, nI_eq, forall_eq, true_and, and_true, ss_s48, Nat.add_sub_cancel_left]
      refine ⟨fun _ => ⟨by omega, 5, ?_⟩, fun z => absurd (by omega) z⟩
      exact ss_xen_l hp 5 0 (by omega) (by omega)
theorem ss_xti {post : Int32 → Prop} {t : Int32} : (∃ j, j < 4 ∧ t = nI j ∧ post (a_start j)) ∨ (t = -1 ∧ post (nI cl)) → wpX_timeOf post (nI sg, nI na, f_kept, nI cl, f_rows, f_many, a_row, a_from, a_to, a_held, a_sort, a_bits, a_base, a_least, a_greatest, a_words, a_dictionary, a_dRow, a_dFrom, a_dTo, a_dValue, a_wRow, a_wFrom, a_wTo, a_wValue, a_open, a_start, a_changed, a_change, a_changes, a_fresh, a_gone, a_column, a_low, a_high, a_found, a_value) t := by
  rintro (⟨j, hj, rfl, h⟩ | ⟨rfl, h⟩)
  · simp (disch := omega) only [wpX_timeOf, ss_a0, ss_b0, ss_c0, ss_d0, ss_e0, ss_a1, ss_b1, ss_c1, ss_d1, ss_e1, ss_a2, ss_b2, ss_c2, ss_d2, ss_e2, ss_a3, ss_b3, ss_c3, ss_d3, ss_e3, ss_a4, ss_b4, ss_c4, ss_d4, ss_e4, ss_a5, ss_b5, ss_c5, ss_d5, ss_e5, ss_a8, ss_b8, ss_c8, ss_d8, ss_e8, ss_a32, ss_b32, ss_c32, ss_d32, ss_e32, ss_a40, ss_b40, ss_c40, ss_d40, ss_e40, ss_a48, ss_b48, ss_c48, ss_d48, ss_e48, ss_a64, ss_b64, ss_c64, ss_d64, ss_e64, ss_m2, ss_m3, ss_m4, ss_m8, ss_p2, ss_p3, ss_p4, ss_p8, ss_48p, ss_in, nI_add, nI_1, nI_clamp, nI_leI, nI_ltI, nI_eq, forall_eq, true_and, and_true]
    exact ⟨fun _ => ⟨by omega, h⟩, fun z => absurd (Nat.zero_le _) z⟩
  · simp (disch := omega) only [wpX_timeOf, ss_n1le]
    exact ⟨fun z => z.elim, fun _ => h⟩
end
end
section
section
variable {f_segments f_added f_kept f_clock f_rows f_many : Int32} {a_row a_from a_to a_held a_sort a_bits a_base a_least a_greatest a_dictionary a_dRow a_dFrom a_dTo a_dValue a_wRow a_wFrom a_wTo a_wValue a_open a_start a_changed a_change a_changes a_fresh a_gone a_column a_low a_high a_found a_value : Nat → Int32} {a_words : Nat → Int64}
variable {f_versions f_seen : Int32} {a_vRow a_vFrom a_vTo a_vInt a_sRow a_sInt a_kept : Nat → Int32}
variable {nv cl : Nat}
theorem ss_yw {post : Int32 → Prop} {v b : Int32} : wpY_among post (nI nv, nI cl, f_rows, f_seen, a_vRow, a_vFrom, a_vTo, a_vInt, a_open, a_start, a_changes, a_changed, a_fresh, a_gone, a_change, a_column, a_low, a_high, a_sRow, a_sInt, a_kept) v b ↔ post (ss_bi (decide (0 ≤ v) && decide (v < b))) := by
  simp only [wpY_among]
  by_cases h1 : v < 0
  · have h1' : ¬ 0 ≤ v := Int32.not_le.mpr h1
    simp only [h1, h1', true_implies, false_implies, not_true_eq_false, and_true, decide_false, Bool.false_and, ss_bf]
  · have h1' : 0 ≤ v := Int32.not_lt.mp h1
    by_cases h2 : b ≤ v
    · have h2' : ¬ v < b := Int32.not_lt.mpr h2
      simp only [h1, h1', h2, h2', true_implies, false_implies, not_true_eq_false, not_false_eq_true, and_true, true_and, decide_true, decide_false, Bool.and_false, ss_bf]
    · have h2' : v < b := Int32.not_le.mp h2
      simp only [h1, h1', h2, h2', true_implies, false_implies, not_true_eq_false, not_false_eq_true, and_true, true_and, decide_true, Bool.and_self, ss_bt]
theorem ss_yo1 {post : Int32 → Prop} {j : Nat} (hj : j < 4) (ho : ¬ a_open j = 0) (h : post 1) : wpY_isOpen post (nI nv, nI cl, f_rows, f_seen, a_vRow, a_vFrom, a_vTo, a_vInt, a_open, a_start, a_changes, a_changed, a_fresh, a_gone, a_change, a_column, a_low, a_high, a_sRow, a_sInt, a_kept) (nI j) := by
  simp (disch := omega) only [wpY_isOpen, ss_yw, ss_a0, ss_b0, ss_c0, ss_d0, ss_e0, ss_a1, ss_b1, ss_c1, ss_d1, ss_e1, ss_a2, ss_b2, ss_c2, ss_d2, ss_e2, ss_a3, ss_b3, ss_c3, ss_d3, ss_e3, ss_a4, ss_b4, ss_c4, ss_d4, ss_e4, ss_a5, ss_b5, ss_c5, ss_d5, ss_e5, ss_a8, ss_b8, ss_c8, ss_d8, ss_e8, ss_a32, ss_b32, ss_c32, ss_d32, ss_e32, ss_a40, ss_b40, ss_c40, ss_d40, ss_e40, ss_a48, ss_b48, ss_c48, ss_d48, ss_e48, ss_a64, ss_b64, ss_c64, ss_d64, ss_e64, ss_m2, ss_m3, ss_m4, ss_m8, ss_p2, ss_p3, ss_p4, ss_p8, ss_48p, ss_in, nI_add, nI_1, nI_clamp, nI_leI, nI_ltI, nI_eq, forall_eq, true_and, and_true, Nat.zero_le, hj, decide_true, Bool.and_self, ss_bz, ho]
  exact ⟨fun z => (nomatch z), fun _ => ⟨fun z => z.elim, fun _ => h⟩⟩
theorem ss_yo0 {post : Int32 → Prop} {t : Int32} (hc : ss_cls a_open t) (h : post 0) : wpY_isOpen post (nI nv, nI cl, f_rows, f_seen, a_vRow, a_vFrom, a_vTo, a_vInt, a_open, a_start, a_changes, a_changed, a_fresh, a_gone, a_change, a_column, a_low, a_high, a_sRow, a_sInt, a_kept) t := by
  rcases hc with h1 | h1 | ⟨j, hj, rfl, ho⟩
  · have h1' : ¬ 0 ≤ t := Int32.not_le.mpr h1
    simp only [wpY_isOpen, ss_yw, h1', decide_false, Bool.false_and, ss_bz]
    exact ⟨fun _ => h, fun z => absurd trivial z⟩
  · have h1' : ¬ t < 4 := by
      rw [Int32.lt_iff_toInt_lt] at h1 ⊢
      have e3 : (3 : Int32).toInt = 3 := by decide
      have e4 : (4 : Int32).toInt = 4 := by decide
      omega
    simp only [wpY_isOpen, ss_yw, h1', decide_false, Bool.and_false, ss_bz]
    exact ⟨fun _ => h, fun z => absurd trivial z⟩
  · simp (disch := omega) only [wpY_isOpen, ss_yw, ss_a0, ss_b0, ss_c0, ss_d0, ss_e0, ss_a1, ss_b1, ss_c1, ss_d1, ss_e1, ss_a2, ss_b2, ss_c2, ss_d2, ss_e2, ss_a3, ss_b3, ss_c3, ss_d3, ss_e3, ss_a4, ss_b4, ss_c4, ss_d4, ss_e4, ss_a5, ss_b5, ss_c5, ss_d5, ss_e5, ss_a8, ss_b8, ss_c8, ss_d8, ss_e8, ss_a32, ss_b32, ss_c32, ss_d32, ss_e32, ss_a40, ss_b40, ss_c40, ss_d40, ss_e40, ss_a48, ss_b48, ss_c48, ss_d48, ss_e48, ss_a64, ss_b64, ss_c64, ss_d64, ss_e64, ss_m2, ss_m3, ss_m4, ss_m8, ss_p2, ss_p3, ss_p4, ss_p8, ss_48p, ss_in, nI_add, nI_1, nI_clamp, nI_leI, nI_ltI, nI_eq, forall_eq, true_and, and_true, Nat.zero_le, hj, decide_true, Bool.and_self, ss_bz, ho]
    exact ⟨fun z => (nomatch z), fun _ => ⟨fun _ => h, fun z => absurd trivial z⟩⟩
theorem ss_yh {post : Int32 → Prop} {i : Nat} {time : Int32} (hi : i < 56) : wpY_holds post (nI nv, nI cl, f_rows, f_seen, a_vRow, a_vFrom, a_vTo, a_vInt, a_open, a_start, a_changes, a_changed, a_fresh, a_gone, a_change, a_column, a_low, a_high, a_sRow, a_sInt, a_kept) (nI i) time ↔ post (ss_bi (ss_h (a_vFrom i) (a_vTo i) time)) := by
  simp (disch := omega) only [wpY_holds, ss_a0, ss_b0, ss_c0, ss_d0, ss_e0, ss_a1, ss_b1, ss_c1, ss_d1, ss_e1, ss_a2, ss_b2, ss_c2, ss_d2, ss_e2, ss_a3, ss_b3, ss_c3, ss_d3, ss_e3, ss_a4, ss_b4, ss_c4, ss_d4, ss_e4, ss_a5, ss_b5, ss_c5, ss_d5, ss_e5, ss_a8, ss_b8, ss_c8, ss_d8, ss_e8, ss_a32, ss_b32, ss_c32, ss_d32, ss_e32, ss_a40, ss_b40, ss_c40, ss_d40, ss_e40, ss_a48, ss_b48, ss_c48, ss_d48, ss_e48, ss_a64, ss_b64, ss_c64, ss_d64, ss_e64, ss_m2, ss_m3, ss_m4, ss_m8, ss_p2, ss_p3, ss_p4, ss_p8, ss_48p, ss_in, nI_add, nI_1, nI_clamp, nI_leI, nI_ltI, nI_eq, forall_eq, true_and, and_true, hi]
  exact ss_hgen
theorem ss_ylv_l {post : Int32 → Prop} {i : Nat} {but : Int32} {b0 : Bool} (hi : i < 56) (h : post (ss_bi (ss_lvn a_open a_start but (a_vFrom i) (a_vTo i) b0 4))) :
    ∀ n k, k ≤ 4 → 4 < n + k → wY_live_13 post (nI i) but (nI nv) (nI cl) f_rows f_seen a_vRow a_vFrom a_vTo a_vInt a_open a_start a_changes a_changed a_fresh a_gone a_change a_column a_low a_high a_sRow a_sInt a_kept n (ss_bi (ss_lvn a_open a_start but (a_vFrom i) (a_vTo i) b0 k)) (nI k) := by
  intro n
  induction n with
  | zero => intro i h1 h2; omega
  | succ n ih =>
    intro k h1 h2
    have st : ∀ b, ss_lvn a_open a_start but (a_vFrom i) (a_vTo i) b0 (k + 1) = b → k < 4 → wY_live_13 post (nI i) but (nI nv) (nI cl) f_rows f_seen a_vRow a_vFrom a_vTo a_vInt a_open a_start a_changes a_changed a_fresh a_gone a_change a_column a_low a_high a_sRow a_sInt a_kept n (ss_bi b) (nI (k + 1)) := by
      rintro b rfl h4
      exact ih (k + 1) (by omega) (by omega)
    simp (disch := omega) only [wY_live_13, ss_a0, ss_b0, ss_c0, ss_d0, ss_e0, ss_a1, ss_b1, ss_c1, ss_d1, ss_e1, ss_a2, ss_b2, ss_c2, ss_d2, ss_e2, ss_a3, ss_b3, ss_c3, ss_d3, ss_e3, ss_a4, ss_b4, ss_c4, ss_d4, ss_e4, ss_a5, ss_b5, ss_c5, ss_d5, ss_e5, ss_a8, ss_b8, ss_c8, ss_d8, ss_e8, ss_a32, ss_b32, ss_c32, ss_d32, ss_e32, ss_a40, ss_b40, ss_c40, ss_d40, ss_e40, ss_a48, ss_b48, ss_c48, ss_d48, ss_e48, ss_a64, ss_b64, ss_c64, ss_d64, ss_e64, ss_m2, ss_m3, ss_m4, ss_m8, ss_p2, ss_p3, ss_p4, ss_p8, ss_48p, ss_in, nI_add, nI_1, nI_clamp, nI_leI, nI_ltI, nI_eq, forall_eq, true_and, and_true, ss_yh hi]
    refine ⟨fun h4 => ?_, fun h4 => ss_br (fun hb => ⟨by omega, fun ho => ?_, fun ho => ⟨fun hk => ?_, fun hk => ⟨by omega, ss_br (fun hh => ?_) (fun hh => ?_)⟩⟩⟩) (fun hb => ?_)⟩
    · have e : k = 4 := by omega
      subst e
      exact ⟨ss_bn _, h⟩
    · exact st false (by simp [ss_lvn, ho, hb]) (by omega)
    · exact st false (by simp [ss_lvn, hk, hb]) (by omega)
    · exact st false (by simp [ss_lvn, hh, hb]) (by omega)
    · exact st true (by simp [ss_lvn, hh, hk, ho]) (by omega)
    · exact st true (by simp [ss_lvn, hb]) (by omega)
theorem ss_ylv {post : Int32 → Prop} {i : Nat} {but : Int32} (hi : i < 56) (h : post (ss_bi (ss_lv (nI cl) a_open a_start but (ss_ve a_vRow a_vFrom a_vTo a_vInt i)))) : wpY_live post (nI nv, nI cl, f_rows, f_seen, a_vRow, a_vFrom, a_vTo, a_vInt, a_open, a_start, a_changes, a_changed, a_fresh, a_gone, a_change, a_column, a_low, a_high, a_sRow, a_sInt, a_kept) (nI i) but := by
  simp only [wpY_live, ss_yh hi]
  exact ⟨5, ss_ylv_l hi h 5 0 (by omega) (by omega)⟩
theorem ss_yal_l {post : Int32 → Prop} (hnv : nv ≤ 56) (h : post (nI ((ss_ls (ss_ve a_vRow a_vFrom a_vTo a_vInt) nv).countP (ss_lv (nI cl) a_open a_start (-1))))) :
    ∀ n v, v ≤ nv → nv < n + v → wY_alive_4 post (nI nv) (nI cl) f_rows f_seen a_vRow a_vFrom a_vTo a_vInt a_open a_start a_changes a_changed a_fresh a_gone a_change a_column a_low a_high a_sRow a_sInt a_kept n (nI ((ss_ls (ss_ve a_vRow a_vFrom a_vTo a_vInt) v).countP (ss_lv (nI cl) a_open a_start (-1)))) (nI v) := by
  intro n
  induction n with
  | zero => intro v a b; omega
  | succ n ih =>
    intro v hv hn
    have b1 : (ss_ls (ss_ve a_vRow a_vFrom a_vTo a_vInt) v).countP (ss_lv (nI cl) a_open a_start (-1)) ≤ v := by
      have := List.countP_le_length (p := ss_lv (nI cl) a_open a_start (-1)) (l := ss_ls (ss_ve a_vRow a_vFrom a_vTo a_vInt) v)
      rw [ss_lsL] at this; exact this
    have st := ih (v + 1)
    rw [ss_lsS, ss_cP] at st
    simp (disch := omega) only [wY_alive_4, ss_a0, ss_b0, ss_c0, ss_d0, ss_e0, ss_a1, ss_b1, ss_c1, ss_d1, ss_e1, ss_a2, ss_b2, ss_c2, ss_d2, ss_e2, ss_a3, ss_b3, ss_c3, ss_d3, ss_e3, ss_a4, ss_b4, ss_c4, ss_d4, ss_e4, ss_a5, ss_b5, ss_c5, ss_d5, ss_e5, ss_a8, ss_b8, ss_c8, ss_d8, ss_e8, ss_a32, ss_b32, ss_c32, ss_d32, ss_e32, ss_a40, ss_b40, ss_c40, ss_d40, ss_e40, ss_a48, ss_b48, ss_c48, ss_d48, ss_e48, ss_a64, ss_b64, ss_c64, ss_d64, ss_e64, ss_m2, ss_m3, ss_m4, ss_m8, ss_p2, ss_p3, ss_p4, ss_p8, ss_48p, ss_in, nI_add, nI_1, nI_clamp, nI_leI, nI_ltI, nI_eq, forall_eq, true_and, and_true]
    refine ⟨fun h4 => ?_, fun h4 => ss_ylv (by omega) (ss_br (fun hb => ?_) (fun hb => ?_))⟩
    · have e : v = nv := by omega
      subst e; exact h
    · have := st (by omega) (by omega)
      rw [hb] at this
      exact this
    · have := st (by omega) (by omega)
      rw [hb] at this
      exact this
theorem ss_yal {post : Int32 → Prop} (hnv : nv ≤ 56) (h : post (nI ((ss_ls (ss_ve a_vRow a_vFrom a_vTo a_vInt) nv).countP (ss_lv (nI cl) a_open a_start (-1))))) : wpY_alive post (nI nv, nI cl, f_rows, f_seen, a_vRow, a_vFrom, a_vTo, a_vInt, a_open, a_start, a_changes, a_changed, a_fresh, a_gone, a_change, a_column, a_low, a_high, a_sRow, a_sInt, a_kept) :=
  ⟨nv + 1, ss_yal_l hnv h (nv + 1) 0 (by omega) (by omega)⟩
theorem ss_ycf_l {post : Int32 → Prop} {t c : Nat} {r : Int32} (ht : t < 4) (hc : a_changes t = nI c) (hc8 : c ≤ 8) :
    ∀ m k n, k + m = 8 * t + c → m < n → post (ss_cf a_changed r k m) → wY_changeOf_5 post (nI t) r (nI nv) (nI cl) f_rows f_seen a_vRow a_vFrom a_vTo a_vInt a_open a_start a_changes a_changed a_fresh a_gone a_change a_column a_low a_high a_sRow a_sInt a_kept n (nI k) := by
  intro m
  induction m with
  | zero =>
    intro k n hk hn h
    obtain ⟨n, rfl⟩ : ∃ n', n = n' + 1 := ⟨n - 1, by omega⟩
    simp (disch := omega) only [wY_changeOf_5, ss_a0, ss_b0, ss_c0, ss_d0, ss_e0, ss_a1, ss_b1, ss_c1, ss_d1, ss_e1, ss_a2, ss_b2, ss_c2, ss_d2, ss_e2, ss_a3, ss_b3, ss_c3, ss_d3, ss_e3, ss_a4, ss_b4, ss_c4, ss_d4, ss_e4, ss_a5, ss_b5, ss_c5, ss_d5, ss_e5, ss_a8, ss_b8, ss_c8, ss_d8, ss_e8, ss_a32, ss_b32, ss_c32, ss_d32, ss_e32, ss_a40, ss_b40, ss_c40, ss_d40, ss_e40, ss_a48, ss_b48, ss_c48, ss_d48, ss_e48, ss_a64, ss_b64, ss_c64, ss_d64, ss_e64, ss_m2, ss_m3, ss_m4, ss_m8, ss_p2, ss_p3, ss_p4, ss_p8, ss_48p, ss_in, nI_add, nI_1, nI_clamp, nI_leI, nI_ltI, nI_eq, forall_eq, true_and, and_true, hc]
    exact ⟨by omega, fun _ => h, fun z => absurd (by omega) z⟩
  | succ m ih =>
    intro k n hk hn h
    obtain ⟨n, rfl⟩ : ∃ n', n = n' + 1 := ⟨n - 1, by omega⟩
    simp (disch := omega) only [wY_changeOf_5, ss_a0, ss_b0, ss_c0, ss_d0, ss_e0, ss_a1, ss_b1, ss_c1, ss_d1, ss_e1, ss_a2, ss_b2, ss_c2, ss_d2, ss_e2, ss_a3, ss_b3, ss_c3, ss_d3, ss_e3, ss_a4, ss_b4, ss_c4, ss_d4, ss_e4, ss_a5, ss_b5, ss_c5, ss_d5, ss_e5, ss_a8, ss_b8, ss_c8, ss_d8, ss_e8, ss_a32, ss_b32, ss_c32, ss_d32, ss_e32, ss_a40, ss_b40, ss_c40, ss_d40, ss_e40, ss_a48, ss_b48, ss_c48, ss_d48, ss_e48, ss_a64, ss_b64, ss_c64, ss_d64, ss_e64, ss_m2, ss_m3, ss_m4, ss_m8, ss_p2, ss_p3, ss_p4, ss_p8, ss_48p, ss_in, nI_add, nI_1, nI_clamp, nI_leI, nI_ltI, nI_eq, forall_eq, true_and, and_true, hc]
    refine ⟨by omega, fun z => absurd z (by omega), fun _ => ⟨by omega, fun e => ?_, fun e => ?_⟩⟩
    · rw [ss_cf, if_pos e] at h; exact h
    · rw [ss_cf, if_neg e] at h; exact ih _ _ (by omega) (by omega) h
theorem ss_ycf {post : Int32 → Prop} {t c : Nat} {r : Int32} (ht : t < 4) (hc : a_changes t = nI c) (hc8 : c ≤ 8) (h : post (ss_cf a_changed r (8 * t) c)) : wpY_changeOf post (nI nv, nI cl, f_rows, f_seen, a_vRow, a_vFrom, a_vTo, a_vInt, a_open, a_start, a_changes, a_changed, a_fresh, a_gone, a_change, a_column, a_low, a_high, a_sRow, a_sInt, a_kept) (nI t) r := by
  simp only [wpY_changeOf, ss_m8, forall_eq]
  exact ⟨c + 1, ss_ycf_l ht hc hc8 c (8 * t) (c + 1) rfl (by omega) h⟩
/-- an answer of the reference's versionAt -/
def ss_vb (nv : Nat) (s : Nat → ss_V) (r time v : Int32) : Prop :=
  (v = -1 ∧ ∀ x, x ∈ ss_ls s nv → x.1 = r → ss_h x.2.1 x.2.2.1 time = true → False) ∨ ∃ i, i < nv ∧ v = nI i ∧ (s i).1 = r ∧ ss_h (s i).2.1 (s i).2.2.1 time = true
theorem ss_yva_l {post : Int32 → Prop} {r time : Int32} (hnv : nv ≤ 56)
    (h : ∀ v, ss_vb nv (ss_ve a_vRow a_vFrom a_vTo a_vInt) r time v → post v) :
    ∀ n i, i ≤ nv → nv < n + i → (∀ j, j < i → a_vRow j = r → ss_h (a_vFrom j) (a_vTo j) time = true → False) → wY_versionAt_2 post r time (nI nv) (nI cl) f_rows f_seen a_vRow a_vFrom a_vTo a_vInt a_open a_start a_changes a_changed a_fresh a_gone a_change a_column a_low a_high a_sRow a_sInt a_kept n (nI i) := by
  intro n
  induction n with
  | zero => intro v a b; omega
  | succ n ih =>
    intro i hi hn hno
    by_cases hl : nv ≤ i
    · simp (disch := omega) only [wY_versionAt_2, ss_a0, ss_b0, ss_c0, ss_d0, ss_e0, ss_a1, ss_b1, ss_c1, ss_d1, ss_e1, ss_a2, ss_b2, ss_c2, ss_d2, ss_e2, ss_a3, ss_b3, ss_c3, ss_d3, ss_e3, ss_a4, ss_b4, ss_c4, ss_d4, ss_e4, ss_a5, ss_b5, ss_c5, ss_d5, ss_e5, ss_a8, ss_b8, ss_c8, ss_d8, ss_e8, ss_a32, ss_b32, ss_c32, ss_d32, ss_e32, ss_a40, ss_b40, ss_c40, ss_d40, ss_e40, ss_a48, ss_b48, ss_c48, ss_d48, ss_e48, ss_a64, ss_b64, ss_c64, ss_d64, ss_e64, ss_m2, ss_m3, ss_m4, ss_m8, ss_p2, ss_p3, ss_p4, ss_p8, ss_48p, ss_in, nI_add, nI_1, nI_clamp, nI_leI, nI_ltI, nI_eq, forall_eq, true_and, and_true]
      refine ⟨fun _ => h _ (Or.inl ⟨rfl, fun x hx a b => ?_⟩), fun z => absurd hl z⟩
      obtain ⟨j, hj, rfl⟩ := ss_lsM.mp hx
      exact hno j (by omega) a b
    · have hi56 : i < 56 := by omega
      simp (disch := omega) only [wY_versionAt_2, ss_a0, ss_b0, ss_c0, ss_d0, ss_e0, ss_a1, ss_b1, ss_c1, ss_d1, ss_e1, ss_a2, ss_b2, ss_c2, ss_d2, ss_e2, ss_a3, ss_b3, ss_c3, ss_d3, ss_e3, ss_a4, ss_b4, ss_c4, ss_d4, ss_e4, ss_a5, ss_b5, ss_c5, ss_d5, ss_e5, ss_a8, ss_b8, ss_c8, ss_d8, ss_e8, ss_a32, ss_b32, ss_c32, ss_d32, ss_e32, ss_a40, ss_b40, ss_c40, ss_d40, ss_e40, ss_a48, ss_b48, ss_c48, ss_d48, ss_e48, ss_a64, ss_b64, ss_c64, ss_d64, ss_e64, ss_m2, ss_m3, ss_m4, ss_m8, ss_p2, ss_p3, ss_p4, ss_p8, ss_48p, ss_in, nI_add, nI_1, nI_clamp, nI_leI, nI_ltI, nI_eq, forall_eq, true_and, and_true, ss_yh hi56]
      refine ⟨fun z => absurd z hl, fun _ => ⟨by omega, fun er => ss_br (fun hb => ?_) (fun hb => ?_), fun er => ?_⟩⟩
      · refine ih (i + 1) (by omega) (by omega) fun j b => ?_
        rcases (by omega : j < i ∨ j = i) with h' | rfl
        · exact hno j h'
        · intro _ z; rw [hb] at z; exact nomatch z
      · exact h _ (Or.inr ⟨i, by omega, rfl, er, hb⟩)
      · refine ih (i + 1) (by omega) (by omega) fun j b => ?_
        rcases (by omega : j < i ∨ j = i) with h' | rfl
        · exact hno j h'
        · intro z; exact absurd z er
theorem ss_yva {post : Int32 → Prop} {r time : Int32} (hnv : nv ≤ 56)
    (h : ∀ v, ss_vb nv (ss_ve a_vRow a_vFrom a_vTo a_vInt) r time v → post v) : wpY_versionAt post (nI nv, nI cl, f_rows, f_seen, a_vRow, a_vFrom, a_vTo, a_vInt, a_open, a_start, a_changes, a_changed, a_fresh, a_gone, a_change, a_column, a_low, a_high, a_sRow, a_sInt, a_kept) r time :=
  ⟨nv + 1, ss_yva_l hnv h (nv + 1) 0 (by omega) (by omega) (fun j a => by omega)⟩
end
end
section
/-! lists by a choice of indices -/
def ss_fl {α : Type} (p : Nat → Bool) (g : Nat → α) (n : Nat) : List α := ((List.range n).filter p).map g
theorem ss_fl0 {α : Type} {p : Nat → Bool} {g : Nat → α} : ss_fl p g 0 = [] := rfl
theorem ss_flS {α : Type} {p : Nat → Bool} {g : Nat → α} {n : Nat} : ss_fl p g (n + 1) = ss_fl p g n ++ (if p n = true then [g n] else []) := by
  unfold ss_fl
  rw [List.range_succ, List.filter_append, List.map_append]
  congr 1
  by_cases h : p n = true <;> simp [h]
theorem ss_flM {α : Type} {p : Nat → Bool} {g : Nat → α} {n : Nat} {x : α} : x ∈ ss_fl p g n ↔ ∃ i, i < n ∧ p i = true ∧ g i = x := by
  simp [ss_fl, and_assoc]
theorem ss_flL {α : Type} {p : Nat → Bool} {g : Nat → α} {n : Nat} : (ss_fl p g n).length ≤ n := by
  unfold ss_fl
  rw [List.length_map]
  exact Nat.le_trans (List.length_filter_le _ _) (by simp)
theorem ss_fsub {α : Type} {L : List α} {p q : α → Bool} (h : ∀ x, x ∈ L → p x = true → q x = true) : L.filter p = (L.filter q).filter p := by
  rw [List.filter_filter]
  refine List.filter_congr fun x hx => ?_
  cases e : p x with
  | false => simp
  | true => simp [h x hx e]
theorem ss_lrP {α : Type} {A B : List α} {p q : α → Bool} (P : List.Perm (A.filter q) (B.filter q)) (ha : ∀ x, x ∈ A → p x = true → q x = true) (hb : ∀ x, x ∈ B → p x = true → q x = true) : List.Perm (A.filter p) (B.filter p) := by
  rw [ss_fsub ha, ss_fsub hb]
  exact P.filter p
theorem ss_lrC {α : Type} {A B : List α} {p q : α → Bool} (P : List.Perm (A.filter q) (B.filter q)) (ha : ∀ x, x ∈ A → p x = true → q x = true) (hb : ∀ x, x ∈ B → p x = true → q x = true) : A.countP p = B.countP p := by
  rw [List.countP_eq_length_filter, List.countP_eq_length_filter]
  exact (ss_lrP P ha hb).length_eq
theorem ss_fcg {α : Type} {L : List α} {p q : α → Bool} (h : ∀ x, x ∈ L → p x = q x) : L.filter p = L.filter q := List.filter_congr h
theorem ss_ccg {α : Type} {L : List α} {p q : α → Bool} (h : ∀ x, x ∈ L → p x = q x) : L.countP p = L.countP q := by
  rw [List.countP_eq_length_filter, List.countP_eq_length_filter, ss_fcg h]

/-! what holds of a list of versions -/
def ss_dj (x y : ss_V) : Prop := x.1 = y.1 → x.2.2.1 ≤ y.2.1 ∨ y.2.2.1 ≤ x.2.1
theorem ss_djs {x y : ss_V} (h : ss_dj x y) : ss_dj y x := fun e => (h e.symm).symm
def ss_W1 (cl rw : Nat) (x : ss_V) : Prop := (∃ r, r < rw ∧ x.1 = nI r) ∧ (∃ f, f ≤ cl ∧ x.2.1 = nI f) ∧ x.2.1 < x.2.2.1 ∧ (x.2.2.1 = 2147483647 ∨ ∃ t, t ≤ cl ∧ x.2.2.1 = nI t)
def ss_Wf (cl rw : Nat) (L : List ss_V) : Prop := (∀ x, x ∈ L → ss_W1 cl rw x) ∧ L.Pairwise ss_dj
theorem ss_iB {a : Nat} (h : a ≤ 3072) : (nI a).toInt = a := nI_toInt (by omega)
theorem ss_iM : (2147483647 : Int32).toInt = 2147483647 := by decide
theorem ss_nvne {a : Nat} (h : a ≤ 3072) : ¬ nI a = 2147483647 := by
  intro e
  have := congrArg Int32.toInt e
  rw [ss_iB h, ss_iM] at this
  omega
theorem ss_ltnv {a : Nat} (h : a ≤ 3072) : nI a < 2147483647 := by
  rw [Int32.lt_iff_toInt_lt, ss_iB h, ss_iM]; omega
theorem ss_nvle {a : Nat} (h : a ≤ 3072) : ¬ (2147483647 : Int32) ≤ nI a := by
  rw [Int32.le_iff_toInt_le, ss_iB h, ss_iM]; omega
theorem ss_djv {cl rw : Nat} {x y : ss_V} {time : Int32} (h : ss_dj x y) (e : x.1 = y.1) (hx : ss_h x.2.1 x.2.2.1 time = true) (hy : ss_h y.2.1 y.2.2.1 time = true) : False := by
  rw [ss_hT] at hx hy
  simp only [Int32.le_iff_toInt_le, Int32.lt_iff_toInt_lt] at hx hy
  rcases h e with h | h
  · rw [Int32.le_iff_toInt_le] at h; omega
  · rw [Int32.le_iff_toInt_le] at h; omega
theorem ss_pwA {L : List ss_V} (h : L.Pairwise ss_dj) : ∀ x, x ∈ L → ∀ y, y ∈ L → x = y ∨ ss_dj x y := by
  intro x hx y hy
  exact List.Pairwise.forall_of_forall_of_flip (R := fun a b => a = b ∨ ss_dj a b) (fun _ _ => Or.inl rfl) (h.imp fun z => Or.inr z) (h.imp fun z => Or.inr (ss_djs z)) hx hy
/-- one version of a row holds at a time -/
theorem ss_uq {cl rw : Nat} {L : List ss_V} {time : Int32} (W : ss_Wf cl rw L) {x y : ss_V} (hx : x ∈ L) (hy : y ∈ L) (e : x.1 = y.1) (h1 : ss_h x.2.1 x.2.2.1 time = true) (h2 : ss_h y.2.1 y.2.2.1 time = true) : x = y := by
  rcases ss_pwA W.2 x hx y hy with h | h
  · exact h
  · exact (ss_djv (cl := cl) (rw := rw) h e h1 h2).elim
/-- what holds now has no end -/
theorem ss_now {cl rw : Nat} (hcl : cl ≤ 3072) {x : ss_V} (W : ss_W1 cl rw x) : ss_h x.2.1 x.2.2.1 (nI cl) = true ↔ x.2.2.1 = 2147483647 := by
  obtain ⟨-, ⟨f, hf, ef⟩, -, ht⟩ := W
  rw [ss_hT, ef]
  rcases ht with e | ⟨t, ht, e⟩
  · rw [e]
    simp only [iff_true]
    exact ⟨nI_le hf (by omega), ss_ltnv hcl⟩
  · rw [e]
    refine ⟨fun ⟨_, z⟩ => ?_, fun z => absurd z (ss_nvne (by omega))⟩
    rw [nI_ltI (by omega) (by omega)] at z
    omega
/-- the transactions, whatever the versions -/
def ss_Tb (cl rw : Nat) (op st chs cr cow : Nat → Int32) : Prop :=
  ∀ t, t < 4 → ¬ op t = 0 → (∃ s, s ≤ cl ∧ st t = nI s) ∧ ∃ c, c ≤ 8 ∧ chs t = nI c ∧ (∀ i, i < c → ∃ r, r < rw ∧ cr (8 * t + i) = nI r) ∧ (∀ i j, i < c → j < c → cr (8 * t + i) = cr (8 * t + j) → i = j) ∧
    ∀ t' c', t' < 4 → ¬ op t' = 0 → chs t' = nI c' → c' ≤ 8 → ¬ t' = t → ∀ i j, i < c → j < c' → ¬ cow (8 * t + i) = 0 → ¬ cow (8 * t' + j) = 0 → ¬ cr (8 * t + i) = cr (8 * t' + j)
/-- the transactions over a list of versions -/
def ss_Tl (op st chs cr cow : Nat → Int32) (L : List ss_V) : Prop :=
  ∀ t c, t < 4 → ¬ op t = 0 → chs t = nI c → c ≤ 8 → ∀ i, i < c → (cow (8 * t + i) = 0 → ∃ x, x ∈ L ∧ x.1 = cr (8 * t + i) ∧ ss_h x.2.1 x.2.2.1 (st t) = true) ∧ (¬ cow (8 * t + i) = 0 → ∀ x, x ∈ L → ¬ x.1 = cr (8 * t + i))
theorem ss_lvC {cl : Nat} {op st : Nat → Int32} {but : Int32} {x : ss_V} (h : ss_h x.2.1 x.2.2.1 (nI cl) = true) : ss_lv (nI cl) op st but x = true := ss_lvT.mpr (Or.inl h)
theorem ss_lvO {cl : Int32} {op st : Nat → Int32} {x : ss_V} {t : Nat} (ht : t < 4) (ho : ¬ op t = 0) (h : ss_h x.2.1 x.2.2.1 (st t) = true) : ss_lv cl op st (-1) x = true :=
  ss_lvT.mpr (Or.inr ⟨t, ht, by rw [ss_n1e (by omega)]; exact id, ho, h⟩)
/-- the live ones of a list, in another order -/
theorem ss_G1w {cl rw : Nat} {L L' : List ss_V} {p : ss_V → Bool} (P : List.Perm L' (L.filter p)) (W : ss_Wf cl rw L) : ss_Wf cl rw L' :=
  ⟨fun x hx => W.1 x (List.mem_filter.mp (P.mem_iff.mp hx)).1, (P.pairwise_iff (fun h => ss_djs h)).mpr (W.2.filter p)⟩
theorem ss_G1t {cl : Int32} {op st chs cr cow : Nat → Int32} {L L' : List ss_V} (P : List.Perm L' (L.filter (ss_lv cl op st (-1)))) (T : ss_Tl op st chs cr cow L) : ss_Tl op st chs cr cow L' := by
  intro t c ht ho hc hc8 i hi
  obtain ⟨h1, h2⟩ := T t c ht ho hc hc8 i hi
  refine ⟨fun z => ?_, fun z x hx => h2 z x (List.mem_filter.mp (P.mem_iff.mp hx)).1⟩
  obtain ⟨x, hx, e, hh⟩ := h1 z
  exact ⟨x, P.mem_iff.mpr (List.mem_filter.mpr ⟨hx, ss_lvO ht ho hh⟩), e, hh⟩
/-! begin -/
theorem ss_G3b {cl rw t : Nat} {op st chs cr cow : Nat → Int32} (T : ss_Tb cl rw op st chs cr cow) : ss_Tb cl rw (upd op t 1) (upd st t (nI cl)) (upd chs t 0) cr cow := by
  intro t1 h1 ho
  by_cases e : t1 = t
  · subst e
    refine ⟨⟨cl, by omega, pk_us⟩, 0, by omega, by rw [pk_us]; rfl, fun i hi => by omega, fun i j hi => by omega, fun t' c' _ _ _ _ _ i j hi => by omega⟩
  · rw [pk_un e] at ho
    obtain ⟨hs, c, hc8, hc, k1, k2, k3⟩ := T t1 h1 ho
    refine ⟨by rw [pk_un e]; exact hs, c, hc8, by rw [pk_un e]; exact hc, k1, k2, fun t' c' h1' ho' hc' hc8' ne i j hi hj => ?_⟩
    by_cases e' : t' = t
    · subst e'
      rw [pk_us] at hc'
      have : c' = 0 := by
        have z := (nI_eq (a := 0) (b := c') (by omega) (by omega)).mp hc'
        omega
      omega
    · rw [pk_un e'] at ho' hc'
      exact k3 t' c' h1' ho' hc' hc8' ne i j hi hj
theorem ss_G3l {cl : Int32} {t : Nat} {op st chs cr cow : Nat → Int32} {L : List ss_V} (T : ss_Tl op st chs cr cow L) : ss_Tl (upd op t 1) (upd st t cl) (upd chs t 0) cr cow L := by
  intro t1 c h1 ho hc hc8 i hi
  by_cases e : t1 = t
  · subst e
    rw [pk_us] at hc
    have : c = 0 := by
      have z := (nI_eq (a := 0) (b := c) (by omega) (by omega)).mp hc
      omega
    omega
  · rw [pk_un e] at ho hc
    rw [pk_un e]
    exact T t1 c h1 ho hc hc8 i hi
theorem ss_G3v {cl : Int32} {t : Nat} {op st : Nat → Int32} (ht : t < 4) (h0 : op t = 0) {x : ss_V} : ss_lv cl (upd op t 1) (upd st t cl) (-1) x = ss_lv cl op st (-1) x := by
  rw [Bool.eq_iff_iff, ss_lvT, ss_lvT]
  constructor
  · rintro (h | ⟨k, hk, h1, h2, h3⟩)
    · exact Or.inl h
    · by_cases e : k = t
      · subst e; rw [pk_us] at h3; exact Or.inl h3
      · rw [pk_un e] at h2 h3; exact Or.inr ⟨k, hk, h1, h2, h3⟩
  · rintro (h | ⟨k, hk, h1, h2, h3⟩)
    · exact Or.inl h
    · have e : k ≠ t := by rintro rfl; exact h2 h0
      exact Or.inr ⟨k, hk, h1, by rw [pk_un e]; exact h2, by rw [pk_un e]; exact h3⟩
/-! insert, touch: one more change -/
theorem ss_G4b {cl rw rw' t c : Nat} {r w : Int32} {op st chs cr cow : Nat → Int32} (T : ss_Tb cl rw op st chs cr cow) (ht : t < 4) (hc : chs t = nI c) (hc8 : c < 8) (hle : rw ≤ rw')
    (hr : ∃ r0, r0 < rw' ∧ r = nI r0) (hin : ∀ i, i < c → ¬ cr (8 * t + i) = r)
    (hcr : ¬ w = 0 → ∀ t' c', t' < 4 → ¬ op t' = 0 → chs t' = nI c' → c' ≤ 8 → ¬ t' = t → ∀ j, j < c' → ¬ cr (8 * t' + j) = r) :
    ss_Tb cl rw' op st (upd chs t (nI (c + 1))) (upd cr (8 * t + c) r) (upd cow (8 * t + c) w) := by
  intro t1 h1 h2
  obtain ⟨hs, c2, q1, q2, q3, q4, q5⟩ := T t1 h1 h2
  by_cases e : t1 = t
  · subst e
    have := (nI_eq (by omega) (by omega)).mp (hc.symm.trans q2)
    subst this
    refine ⟨hs, c + 1, by omega, pk_us, fun i hi => ?_, fun i j hi hj => ?_, fun t' c' h1' h2' h3' h4' hne i j hi hj => ?_⟩
    · rcases (by omega : i = c ∨ i < c) with rfl | h
      · rw [pk_us]; exact hr
      · obtain ⟨r1, a, b⟩ := q3 i h
        exact ⟨r1, by omega, by rw [pk_un (by omega)]; exact b⟩
    · rcases (by omega : i = c ∨ i < c) with rfl | h
      · rcases (by omega : j = i ∨ j < i) with rfl | h'
        · intro _; rfl
        · rw [pk_us, pk_un (by omega)]; intro z; exact absurd z.symm (hin j h')
      · rcases (by omega : j = c ∨ j < c) with rfl | h'
        · rw [pk_us, pk_un (by omega)]; intro z; exact absurd z (hin i h)
        · rw [pk_un (by omega), pk_un (by omega)]; exact q4 i j h h'
    · rw [pk_un hne] at h3'
      rw [pk_un (j := 8 * t' + j) (by omega), pk_un (j := 8 * t' + j) (by omega)]
      rcases (by omega : i = c ∨ i < c) with rfl | h
      · rw [pk_us, pk_us]
        intro hw _ z
        exact hcr hw t' c' h1' h2' h3' h4' hne j hj z.symm
      · rw [pk_un (by omega), pk_un (by omega)]
        exact q5 t' c' h1' h2' h3' h4' hne i j h hj
  · refine ⟨hs, c2, q1, by rw [pk_un e]; exact q2, fun i hi => ?_, fun i j hi hj => ?_, fun t' c' h1' h2' h3' h4' hne i j hi hj => ?_⟩
    · obtain ⟨r1, a, b⟩ := q3 i hi
      exact ⟨r1, by omega, by rw [pk_un (by omega)]; exact b⟩
    · rw [pk_un (by omega), pk_un (by omega)]; exact q4 i j hi hj
    · rw [pk_un (j := 8 * t1 + i) (by omega), pk_un (j := 8 * t1 + i) (by omega)]
      by_cases e' : t' = t
      · subst e'
        rw [pk_us] at h3'
        have := (nI_eq (by omega) (by omega)).mp h3'
        subst this
        rcases (by omega : j = c ∨ j < c) with rfl | h
        · rw [pk_us, pk_us]
          intro _ hw
          exact hcr hw t1 c2 h1 h2 q2 q1 e i hi
        · rw [pk_un (by omega), pk_un (by omega)]
          exact q5 t' c h1' h2' hc (by omega) hne i j hi h
      · rw [pk_un e'] at h3'
        rw [pk_un (by omega), pk_un (by omega)]
        exact q5 t' c' h1' h2' h3' h4' hne i j hi hj
theorem ss_G4l {t c : Nat} {r w : Int32} {op st chs cr cow : Nat → Int32} {L : List ss_V} (T : ss_Tl op st chs cr cow L) (hc : chs t = nI c) (hc8 : c < 8)
    (h0 : w = 0 → ∃ x, x ∈ L ∧ x.1 = r ∧ ss_h x.2.1 x.2.2.1 (st t) = true) (h1 : ¬ w = 0 → ∀ x, x ∈ L → ¬ x.1 = r) :
    ss_Tl op st (upd chs t (nI (c + 1))) (upd cr (8 * t + c) r) (upd cow (8 * t + c) w) L := by
  intro t1 c1 h1' h2 h3 h4 i hi
  by_cases e : t1 = t
  · subst e
    rw [pk_us] at h3
    have := (nI_eq (by omega) (by omega)).mp h3
    subst this
    rcases (by omega : i = c ∨ i < c) with h | h
    · subst h
      rw [pk_us, pk_us]
      exact ⟨h0, h1⟩
    · rw [pk_un (by omega), pk_un (by omega)]
      exact T t1 c h1' h2 hc (by omega) i h
  · rw [pk_un e] at h3
    rw [pk_un (by omega), pk_un (by omega)]
    exact T t1 c1 h1' h2 h3 h4 i hi
/-! abort: one is closed -/
theorem ss_G7b {cl rw t : Nat} {op st chs cr cow : Nat → Int32} (T : ss_Tb cl rw op st chs cr cow) : ss_Tb cl rw (upd op t 0) st chs cr cow := by
  intro t1 h1 ho
  have e : t1 ≠ t := by rintro rfl; rw [pk_us] at ho; exact ho rfl
  rw [pk_un e] at ho
  obtain ⟨hs, c, hc8, hc, k1, k2, k3⟩ := T t1 h1 ho
  refine ⟨hs, c, hc8, hc, k1, k2, fun t' c' h1' ho' => ?_⟩
  have e' : t' ≠ t := by rintro rfl; rw [pk_us] at ho'; exact ho' rfl
  rw [pk_un e'] at ho'
  exact k3 t' c' h1' ho'
theorem ss_G7l {t : Nat} {op st chs cr cow : Nat → Int32} {L : List ss_V} (T : ss_Tl op st chs cr cow L) : ss_Tl (upd op t 0) st chs cr cow L := by
  intro t1 c h1 ho
  have e : t1 ≠ t := by rintro rfl; rw [pk_us] at ho; exact ho rfl
  rw [pk_un e] at ho
  exact T t1 c h1 ho
theorem ss_G7v {cl but : Int32} {t : Nat} {op st : Nat → Int32} {x : ss_V} (h : ss_lv cl (upd op t 0) st but x = true) : ss_lv cl op st but x = true := by
  rw [ss_lvT] at h ⊢
  rcases h with h | ⟨k, hk, h1, h2, h3⟩
  · exact Or.inl h
  · have e : k ≠ t := by rintro rfl; rw [pk_us] at h2; exact h2 rfl
    rw [pk_un e] at h2
    exact Or.inr ⟨k, hk, h1, h2, h3⟩
theorem ss_G7e {cl : Int32} {t : Nat} {op st : Nat → Int32} {x : ss_V} (ht : t < 4) : ss_lv cl (upd op t 0) st (-1) x = ss_lv cl op st (nI t) x := by
  rw [Bool.eq_iff_iff, ss_lvT, ss_lvT]
  constructor
  · rintro (h | ⟨k, hk, h1, h2, h3⟩)
    · exact Or.inl h
    · have e : k ≠ t := by rintro rfl; rw [pk_us] at h2; exact h2 rfl
      rw [pk_un e] at h2
      exact Or.inr ⟨k, hk, fun z => e ((nI_eq (by omega) (by omega)).mp z), h2, h3⟩
  · rintro (h | ⟨k, hk, h1, h2, h3⟩)
    · exact Or.inl h
    · have e : k ≠ t := by rintro rfl; exact h1 rfl
      exact Or.inr ⟨k, hk, by rw [ss_n1e (by omega)]; exact id, by rw [pk_un e]; exact h2, h3⟩
end
section
/-! commit, over one list of versions -/
/-- the rows of the changes, those of fresh rows left out -/
def ss_q (cr cow : Nat → Int32) (b : Nat) : Nat → Int32 → Bool
  | 0, _ => false
  | j + 1, r => ss_q cr cow b j r || (decide (cow (b + j) = 0) && decide (cr (b + j) = r))
theorem ss_qT {cr cow : Nat → Int32} {b : Nat} {r : Int32} : ∀ {j : Nat}, ss_q cr cow b j r = true ↔ ∃ i, i < j ∧ cow (b + i) = 0 ∧ cr (b + i) = r := by
  intro j
  induction j with
  | zero => simp [ss_q]
  | succ j ih =>
    rw [ss_q, Bool.or_eq_true, ih, Bool.and_eq_true, decide_eq_true_eq, decide_eq_true_eq]
    constructor
    · rintro (⟨i, hi, h⟩ | h)
      · exact ⟨i, by omega, h⟩
      · exact ⟨j, by omega, h⟩
    · rintro ⟨i, hi, h⟩
      rcases (by omega : i < j ∨ i = j) with h' | rfl
      · exact Or.inl ⟨i, h', h⟩
      · exact Or.inr h
/-- a version closed, if it is open and its row is among some -/
def ss_clo (q : Int32 → Bool) (nc : Int32) (x : ss_V) : ss_V := if x.2.2.1 = 2147483647 ∧ q x.1 = true then (x.1, x.2.1, nc, x.2.2.2) else x
theorem ss_cloN {q : Int32 → Bool} {nc : Int32} {x : ss_V} (h : ¬ (x.2.2.1 = 2147483647 ∧ q x.1 = true)) : ss_clo q nc x = x := if_neg h
theorem ss_cloY {q : Int32 → Bool} {nc : Int32} {x : ss_V} (h : x.2.2.1 = 2147483647 ∧ q x.1 = true) : ss_clo q nc x = (x.1, x.2.1, nc, x.2.2.2) := if_pos h
theorem ss_clo1 {q : Int32 → Bool} {nc : Int32} {x : ss_V} : (ss_clo q nc x).1 = x.1 ∧ (ss_clo q nc x).2.1 = x.2.1 ∧ (ss_clo q nc x).2.2.2 = x.2.2.2 := by
  by_cases h : x.2.2.1 = 2147483647 ∧ q x.1 = true
  · rw [ss_cloY h]; exact ⟨rfl, rfl, rfl⟩
  · rw [ss_cloN h]; exact ⟨rfl, rfl, rfl⟩
/-- would a version be live behind the commit -/
def ss_bh (cl : Nat) (op st : Nat → Int32) (t : Nat) (q : Int32 → Bool) (x : ss_V) : Bool := ss_lv (nI (cl + 1)) (upd op t 0) st (-1) (ss_clo q (nI (cl + 1)) x)
section
variable {cl rw t c : Nat} {op st chs cr cow : Nat → Int32} {L : List ss_V}
theorem ss_nxt (hcl : cl + 1 ≤ 3072) {x : ss_V} (W : ss_W1 cl rw x) : ss_h x.2.1 x.2.2.1 (nI (cl + 1)) = ss_h x.2.1 x.2.2.1 (nI cl) := by
  rw [Bool.eq_iff_iff, ss_now (by omega) W]
  obtain ⟨-, ⟨f, hf, ef⟩, -, ht⟩ := W
  rw [ss_hT, ef]
  rcases ht with e | ⟨u, hu, e⟩
  · rw [e]
    simp only [iff_true]
    exact ⟨nI_le (by omega) (by omega), ss_ltnv hcl⟩
  · rw [e]
    refine ⟨fun ⟨_, z⟩ => ?_, fun z => absurd z (ss_nvne (by omega))⟩
    rw [nI_ltI (by omega) (by omega)] at z
    omega
/-- an open start, before and behind the closing -/
theorem ss_clh {q : Int32 → Bool} (hcl : cl + 1 ≤ 3072) {x : ss_V} {s : Nat} (hs : s ≤ cl) : ss_h (ss_clo q (nI (cl + 1)) x).2.1 (ss_clo q (nI (cl + 1)) x).2.2.1 (nI s) = ss_h x.2.1 x.2.2.1 (nI s) := by
  by_cases h : x.2.2.1 = 2147483647 ∧ q x.1 = true
  · rw [ss_cloY h, h.1, Bool.eq_iff_iff, ss_hT, ss_hT]
    have a : nI s < 2147483647 := ss_ltnv (by omega)
    have b : nI s < nI (cl + 1) := nI_lt (by omega) (by omega)
    constructor
    · exact fun z => ⟨z.1, a⟩
    · exact fun z => ⟨z.1, b⟩
  · rw [ss_cloN h]
theorem ss_clc {q : Int32 → Bool} (hcl : cl + 1 ≤ 3072) {x : ss_V} (W : ss_W1 cl rw x) : ss_h (ss_clo q (nI (cl + 1)) x).2.1 (ss_clo q (nI (cl + 1)) x).2.2.1 (nI (cl + 1)) = true ↔ x.2.2.1 = 2147483647 ∧ q x.1 = false := by
  by_cases h : x.2.2.1 = 2147483647 ∧ q x.1 = true
  · rw [ss_cloY h, ss_hT]
    refine ⟨fun z => ?_, fun z => ?_⟩
    · have := z.2
      rw [nI_ltI (by omega) (by omega)] at this
      omega
    · rw [h.2] at z; exact absurd z.2 (by decide)
  · rw [ss_cloN h, ss_nxt hcl W, ss_now (by omega) W]
    refine ⟨fun z => ⟨z, ?_⟩, fun z => z.1⟩
    cases e : q x.1 with
    | false => rfl
    | true => exact absurd ⟨z, e⟩ h
theorem ss_bhT {q : Int32 → Bool} (hcl : cl + 1 ≤ 3072) (T : ss_Tb cl rw op st chs cr cow) (ht : t < 4) {x : ss_V} (W : ss_W1 cl rw x) : ss_bh cl op st t q x = true ↔ (x.2.2.1 = 2147483647 ∧ q x.1 = false) ∨ ∃ k, k < 4 ∧ ¬ k = t ∧ ¬ op k = 0 ∧ ss_h x.2.1 x.2.2.1 (st k) = true := by
  unfold ss_bh
  rw [ss_lvT, ss_clc hcl W]
  constructor
  · rintro (h | ⟨k, hk, h1, h2, h3⟩)
    · exact Or.inl h
    · have e : k ≠ t := by rintro rfl; rw [pk_us] at h2; exact h2 rfl
      rw [pk_un e] at h2
      obtain ⟨⟨s, hs, es⟩, -⟩ := T k hk h2
      rw [es, ss_clh hcl hs] at h3
      exact Or.inr ⟨k, hk, e, h2, by rw [es]; exact h3⟩
  · rintro (h | ⟨k, hk, h1, h2, h3⟩)
    · exact Or.inl h
    · obtain ⟨⟨s, hs, es⟩, -⟩ := T k hk h2
      refine Or.inr ⟨k, hk, by rw [ss_n1e (by omega)]; exact id, by rw [pk_un h1]; exact h2, ?_⟩
      rw [es, ss_clh hcl hs, ← es]; exact h3
/-- what is live behind is live now -/
theorem ss_bhl {q : Int32 → Bool} (hcl : cl + 1 ≤ 3072) (T : ss_Tb cl rw op st chs cr cow) (ht : t < 4) {x : ss_V} (W : ss_W1 cl rw x) (h : ss_bh cl op st t q x = true) : ss_lv (nI cl) (upd op t 0) st (-1) x = true := by
  rw [ss_bhT hcl T ht W] at h
  rw [ss_lvT]
  rcases h with h | ⟨k, hk, h1, h2, h3⟩
  · exact Or.inl ((ss_now (by omega) W).mpr h.1)
  · exact Or.inr ⟨k, hk, by rw [ss_n1e (by omega)]; exact id, by rw [pk_un h1]; exact h2, h3⟩
theorem ss_bh0 (hcl : cl + 1 ≤ 3072) (T : ss_Tb cl rw op st chs cr cow) (ht : t < 4) {x : ss_V} (W : ss_W1 cl rw x) : ss_bh cl op st t (ss_q cr cow (8 * t) 0) x = ss_lv (nI cl) op st (nI t) x := by
  rw [Bool.eq_iff_iff, ss_bhT hcl T ht W, ss_lvT, ss_now (by omega) W]
  constructor
  · rintro (h | ⟨k, hk, h1, h2, h3⟩)
    · exact Or.inl h.1
    · exact Or.inr ⟨k, hk, fun z => h1 ((nI_eq (by omega) (by omega)).mp z), h2, h3⟩
  · rintro (h | ⟨k, hk, h1, h2, h3⟩)
    · exact Or.inl ⟨h, rfl⟩
    · exact Or.inr ⟨k, hk, fun z => h1 (by rw [z]), h2, h3⟩
/-- the reference's own count -/
theorem ss_bhY (hcl : cl + 1 ≤ 3072) (T : ss_Tb cl rw op st chs cr cow) (TL : ss_Tl op st chs cr cow L) (ht : t < 4) (ho : ¬ op t = 0) (hc : chs t = nI c) (hc8 : c ≤ 8) {x : ss_V} (hx : x ∈ L) (W : ss_W1 cl rw x) :
    ss_lvn op st (nI t) x.2.1 x.2.2.1 (decide (x.2.2.1 = 2147483647) && !ss_ic cr x.1 (8 * t) c) 4 = ss_bh cl op st t (ss_q cr cow (8 * t) c) x := by
  rw [Bool.eq_iff_iff, ss_bhT hcl T ht W, ss_lvnT, Bool.and_eq_true, decide_eq_true_eq, Bool.not_eq_true']
  have e : ss_ic cr x.1 (8 * t) c = ss_q cr cow (8 * t) c x.1 := by
    rw [Bool.eq_iff_iff, ss_icT (by omega), ss_qT]
    constructor
    · rintro ⟨i, h1, h2, h3⟩
      obtain ⟨j, rfl⟩ : ∃ j, i = 8 * t + j := ⟨i - 8 * t, by omega⟩
      refine ⟨j, by omega, ?_, h3⟩
      by_cases z : cow (8 * t + j) = 0
      · exact z
      · exact absurd h3.symm ((TL t c ht ho hc hc8 j (by omega)).2 z x hx)
    · rintro ⟨j, h1, h2, h3⟩
      exact ⟨8 * t + j, by omega, by omega, h3⟩
  rw [e]
  constructor
  · rintro (h | ⟨k, hk, h1, h2, h3⟩)
    · exact Or.inl h
    · exact Or.inr ⟨k, hk, fun z => h1 (by rw [z]), h2, h3⟩
  · rintro (h | ⟨k, hk, h1, h2, h3⟩)
    · exact Or.inl h
    · exact Or.inr ⟨k, hk, fun z => h1 ((nI_eq (by omega) (by omega)).mp z), h2, h3⟩
/-- one more row closed: one fewer, unless somebody sees its version -/
theorem ss_bhS (hcl : cl + 1 ≤ 3072) (T : ss_Tb cl rw op st chs cr cow) (W : ss_Wf cl rw L) (ht : t < 4) (ho : ¬ op t = 0) (hc : chs t = nI c) (hc8 : c ≤ 8) {j : Nat} (hj : j < c) (h0 : cow (8 * t + j) = 0)
    {x : ss_V} (hx : x ∈ L) (hr : x.1 = cr (8 * t + j)) (he : x.2.2.1 = 2147483647) :
    L.countP (ss_bh cl op st t (ss_q cr cow (8 * t) (j + 1))) + (if ss_sn op st (nI t) x.2.1 4 = true then 0 else 1) = L.countP (ss_bh cl op st t (ss_q cr cow (8 * t) j)) := by
  have P := List.perm_cons_erase hx
  have pw := (P.pairwise_iff (fun h => ss_djs h)).mp W.2
  rw [List.pairwise_cons] at pw
  rw [P.countP_eq, P.countP_eq, List.countP_cons, List.countP_cons]
  have e1 : (L.erase x).countP (ss_bh cl op st t (ss_q cr cow (8 * t) (j + 1))) = (L.erase x).countP (ss_bh cl op st t (ss_q cr cow (8 * t) j)) := by
    refine ss_ccg fun y hy => ?_
    have hyL := List.mem_of_mem_erase hy
    have Wy := W.1 y hyL
    have Wx := W.1 x hx
    rw [Bool.eq_iff_iff, ss_bhT hcl T ht Wy, ss_bhT hcl T ht Wy]
    have : y.2.2.1 = 2147483647 → ss_q cr cow (8 * t) (j + 1) y.1 = ss_q cr cow (8 * t) j y.1 := by
      intro hn
      rw [ss_q]
      have : ¬ cr (8 * t + j) = y.1 := by
        intro z
        obtain ⟨-, ⟨f, hf, ef⟩, -⟩ := Wx
        obtain ⟨-, ⟨g, hg, eg⟩, -⟩ := Wy
        rcases pw.1 y hy (hr.trans z) with h | h
        · rw [he, eg] at h; exact ss_nvle (by omega) h
        · rw [hn, ef] at h; exact ss_nvle (by omega) h
      simp [this]
    constructor
    · rintro (⟨a, b⟩ | h)
      · exact Or.inl ⟨a, by rw [← this a]; exact b⟩
      · exact Or.inr h
    · rintro (⟨a, b⟩ | h)
      · exact Or.inl ⟨a, by rw [this a]; exact b⟩
      · exact Or.inr h
  have Wx := W.1 x hx
  have e2 : ss_bh cl op st t (ss_q cr cow (8 * t) j) x = true := by
    rw [ss_bhT hcl T ht Wx]
    refine Or.inl ⟨he, ?_⟩
    rw [← Bool.not_eq_true, ss_qT]
    rintro ⟨i, hi, a, b⟩
    obtain ⟨-, c2, q1, q2, q3, q4, -⟩ := T t ht ho
    have := (nI_eq (by omega) (by omega)).mp (hc.symm.trans q2)
    subst this
    have := q4 i j (by omega) hj (b.trans hr)
    omega
  have e3 : ss_bh cl op st t (ss_q cr cow (8 * t) (j + 1)) x = ss_sn op st (nI t) x.2.1 4 := by
    rw [Bool.eq_iff_iff, ss_bhT hcl T ht Wx, ss_snT]
    have hq : ss_q cr cow (8 * t) (j + 1) x.1 = true := ss_qT.mpr ⟨j, by omega, h0, hr.symm⟩
    constructor
    · rintro (⟨a, b⟩ | ⟨k, hk, h1, h2, h3⟩)
      · rw [hq] at b; exact nomatch b
      · exact ⟨k, hk, fun z => h1 ((nI_eq (by omega) (by omega)).mp z), h2, (ss_hT.mp h3).1⟩
    · rintro ⟨k, hk, h1, h2, h3⟩
      obtain ⟨⟨s, hs, es⟩, -⟩ := T k hk h2
      refine Or.inr ⟨k, hk, fun z => h1 (by rw [z]), h2, ss_hT.mpr ⟨h3, ?_⟩⟩
      rw [he, es]; exact ss_ltnv (by omega)
  rw [e1, e2, e3]
  cases ss_sn op st (nI t) x.2.1 4 <;> simp
/-- conflict: the version seen of a changed row has ended -/
theorem ss_cfl (hcl : cl ≤ 3072) (W : ss_Wf cl rw L) {r time : Int32} {x : ss_V} (hx : x ∈ L) (hr : x.1 = r) (hh : ss_h x.2.1 x.2.2.1 time = true) : (∃ y, y ∈ L ∧ ss_dq r time y) ↔ ¬ x.2.2.1 = 2147483647 := by
  have hh' := ss_hT.mp hh
  constructor
  · rintro ⟨y, hy, er, hd⟩ hn
    obtain ⟨-, ⟨g, hg, eg⟩, hlt, hto⟩ := W.1 y hy
    obtain ⟨-, ⟨f, hf, ef⟩, -, -⟩ := W.1 x hx
    rcases ss_pwA W.2 x hx y hy with h | h
    · subst h
      rcases hd with h | ⟨h, _⟩
      · exact absurd hh'.1 (Int32.not_le.mpr h)
      · exact h hn
    · rcases h (hr.trans er.symm) with h | h
      · rw [hn, eg] at h; exact ss_nvle (by omega) h
      · have h1 := Int32.le_trans h hh'.1
        rcases hd with h2 | ⟨_, h2⟩
        · exact absurd (Int32.lt_of_lt_of_le (Int32.lt_trans h2 hlt) h1) (Int32.lt_irrefl)
        · exact absurd (Int32.lt_of_lt_of_le h2 h1) (Int32.lt_irrefl)
  · intro hn
    exact ⟨x, hx, hr, Or.inr ⟨hn, hh'.2⟩⟩
/-! the list behind a commit -/
def ss_nw (cr ch gone : Nat → Int32) (b : Nat) (nc : Int32) (c : Nat) : List ss_V := ss_fl (fun i => decide (gone (b + i) = 0)) (fun i => (cr (b + i), nc, 2147483647, ss_tr ch (b + i))) c
theorem ss_G2w {ch gone : Nat → Int32} (hcl : cl + 1 ≤ 3072) (T : ss_Tb cl rw op st chs cr cow) (TL : ss_Tl op st chs cr cow L) (W : ss_Wf cl rw L) (ht : t < 4) (ho : ¬ op t = 0) (hc : chs t = nI c) (hc8 : c ≤ 8) :
    ss_Wf (cl + 1) rw (L.map (ss_clo (ss_q cr cow (8 * t) c) (nI (cl + 1))) ++ ss_nw cr ch gone (8 * t) (nI (cl + 1)) c) := by
  obtain ⟨-, c2, q1, q2, q3, q4, -⟩ := T t ht ho
  have := (nI_eq (by omega) (by omega)).mp (hc.symm.trans q2)
  subst this
  refine ⟨fun x hx => ?_, ?_⟩
  · rcases List.mem_append.mp hx with hx | hx
    · obtain ⟨y, hy, rfl⟩ := List.mem_map.mp hx
      obtain ⟨hr, ⟨f, hf, ef⟩, hlt, hto⟩ := W.1 y hy
      by_cases h : y.2.2.1 = 2147483647 ∧ ss_q cr cow (8 * t) c y.1 = true
      · rw [ss_cloY h]
        refine ⟨hr, ⟨f, by omega, ef⟩, ?_, Or.inr ⟨cl + 1, by omega, rfl⟩⟩
        show y.2.1 < nI (cl + 1)
        rw [ef]; exact nI_lt (by omega) (by omega)
      · rw [ss_cloN h]
        refine ⟨hr, ⟨f, by omega, ef⟩, hlt, ?_⟩
        rcases hto with e | ⟨u, hu, e⟩
        · exact Or.inl e
        · exact Or.inr ⟨u, by omega, e⟩
    · obtain ⟨i, hi, hp, rfl⟩ := ss_flM.mp hx
      exact ⟨q3 i hi, ⟨cl + 1, by omega, rfl⟩, ss_ltnv hcl, Or.inl rfl⟩
  · rw [List.pairwise_append]
    refine ⟨?_, ?_, ?_⟩
    · rw [List.pairwise_map]
      refine W.2.imp_of_mem fun {x y} hx hy hd e => ?_
      rw [ss_clo1.1, ss_clo1.1] at e
      rw [ss_clo1.2.1, ss_clo1.2.1]
      obtain ⟨-, ⟨f, hf, ef⟩, -⟩ := W.1 x hx
      obtain ⟨-, ⟨g, hg, eg⟩, -⟩ := W.1 y hy
      rcases hd e with h | h
      · refine Or.inl ?_
        rw [ss_cloN]
        · exact h
        · rintro ⟨z, -⟩; rw [z, eg] at h; exact ss_nvle (by omega) h
      · refine Or.inr ?_
        rw [ss_cloN]
        · exact h
        · rintro ⟨z, -⟩; rw [z, ef] at h; exact ss_nvle (by omega) h
    · unfold ss_nw ss_fl
      rw [List.pairwise_map]
      refine List.Pairwise.imp_of_mem ?_ ((List.nodup_range (n := c)).filter _)
      intro i j hi hj hne e
      exact absurd (q4 i j (List.mem_range.mp (List.mem_filter.mp hi).1) (List.mem_range.mp (List.mem_filter.mp hj).1) e) hne
    · intro x hx y hy e
      obtain ⟨z, hz, rfl⟩ := List.mem_map.mp hx
      obtain ⟨i, hi, hp, rfl⟩ := ss_flM.mp hy
      refine Or.inl ?_
      rw [ss_clo1.1] at e
      show _ ≤ nI (cl + 1)
      have h0 : cow (8 * t + i) = 0 := by
        by_cases h : cow (8 * t + i) = 0
        · exact h
        · exact absurd e ((TL t c ht ho hc hc8 i hi).2 h z hz)
      obtain ⟨-, -, -, hto⟩ := W.1 z hz
      by_cases hn : z.2.2.1 = 2147483647
      · rw [ss_cloY ⟨hn, ss_qT.mpr ⟨i, hi, h0, e.symm⟩⟩]
        exact Int32.le_refl _
      · rw [ss_cloN (fun w => hn w.1)]
        rcases hto with e | ⟨u, hu, e⟩
        · exact absurd e hn
        · rw [e]; exact nI_le (by omega) (by omega)
theorem ss_G2b (T : ss_Tb cl rw op st chs cr cow) : ss_Tb (cl + 1) rw (upd op t 0) st chs cr cow := by
  intro t1 h1 h2
  obtain ⟨⟨s, hs, es⟩, h3⟩ := ss_G7b (t := t) T t1 h1 h2
  exact ⟨⟨s, by omega, es⟩, h3⟩
theorem ss_G2l {ch gone : Nat → Int32} (hcl : cl + 1 ≤ 3072) (T : ss_Tb cl rw op st chs cr cow) (TL : ss_Tl op st chs cr cow L) (ht : t < 4) (ho : ¬ op t = 0) (hc : chs t = nI c) (hc8 : c ≤ 8) :
    ss_Tl (upd op t 0) st chs cr cow (L.map (ss_clo (ss_q cr cow (8 * t) c) (nI (cl + 1))) ++ ss_nw cr ch gone (8 * t) (nI (cl + 1)) c) := by
  intro t1 c1 h1 h2 h3 h4 i hi
  have e : t1 ≠ t := by rintro rfl; rw [pk_us] at h2; exact h2 rfl
  rw [pk_un e] at h2
  obtain ⟨k1, k2⟩ := TL t1 c1 h1 h2 h3 h4 i hi
  refine ⟨fun z => ?_, fun z x hx => ?_⟩
  · obtain ⟨x, hx, e1, e2⟩ := k1 z
    refine ⟨_, List.mem_append_left _ (List.mem_map_of_mem hx), by rw [ss_clo1.1]; exact e1, ?_⟩
    obtain ⟨⟨s, hs, es⟩, -⟩ := T t1 h1 h2
    rw [es] at e2 ⊢
    rw [ss_clh hcl hs]; exact e2
  · rcases List.mem_append.mp hx with hx | hx
    · obtain ⟨y, hy, rfl⟩ := List.mem_map.mp hx
      rw [ss_clo1.1]
      exact k2 z y hy
    · obtain ⟨j, hj, hp, rfl⟩ := ss_flM.mp hx
      show ¬ cr (8 * t + j) = cr (8 * t1 + i)
      by_cases w : cow (8 * t + j) = 0
      · obtain ⟨y, hy, e1, -⟩ := (TL t c ht ho hc hc8 j hj).1 w
        rw [← e1]
        exact k2 z y hy
      · obtain ⟨-, c2, q1, q2, -, -, q5⟩ := T t ht ho
        have := (nI_eq (by omega) (by omega)).mp (hc.symm.trans q2)
        subst this
        exact q5 t1 c1 h1 h2 h3 h4 e j i hj hi w z
theorem ss_nwL {ch gone : Nat → Int32} {nc : Nat} (hn : nc ≤ 3072) {b : Nat} {op' : Nat → Int32} : (ss_nw cr ch gone b (nI nc) c).filter (ss_lv (nI nc) op' st (-1)) = ss_nw cr ch gone b (nI nc) c := by
  rw [List.filter_eq_self]
  intro x hx
  obtain ⟨i, hi, hp, rfl⟩ := ss_flM.mp hx
  exact ss_lvC (ss_hT.mpr ⟨Int32.le_refl _, ss_ltnv hn⟩)
theorem ss_mapF {ch gone : Nat → Int32} (hcl : cl + 1 ≤ 3072) : (L.map (ss_clo (ss_q cr cow (8 * t) c) (nI (cl + 1))) ++ ss_nw cr ch gone (8 * t) (nI (cl + 1)) c).filter (ss_lv (nI (cl + 1)) (upd op t 0) st (-1)) =
    (L.filter (ss_bh cl op st t (ss_q cr cow (8 * t) c))).map (ss_clo (ss_q cr cow (8 * t) c) (nI (cl + 1))) ++ ss_nw cr ch gone (8 * t) (nI (cl + 1)) c := by
  rw [List.filter_append, ss_nwL hcl, List.filter_map]
  rfl
theorem ss_mapC {ch gone : Nat → Int32} (hcl : cl + 1 ≤ 3072) : (L.map (ss_clo (ss_q cr cow (8 * t) c) (nI (cl + 1))) ++ ss_nw cr ch gone (8 * t) (nI (cl + 1)) c).countP (ss_lv (nI (cl + 1)) (upd op t 0) st (-1)) =
    L.countP (ss_bh cl op st t (ss_q cr cow (8 * t) c)) + (ss_nw cr ch gone (8 * t) (nI (cl + 1)) c).length := by
  rw [List.countP_eq_length_filter, ss_mapF hcl, List.length_append, List.length_map, ← List.countP_eq_length_filter]
end
end
section
/-! codes of a column -/
def ss_sb (w : Nat → Nat) (p : Nat) : Bool := (w (p / 64)).testBit (p % 64)
def ss_Fr (b : Nat) (w : Nat → Nat) (base : Int32) (n : Nat) (val : Nat → Int32) : Prop := ∀ i, i < n → ∃ D, D < 2 ^ b ∧ base + nI D = val i ∧ ∀ j, j < b → ss_sb w (b * i + j) = D.testBit j
def ss_Wd (W : Nat → Int64) (w : Nat → Nat) : Prop := ∀ j, j < 4 → w j < 2 ^ 64 ∧ W j = lN (w j)
def ss_C0 (bits base : Int32) (W : Nat → Int64) (n : Nat) (val : Nat → Int32) : Prop := ∃ b w, b ≤ 32 ∧ bits = nI b ∧ ss_Wd W w ∧ ss_Fr b w base n val
def ss_C1 (W : Int64) (d : Nat → Int32) (n : Nat) (val : Nat → Int32) : Prop := ∃ s1 s2 s3, s1 ≤ s2 ∧ s2 ≤ s3 ∧ s3 ≤ n ∧ W = lN (s1 + (s2 - s1) * 16 + (s3 - s2) * 256 + (n - s3) * 4096) ∧
  (∀ i, i < s1 → d 0 = val i) ∧ (∀ i, s1 ≤ i → i < s2 → d 1 = val i) ∧ (∀ i, s2 ≤ i → i < s3 → d 2 = val i) ∧ ∀ i, s3 ≤ i → i < n → d 3 = val i
def ss_C2 (W : Int64) (d : Nat → Int32) (n : Nat) (val : Nat → Int32) : Prop := ∃ w, w < 65536 ∧ W = lN w ∧ ∀ i, i < n → d (w / 2 ^ (2 * i) % 4) = val i
def ss_Cod (sort bits base : Nat → Int32) (words : Nat → Int64) (dict : Nat → Int32) (k n : Nat) (val : Nat → Int32) : Prop :=
  (sort k = 0 ∧ ss_C0 (bits k) (base k) (fun j => words (4 * k + j)) n val) ∨ (sort k = 1 ∧ ss_C1 (words (4 * k)) (fun j => dict (4 * k + j)) n val) ∨ (sort k = 2 ∧ ss_C2 (words (4 * k)) (fun j => dict (4 * k + j)) n val)
theorem ss_unp1 {b a D : Nat} {w : Nat → Nat} (hb : b ≤ 32) (hD : D < 2 ^ b) (hj : ∀ j, j < b → ss_sb w (a + j) = D.testBit j) (h : a % 64 + b ≤ 64) : w (a / 64) / 2 ^ (a % 64) % 2 ^ b = D := by
  apply Nat.eq_of_testBit_eq
  intro j
  rw [Nat.testBit_mod_two_pow, Nat.testBit_div_two_pow]
  by_cases hjb : j < b
  · have := hj j hjb
    unfold ss_sb at this
    rw [show (a + j) / 64 = a / 64 by omega, show (a + j) % 64 = j + a % 64 by omega] at this
    simp only [hjb, decide_true, Bool.true_and, this]
  · have : D.testBit j = false := Nat.testBit_lt_two_pow (Nat.lt_of_lt_of_le hD (Nat.pow_le_pow_right (by decide) (by omega)))
    simp only [hjb, decide_false, Bool.false_and, this]
theorem ss_unp2 {b a D : Nat} {w : Nat → Nat} (hb : b ≤ 32) (hD : D < 2 ^ b) (hw : w (a / 64) < 2 ^ 64) (hj : ∀ j, j < b → ss_sb w (a + j) = D.testBit j) (h : 64 < a % 64 + b) : (w (a / 64) / 2 ^ (a % 64) ||| (w (a / 64 + 1) * 2 ^ (64 - a % 64)) % 2 ^ 64) % 2 ^ b = D := by
  apply Nat.eq_of_testBit_eq
  intro j
  rw [Nat.testBit_mod_two_pow, Nat.testBit_or, Nat.testBit_div_two_pow, Nat.testBit_mod_two_pow, Nat.testBit_mul_two_pow]
  by_cases hjb : j < b
  · have := hj j hjb
    unfold ss_sb at this
    simp only [hjb, decide_true, Bool.true_and]
    by_cases h2 : j < 64 - a % 64
    · rw [show (a + j) / 64 = a / 64 by omega, show (a + j) % 64 = j + a % 64 by omega] at this
      have n2 : ¬ 64 - a % 64 ≤ j := by omega
      simp only [n2, decide_false, Bool.false_and, Bool.and_false, Bool.or_false, this]
    · rw [show (a + j) / 64 = a / 64 + 1 by omega, show (a + j) % 64 = j - (64 - a % 64) by omega] at this
      have n2 : 64 - a % 64 ≤ j := by omega
      have n3 : j < 64 := by omega
      have n4 : (w (a / 64)).testBit (j + a % 64) = false := Nat.testBit_lt_two_pow (Nat.lt_of_lt_of_le hw (Nat.pow_le_pow_right (by decide) (by omega)))
      simp only [n2, n3, n4, decide_true, Bool.true_and, Bool.false_or, this]
  · have : D.testBit j = false := Nat.testBit_lt_two_pow (Nat.lt_of_lt_of_le hD (Nat.pow_le_pow_right (by decide) (by omega)))
    simp only [hjb, decide_false, Bool.false_and, this]
theorem ss_bi8 {b i : Nat} (hb : b ≤ 32) (hi : i < 8) : b * i + b ≤ 256 := by
  have : b * (i + 1) ≤ 32 * 8 := Nat.mul_le_mul hb (by omega)
  rw [Nat.mul_add, Nat.mul_one] at this
  exact this
theorem ss_an63 {v : Nat} (h : v < 2 ^ 31) : nI v &&& 63 = nI (v % 64) := pk_andN (by omega) 6 (by decide)
theorem ss_sh6 {v : Nat} (h : v < 2 ^ 31) : nI v >>> ((6 : Int32) &&& 31) = nI (v / 64) := pk_shrN h _ 6 (by decide)
theorem ss_64m {v : Nat} (h : v ≤ 64) : (64 : Int32) - nI v = nI (64 - v) := pk_sub (a := 64) h
theorem ss_msk {b : Nat} (hb : b ≤ 32) : ((1 : Int64) <<< ((nI b).toInt64 &&& 63)) - 1 = lN (2 ^ b - 1) := by
  have h1 : (1 : Int64) = lN 1 := rfl
  rw [h1, wb_shl 1 (by omega), Nat.one_mul, lN_sub (Nat.two_pow_pos b)]
theorem ss_smd {k : Nat} (h : k < 64) : (((nI k).toInt64 &&& 63).toBitVec.smod 64).toNat = k := by
  rw [wb_c k h, wb_tb]
  have := wb_sm k h
  rw [show (64 : BitVec 64) = 64#64 from rfl] at *
  rw [this, BitVec.toNat_ofNat]
  omega
theorem ss_dig {w k : Nat} (hw : w < 65536) (hk : k < 64) : (((lN w >>> ((nI k).toInt64 &&& 63)) &&& 15).toInt32) = nI (w / 2 ^ k % 16) := by
  rw [pf_shr (ss_smd hk) (by omega)]
  have : w / 2 ^ k ≤ w := Nat.div_le_self _ _
  have e := g_mask (a := w / 2 ^ k) (s := 4) (p := 16) rfl (by decide) (by omega)
  rw [show (15 : Int64) = lN (16 - 1) from rfl, e, lN_i]
theorem ss_di2 {w k : Nat} (hw : w < 65536) (hk : k < 64) : (((lN w >>> ((nI k).toInt64 &&& 63)) &&& 3).toInt32) = nI (w / 2 ^ k % 4) := by
  rw [pf_shr (ss_smd hk) (by omega)]
  have : w / 2 ^ k ≤ w := Nat.div_le_self _ _
  have e := g_mask (a := w / 2 ^ k) (s := 2) (p := 4) rfl (by decide) (by omega)
  rw [show (3 : Int64) = lN (4 - 1) from rfl, e, lN_i]
theorem ss_dg0 {a b c d : Nat} (h : a < 16) : (a + b * 16 + c * 256 + d * 4096) / 2 ^ (4 * 0) % 16 = a := by
  rw [show (2 : Nat) ^ (4 * 0) = 1 from rfl]; omega
theorem ss_dg1 {a b c d : Nat} (h : a < 16) (hb : b < 16) : (a + b * 16 + c * 256 + d * 4096) / 2 ^ (4 * 1) % 16 = b := by
  rw [show (2 : Nat) ^ (4 * 1) = 16 from rfl, show (a + b * 16 + c * 256 + d * 4096) / 16 = b + 16 * (c + d * 16) by omega]; omega
theorem ss_dg2 {a b c d : Nat} (h : a < 16) (hb : b < 16) (hc : c < 16) : (a + b * 16 + c * 256 + d * 4096) / 2 ^ (4 * 2) % 16 = c := by
  rw [show (2 : Nat) ^ (4 * 2) = 256 from rfl, show (a + b * 16 + c * 256 + d * 4096) / 256 = c + 16 * d by omega]; omega
theorem ss_dg3 {a b c d : Nat} (h : a < 16) (hb : b < 16) (hc : c < 16) (hd : d < 16) : (a + b * 16 + c * 256 + d * 4096) / 2 ^ (4 * 3) % 16 = d := by
  rw [show (2 : Nat) ^ (4 * 3) = 4096 from rfl, show (a + b * 16 + c * 256 + d * 4096) / 4096 = d by omega]; omega
section
variable {f_segments f_added f_kept f_clock f_rows f_many : Int32} {a_row a_from a_to a_held a_sort a_bits a_base a_least a_greatest a_dictionary a_dRow a_dFrom a_dTo a_dValue a_wRow a_wFrom a_wTo a_wValue a_open a_start a_changed a_change a_changes a_fresh a_gone a_column a_low a_high a_found a_value : Nat → Int32} {a_words : Nat → Int64}
variable {k n g c i : Nat} {val : Nat → Int32}
theorem ss_xun {post : Int64 → Prop} {b : Nat} {w : Nat → Nat} (hk : k < 18) (hi : i < 8) (hb : b ≤ 32) (eb : a_bits k = nI b) (hw : ss_Wd (fun j => a_words (4 * k + j)) w) {D : Nat} (hD : D < 2 ^ b)
    (hj : ∀ j, j < b → ss_sb w (b * i + j) = D.testBit j) (h : post (lN D)) : wpX_unpack post (f_segments, f_added, f_kept, f_clock, f_rows, f_many, a_row, a_from, a_to, a_held, a_sort, a_bits, a_base, a_least, a_greatest, a_words, a_dictionary, a_dRow, a_dFrom, a_dTo, a_dValue, a_wRow, a_wFrom, a_wTo, a_wValue, a_open, a_start, a_changed, a_change, a_changes, a_fresh, a_gone, a_column, a_low, a_high, a_found, a_value) (nI k) (nI i) := by
  have h8 := ss_bi8 hb hi
  simp (disch := omega) only [wpX_unpack, ss_a0, ss_b0, ss_c0, ss_d0, ss_e0, ss_a1, ss_b1, ss_c1, ss_d1, ss_e1, ss_a2, ss_b2, ss_c2, ss_d2, ss_e2, ss_a3, ss_b3, ss_c3, ss_d3, ss_e3, ss_a4, ss_b4, ss_c4, ss_d4, ss_e4, ss_a5, ss_b5, ss_c5, ss_d5, ss_e5, ss_a8, ss_b8, ss_c8, ss_d8, ss_e8, ss_a32, ss_b32, ss_c32, ss_d32, ss_e32, ss_a40, ss_b40, ss_c40, ss_d40, ss_e40, ss_a48, ss_b48, ss_c48, ss_d48, ss_e48, ss_a64, ss_b64, ss_c64, ss_d64, ss_e64, ss_m2, ss_m3, ss_m4, ss_m8, ss_p2, ss_p3, ss_p4, ss_p8, ss_48p, ss_in, nI_add, nI_1, nI_clamp, nI_leI, nI_ltI, nI_eq, forall_eq, true_and, and_true, eb, pk_mul]
  generalize b * i = a at *
  simp (disch := omega) only [ss_an63, ss_sh6, ss_a0, ss_b0, ss_c0, ss_d0, ss_e0, ss_a1, ss_b1, ss_c1, ss_d1, ss_e1, ss_a2, ss_b2, ss_c2, ss_d2, ss_e2, ss_a3, ss_b3, ss_c3, ss_d3, ss_e3, ss_a4, ss_b4, ss_c4, ss_d4, ss_e4, ss_a5, ss_b5, ss_c5, ss_d5, ss_e5, ss_a8, ss_b8, ss_c8, ss_d8, ss_e8, ss_a32, ss_b32, ss_c32, ss_d32, ss_e32, ss_a40, ss_b40, ss_c40, ss_d40, ss_e40, ss_a48, ss_b48, ss_c48, ss_d48, ss_e48, ss_a64, ss_b64, ss_c64, ss_d64, ss_e64, ss_m2, ss_m3, ss_m4, ss_m8, ss_p2, ss_p3, ss_p4, ss_p8, ss_48p, ss_in, nI_add, nI_1, nI_clamp, nI_leI, nI_ltI, nI_eq, forall_eq, true_and, and_true]
  refine ⟨by omega, fun z => ?_, fun z => ⟨by omega, ?_⟩⟩
  · subst z
    have : D = 0 := by omega
    subst this; exact h
  · obtain ⟨w1, w2⟩ := hw (a / 64) (by omega)
    dsimp only at w2
    rw [w2, wb_shr w1 (by omega)]
    have l1 : w (a / 64) / 2 ^ (a % 64) < 2 ^ 64 := Nat.lt_of_le_of_lt (Nat.div_le_self _ _) w1
    refine ⟨fun hle => ?_, fun hle => ⟨by omega, ?_⟩⟩
    · unfold wX_unpack_77
      rw [ss_msk hb, wb_mask l1 (by omega), ss_unp1 hb hD hj hle]
      exact h
    · obtain ⟨u1, u2⟩ := hw (a / 64 + 1) (by omega)
      dsimp only at u2
      unfold wX_unpack_77
      rw [show 4 * k + a / 64 + 1 = 4 * k + (a / 64 + 1) by omega, u2, ss_64m (by omega), wb_shl _ (by omega), wb_mod (w (a / 64 + 1) * _), wb_or l1 (Nat.mod_lt _ (by decide)), ss_msk hb, wb_mask (Nat.or_lt_two_pow l1 (Nat.mod_lt _ (by decide))) (by omega), ss_unp2 hb hD w1 hj (by omega)]
      exact h
theorem ss_d46 {post : Int32 → Prop} {f r l d w : Nat} (hk : k < 18) (hr : r < 4) (hl : l < 100) (ew : a_words (4 * k) = lN w) (hw : w < 65536) (hd : w / 2 ^ (4 * r) % 16 = d)
    (h1 : l < d → post (a_dictionary (4 * k + r))) (h2 : d ≤ l → wX_decode_46 post (nI k) f_segments f_added f_kept f_clock f_rows f_many a_row a_from a_to a_held a_sort a_bits a_base a_least a_greatest a_words a_dictionary a_dRow a_dFrom a_dTo a_dValue a_wRow a_wFrom a_wTo a_wValue a_open a_start a_changed a_change a_changes a_fresh a_gone a_column a_low a_high a_found a_value f (nI (r + 1)) (nI (l - d))) : wX_decode_46 post (nI k) f_segments f_added f_kept f_clock f_rows f_many a_row a_from a_to a_held a_sort a_bits a_base a_least a_greatest a_words a_dictionary a_dRow a_dFrom a_dTo a_dValue a_wRow a_wFrom a_wTo a_wValue a_open a_start a_changed a_change a_changes a_fresh a_gone a_column a_low a_high a_found a_value (f + 1) (nI r) (nI l) := by
  have hd16 : d < 16 := by omega
  simp (disch := omega) only [wX_decode_46, ss_a0, ss_b0, ss_c0, ss_d0, ss_e0, ss_a1, ss_b1, ss_c1, ss_d1, ss_e1, ss_a2, ss_b2, ss_c2, ss_d2, ss_e2, ss_a3, ss_b3, ss_c3, ss_d3, ss_e3, ss_a4, ss_b4, ss_c4, ss_d4, ss_e4, ss_a5, ss_b5, ss_c5, ss_d5, ss_e5, ss_a8, ss_b8, ss_c8, ss_d8, ss_e8, ss_a32, ss_b32, ss_c32, ss_d32, ss_e32, ss_a40, ss_b40, ss_c40, ss_d40, ss_e40, ss_a48, ss_b48, ss_c48, ss_d48, ss_e48, ss_a64, ss_b64, ss_c64, ss_d64, ss_e64, ss_m2, ss_m3, ss_m4, ss_m8, ss_p2, ss_p3, ss_p4, ss_p8, ss_48p, ss_in, nI_add, nI_1, nI_clamp, nI_leI, nI_ltI, nI_eq, forall_eq, true_and, and_true, ew, ss_dig, hd]
  refine ⟨by omega, fun z => ⟨by omega, h1 z⟩, fun z => ⟨by omega, ?_⟩⟩
  rw [pk_sub (by omega)]
  exact h2 (by omega)
theorem ss_xde {post : Int32 → Prop} (hg : g < 6) (hc : c < 3) (hi : i < n) (hn : n ≤ 8) (C : ss_Cod a_sort a_bits a_base a_words a_dictionary (3 * g + c) n val) (h : post (val i)) : wpX_decode post (f_segments, f_added, f_kept, f_clock, f_rows, f_many, a_row, a_from, a_to, a_held, a_sort, a_bits, a_base, a_least, a_greatest, a_words, a_dictionary, a_dRow, a_dFrom, a_dTo, a_dValue, a_wRow, a_wFrom, a_wTo, a_wValue, a_open, a_start, a_changed, a_change, a_changes, a_fresh, a_gone, a_column, a_low, a_high, a_found, a_value) (nI g) (nI c) (nI i) := by
  have hk : 3 * g + c < 18 := by omega
  simp (disch := omega) only [wpX_decode, ss_a0, ss_b0, ss_c0, ss_d0, ss_e0, ss_a1, ss_b1, ss_c1, ss_d1, ss_e1, ss_a2, ss_b2, ss_c2, ss_d2, ss_e2, ss_a3, ss_b3, ss_c3, ss_d3, ss_e3, ss_a4, ss_b4, ss_c4, ss_d4, ss_e4, ss_a5, ss_b5, ss_c5, ss_d5, ss_e5, ss_a8, ss_b8, ss_c8, ss_d8, ss_e8, ss_a32, ss_b32, ss_c32, ss_d32, ss_e32, ss_a40, ss_b40, ss_c40, ss_d40, ss_e40, ss_a48, ss_b48, ss_c48, ss_d48, ss_e48, ss_a64, ss_b64, ss_c64, ss_d64, ss_e64, ss_m2, ss_m3, ss_m4, ss_m8, ss_p2, ss_p3, ss_p4, ss_p8, ss_48p, ss_in, nI_add, nI_1, nI_clamp, nI_leI, nI_ltI, nI_eq, forall_eq, true_and, and_true]
  generalize 3 * g + c = k at *
  refine ⟨hk, ?_⟩
  rcases C with ⟨hs, b, w, hb, eb, hw, hf⟩ | ⟨hs, s1, s2, s3, h12, h23, h3n, ew, k1, k2, k3, k4⟩ | ⟨hs, w, hw, ew, hd⟩
  · rw [hs]
    obtain ⟨D, hD, ev, hj⟩ := hf i hi
    refine ⟨fun z => absurd z (by decide), fun _ => ⟨fun z => absurd z (by decide), fun _ => ⟨hk, ?_⟩⟩⟩
    refine ss_xun hk (by omega) hb eb hw hD hj ?_
    rw [lN_i, ev]; exact h
  · rw [hs]
    refine ⟨fun _ => ⟨4, ?_⟩, fun z => absurd rfl z⟩
    refine ss_d46 (r := 0) (d := s1) hk (by omega) (by omega) ew (by omega) (ss_dg0 (by omega)) (fun z => by rw [Nat.add_zero, show a_dictionary (4 * k) = val i from k1 i z]; exact h) fun z1 => ?_
    refine ss_d46 (r := 1) (d := s2 - s1) hk (by omega) (by omega) ew (by omega) (ss_dg1 (by omega) (by omega)) (fun z => by rw [show a_dictionary (4 * k + 1) = val i from k2 i z1 (by omega)]; exact h) fun z2 => ?_
    refine ss_d46 (r := 2) (d := s3 - s2) hk (by omega) (by omega) ew (by omega) (ss_dg2 (by omega) (by omega) (by omega)) (fun z => by rw [show a_dictionary (4 * k + 2) = val i from k3 i (by omega) (by omega)]; exact h) fun z3 => ?_
    refine ss_d46 (r := 3) (d := n - s3) hk (by omega) (by omega) ew (by omega) (ss_dg3 (by omega) (by omega) (by omega) (by omega)) (fun z => by rw [show a_dictionary (4 * k + 3) = val i from k4 i (by omega) (by omega)]; exact h) fun z4 => ?_
    omega
  · rw [hs]
    refine ⟨fun z => absurd z (by decide), fun _ => ⟨fun _ => ⟨by omega, ?_⟩, fun z => absurd rfl z⟩⟩
    have hm : w / 2 ^ (2 * i) % 4 < 4 := Nat.mod_lt _ (by decide)
    rw [ew, ss_di2 hw (by omega)]
    simp (disch := omega) only [ss_a0, ss_b0, ss_c0, ss_d0, ss_e0, ss_a1, ss_b1, ss_c1, ss_d1, ss_e1, ss_a2, ss_b2, ss_c2, ss_d2, ss_e2, ss_a3, ss_b3, ss_c3, ss_d3, ss_e3, ss_a4, ss_b4, ss_c4, ss_d4, ss_e4, ss_a5, ss_b5, ss_c5, ss_d5, ss_e5, ss_a8, ss_b8, ss_c8, ss_d8, ss_e8, ss_a32, ss_b32, ss_c32, ss_d32, ss_e32, ss_a40, ss_b40, ss_c40, ss_d40, ss_e40, ss_a48, ss_b48, ss_c48, ss_d48, ss_e48, ss_a64, ss_b64, ss_c64, ss_d64, ss_e64, ss_m2, ss_m3, ss_m4, ss_m8, ss_p2, ss_p3, ss_p4, ss_p8, ss_48p, ss_in, nI_add, nI_1, nI_clamp, nI_leI, nI_ltI, nI_eq, forall_eq, true_and, and_true]
    refine ⟨by omega, ?_⟩
    rw [show a_dictionary (4 * k + w / 2 ^ (2 * i) % 4) = val i from hd i hi]
    exact h
end
end
section
/-! storing codes -/
def ss_f4 {α : Type} (f f' : Nat → α) (k : Nat) : Prop := ∀ j, j < 4 * k ∨ 4 * k + 4 ≤ j → f' j = f j
theorem ss_f4u {f : Nat → Int32} {k j : Nat} {x : Int32} (h : j < 4) : ss_f4 f (upd f (4 * k + j) x) k := fun _ hi => pk_un (by omega)
theorem ss_f4L {f : Nat → Int64} {k j : Nat} {x : Int64} (h : j < 4) : ss_f4 f (vp_updL f (4 * k + j) x) k := fun _ hi => pk_uLn (by omega)
theorem ss_f4r {α : Type} {f : Nat → α} {k : Nat} : ss_f4 f f k := fun _ _ => rfl
theorem ss_f4t {α : Type} {f g h : Nat → α} {k : Nat} (a : ss_f4 f g k) (b : ss_f4 g h k) : ss_f4 f h k := fun j hj => (b j hj).trans (a j hj)
/-- the words with a number put in -/
def ss_pw (w : Nat → Nat) (a b D : Nat) : Nat → Nat := fun j => if j = a / 64 then w j ||| (D * 2 ^ (a % 64)) % 2 ^ 64 else if j = a / 64 + 1 ∧ 64 < a % 64 + b then w j ||| D / 2 ^ (64 - a % 64) else w j
theorem ss_pwB {w : Nat → Nat} {a b D p : Nat} (hb : b ≤ 32) (hD : D < 2 ^ b) : ss_sb (ss_pw w a b D) p = (ss_sb w p || (decide (a ≤ p) && D.testBit (p - a))) := by
  have hz : ∀ j, b ≤ j → D.testBit j = false := fun j hj => Nat.testBit_lt_two_pow (Nat.lt_of_lt_of_le hD (Nat.pow_le_pow_right (by decide) hj))
  unfold ss_sb ss_pw
  by_cases h1 : p / 64 = a / 64
  · rw [if_pos h1, Nat.testBit_or, Nat.testBit_mod_two_pow, Nat.testBit_mul_two_pow]
    have l : p % 64 < 64 := Nat.mod_lt _ (by decide)
    by_cases h2 : a ≤ p
    · have e1 : a % 64 ≤ p % 64 := by omega
      have e2 : p % 64 - a % 64 = p - a := by omega
      simp only [l, h2, e1, e2, decide_true, Bool.true_and]
    · have e1 : ¬ a % 64 ≤ p % 64 := by omega
      simp only [l, h2, e1, decide_true, decide_false, Bool.true_and, Bool.false_and]
  · rw [if_neg h1]
    by_cases h3 : p / 64 = a / 64 + 1 ∧ 64 < a % 64 + b
    · rw [if_pos h3, Nat.testBit_or, Nat.testBit_div_two_pow]
      have h2 : a ≤ p := by omega
      have e2 : p % 64 + (64 - a % 64) = p - a := by omega
      simp only [h2, e2, decide_true, Bool.true_and]
    · rw [if_neg h3]
      by_cases h2 : a ≤ p
      · have : D.testBit (p - a) = false := by
          apply hz
          by_cases h4 : p / 64 = a / 64 + 1
          · have : ¬ 64 < a % 64 + b := fun z => h3 ⟨h4, z⟩
            omega
          · omega
        simp only [this, Bool.and_false, Bool.or_false]
      · simp only [h2, decide_false, Bool.false_and, Bool.or_false]
theorem ss_pwL {w : Nat → Nat} {a b D j : Nat} (hb : b ≤ 32) (hD : D < 2 ^ b) (h : w j < 2 ^ 64) : ss_pw w a b D j < 2 ^ 64 := by
  have hD' : D < 2 ^ 64 := Nat.lt_of_lt_of_le hD (Nat.pow_le_pow_right (by decide) (by omega))
  unfold ss_pw
  by_cases h1 : j = a / 64
  · rw [if_pos h1]; exact Nat.or_lt_two_pow h (Nat.mod_lt _ (by decide))
  · rw [if_neg h1]
    by_cases h3 : j = a / 64 + 1 ∧ 64 < a % 64 + b
    · rw [if_pos h3]; exact Nat.or_lt_two_pow h (Nat.lt_of_le_of_lt (Nat.div_le_self _ _) hD')
    · rw [if_neg h3]; exact h
section
variable {f_segments f_added f_kept f_clock f_rows f_many : Int32} {a_row a_from a_to a_held a_sort a_bits a_base a_least a_greatest a_dictionary a_dRow a_dFrom a_dTo a_dValue a_wRow a_wFrom a_wTo a_wValue a_open a_start a_changed a_change a_changes a_fresh a_gone a_column a_low a_high a_found a_value : Nat → Int32} {a_words : Nat → Int64}
variable {k n g c i : Nat} {val : Nat → Int32}
theorem ss_xpb {post : SX → Prop} {b D : Nat} {w : Nat → Nat} (hk : k < 18) (hi : i < 8) (hb : b ≤ 32) (eb : a_bits k = nI b) (hw : ss_Wd (fun j => a_words (4 * k + j)) w) (hD : D < 2 ^ b)
    (h : ∀ ws : Nat → Int64, ss_f4 a_words ws k → ss_Wd (fun j => ws (4 * k + j)) (ss_pw w (b * i) b D) → post (f_segments, f_added, f_kept, f_clock, f_rows, f_many, a_row, a_from, a_to, a_held, a_sort, a_bits, a_base, a_least, a_greatest, ws, a_dictionary, a_dRow, a_dFrom, a_dTo, a_dValue, a_wRow, a_wFrom, a_wTo, a_wValue, a_open, a_start, a_changed, a_change, a_changes, a_fresh, a_gone, a_column, a_low, a_high, a_found, a_value)) : wpX_packBits post (f_segments, f_added, f_kept, f_clock, f_rows, f_many, a_row, a_from, a_to, a_held, a_sort, a_bits, a_base, a_least, a_greatest, a_words, a_dictionary, a_dRow, a_dFrom, a_dTo, a_dValue, a_wRow, a_wFrom, a_wTo, a_wValue, a_open, a_start, a_changed, a_change, a_changes, a_fresh, a_gone, a_column, a_low, a_high, a_found, a_value) (nI k) (nI i) (lN D) := by
  have h8 := ss_bi8 hb hi
  have hD' : D < 2 ^ 64 := Nat.lt_of_lt_of_le hD (Nat.pow_le_pow_right (by decide) (by omega))
  simp (disch := omega) only [wpX_packBits, ss_a0, ss_b0, ss_c0, ss_d0, ss_e0, ss_a1, ss_b1, ss_c1, ss_d1, ss_e1, ss_a2, ss_b2, ss_c2, ss_d2, ss_e2, ss_a3, ss_b3, ss_c3, ss_d3, ss_e3, ss_a4, ss_b4, ss_c4, ss_d4, ss_e4, ss_a5, ss_b5, ss_c5, ss_d5, ss_e5, ss_a8, ss_b8, ss_c8, ss_d8, ss_e8, ss_a32, ss_b32, ss_c32, ss_d32, ss_e32, ss_a40, ss_b40, ss_c40, ss_d40, ss_e40, ss_a48, ss_b48, ss_c48, ss_d48, ss_e48, ss_a64, ss_b64, ss_c64, ss_d64, ss_e64, ss_m2, ss_m3, ss_m4, ss_m8, ss_p2, ss_p3, ss_p4, ss_p8, ss_48p, ss_in, nI_add, nI_1, nI_clamp, nI_leI, nI_ltI, nI_eq, forall_eq, true_and, and_true, eb, pk_mul]
  generalize b * i = a at *
  simp (disch := omega) only [ss_an63, ss_sh6, ss_a0, ss_b0, ss_c0, ss_d0, ss_e0, ss_a1, ss_b1, ss_c1, ss_d1, ss_e1, ss_a2, ss_b2, ss_c2, ss_d2, ss_e2, ss_a3, ss_b3, ss_c3, ss_d3, ss_e3, ss_a4, ss_b4, ss_c4, ss_d4, ss_e4, ss_a5, ss_b5, ss_c5, ss_d5, ss_e5, ss_a8, ss_b8, ss_c8, ss_d8, ss_e8, ss_a32, ss_b32, ss_c32, ss_d32, ss_e32, ss_a40, ss_b40, ss_c40, ss_d40, ss_e40, ss_a48, ss_b48, ss_c48, ss_d48, ss_e48, ss_a64, ss_b64, ss_c64, ss_d64, ss_e64, ss_m2, ss_m3, ss_m4, ss_m8, ss_p2, ss_p3, ss_p4, ss_p8, ss_48p, ss_in, nI_add, nI_1, nI_clamp, nI_leI, nI_ltI, nI_eq, forall_eq, true_and, and_true]
  refine ⟨by omega, fun z => ?_, fun z => ⟨by omega, by omega, ?_⟩⟩
  · subst z
    have : D = 0 := by omega
    subst this
    refine h a_words ss_f4r fun j hj => ?_
    obtain ⟨w1, w2⟩ := hw j hj
    have e : ss_pw w a 0 0 j = w j := by
      unfold ss_pw
      by_cases h1 : j = a / 64
      · rw [if_pos h1]; simp
      · rw [if_neg h1]
        by_cases h3 : j = a / 64 + 1 ∧ 64 < a % 64 + 0
        · rw [if_pos h3]; simp
        · rw [if_neg h3]
    rw [e]; exact ⟨w1, w2⟩
  · obtain ⟨w1, w2⟩ := hw (a / 64) (by omega)
    dsimp only at w2
    rw [w2, wb_shl _ (by omega), wb_mod (D * _), wb_or w1 (Nat.mod_lt _ (by decide))]
    refine ⟨fun hle => ?_, fun hle => ⟨by omega, by omega, ?_⟩⟩
    · refine h _ (ss_f4L (by omega)) fun j hj => ?_
      obtain ⟨u1, u2⟩ := hw j hj
      refine ⟨ss_pwL hb hD u1, ?_⟩
      dsimp only at u2 ⊢
      unfold ss_pw
      by_cases h1 : j = a / 64
      · subst h1; rw [if_pos rfl, pk_uLs]
      · have h3 : ¬ (j = a / 64 + 1 ∧ 64 < a % 64 + b) := by omega
        rw [if_neg h1, if_neg h3, pk_uLn (by omega)]; exact u2
    · obtain ⟨v1, v2⟩ := hw (a / 64 + 1) (by omega)
      dsimp only at v2
      rw [show 4 * k + a / 64 + 1 = 4 * k + (a / 64 + 1) by omega, pk_uLn (by omega), v2, ss_64m (by omega), wb_shr hD' (by omega), wb_or v1 (Nat.lt_of_le_of_lt (Nat.div_le_self _ _) hD')]
      refine h _ (ss_f4t (ss_f4L (by omega)) (ss_f4L (by omega))) fun j hj => ?_
      obtain ⟨u1, u2⟩ := hw j hj
      refine ⟨ss_pwL hb hD u1, ?_⟩
      dsimp only at u2 ⊢
      unfold ss_pw
      by_cases h1 : j = a / 64
      · subst h1; rw [if_pos rfl, pk_uLn (by omega), pk_uLs]
      · rw [if_neg h1]
        by_cases h3 : j = a / 64 + 1
        · subst h3; rw [if_pos ⟨rfl, by omega⟩, pk_uLs]
        · rw [if_neg (fun z => h3 z.1), pk_uLn (by omega), pk_uLn (by omega)]; exact u2
/-! the dictionary -/
/-- the first m of a dictionary hold all values below i, each once; or it is full -/
def ss_Di (d : Nat → Int32) (m i : Nat) (val : Nat → Int32) : Prop := m = 5 ∨ (m ≤ 4 ∧ ∀ j, j < i → ∃ p, p < m ∧ d p = val j)
theorem ss_xent_l {post : Int32 → SX → Prop} {m : Nat} {v : Int32} (hk : k < 18) (hm : m ≤ 4)
    (h1 : ∀ p, p < m → a_dictionary (4 * k + p) = v → post (nI m) (f_segments, f_added, f_kept, f_clock, f_rows, f_many, a_row, a_from, a_to, a_held, a_sort, a_bits, a_base, a_least, a_greatest, a_words, a_dictionary, a_dRow, a_dFrom, a_dTo, a_dValue, a_wRow, a_wFrom, a_wTo, a_wValue, a_open, a_start, a_changed, a_change, a_changes, a_fresh, a_gone, a_column, a_low, a_high, a_found, a_value))
    (h2 : m = 4 → post (nI 5) (f_segments, f_added, f_kept, f_clock, f_rows, f_many, a_row, a_from, a_to, a_held, a_sort, a_bits, a_base, a_least, a_greatest, a_words, a_dictionary, a_dRow, a_dFrom, a_dTo, a_dValue, a_wRow, a_wFrom, a_wTo, a_wValue, a_open, a_start, a_changed, a_change, a_changes, a_fresh, a_gone, a_column, a_low, a_high, a_found, a_value))
    (h3 : m < 4 → post (nI (m + 1)) (f_segments, f_added, f_kept, f_clock, f_rows, f_many, a_row, a_from, a_to, a_held, a_sort, a_bits, a_base, a_least, a_greatest, a_words, upd a_dictionary (4 * k + m) v, a_dRow, a_dFrom, a_dTo, a_dValue, a_wRow, a_wFrom, a_wTo, a_wValue, a_open, a_start, a_changed, a_change, a_changes, a_fresh, a_gone, a_column, a_low, a_high, a_found, a_value)) :
    ∀ f p, p ≤ m → m < f + p → wX_enter_3 post (nI k) (nI m) v f_segments f_added f_kept f_clock f_rows f_many a_row a_from a_to a_held a_sort a_bits a_base a_least a_greatest a_words a_dictionary a_dRow a_dFrom a_dTo a_dValue a_wRow a_wFrom a_wTo a_wValue a_open a_start a_changed a_change a_changes a_fresh a_gone a_column a_low a_high a_found a_value f (nI p) := by
  intro f
  induction f with
  | zero => intro p a b; omega
  | succ f ih =>
    intro p hp hf
    simp (disch := omega) only [wX_enter_3, ss_a0, ss_b0, ss_c0, ss_d0, ss_e0, ss_a1, ss_b1, ss_c1, ss_d1, ss_e1, ss_a2, ss_b2, ss_c2, ss_d2, ss_e2, ss_a3, ss_b3, ss_c3, ss_d3, ss_e3, ss_a4, ss_b4, ss_c4, ss_d4, ss_e4, ss_a5, ss_b5, ss_c5, ss_d5, ss_e5, ss_a8, ss_b8, ss_c8, ss_d8, ss_e8, ss_a32, ss_b32, ss_c32, ss_d32, ss_e32, ss_a40, ss_b40, ss_c40, ss_d40, ss_e40, ss_a48, ss_b48, ss_c48, ss_d48, ss_e48, ss_a64, ss_b64, ss_c64, ss_d64, ss_e64, ss_m2, ss_m3, ss_m4, ss_m8, ss_p2, ss_p3, ss_p4, ss_p8, ss_48p, ss_in, nI_add, nI_1, nI_clamp, nI_leI, nI_ltI, nI_eq, forall_eq, true_and, and_true]
    refine ⟨fun z => ⟨fun h4 => ?_, fun h4 => ⟨by omega, h3 (by omega)⟩⟩, fun z => ⟨by omega, fun e => h1 p (by omega) e, fun e => ih (p + 1) (by omega) (by omega)⟩⟩
    have e : m = 4 := by omega
    have := h2 e
    rw [e]; exact this
theorem ss_xent {post : Int32 → SX → Prop} {m i : Nat} {val : Nat → Int32} (hk : k < 18) (hm : m ≤ 4) (hd : ss_Di (fun j => a_dictionary (4 * k + j)) m i val)
    (h : ∀ m' (ds : Nat → Int32), m' ≤ 5 → ss_f4 a_dictionary ds k → ss_Di (fun j => ds (4 * k + j)) m' (i + 1) val → post (nI m') (f_segments, f_added, f_kept, f_clock, f_rows, f_many, a_row, a_from, a_to, a_held, a_sort, a_bits, a_base, a_least, a_greatest, a_words, ds, a_dRow, a_dFrom, a_dTo, a_dValue, a_wRow, a_wFrom, a_wTo, a_wValue, a_open, a_start, a_changed, a_change, a_changes, a_fresh, a_gone, a_column, a_low, a_high, a_found, a_value)) : wpX_enter post (f_segments, f_added, f_kept, f_clock, f_rows, f_many, a_row, a_from, a_to, a_held, a_sort, a_bits, a_base, a_least, a_greatest, a_words, a_dictionary, a_dRow, a_dFrom, a_dTo, a_dValue, a_wRow, a_wFrom, a_wTo, a_wValue, a_open, a_start, a_changed, a_change, a_changes, a_fresh, a_gone, a_column, a_low, a_high, a_found, a_value) (nI k) (nI m) (val i) := by
  have hd' : ∀ j, j < i → ∃ p, p < m ∧ a_dictionary (4 * k + p) = val j := by
    rcases hd with e | ⟨_, e⟩
    · omega
    · exact e
  refine ⟨m + 1, ss_xent_l hk hm (fun p hp e => ?_) (fun e => ?_) (fun hlt => ?_) (m + 1) 0 (by omega) (by omega)⟩
  · refine h m a_dictionary (by omega) ss_f4r (Or.inr ⟨hm, fun j hj => ?_⟩)
    rcases (by omega : j < i ∨ j = i) with h' | rfl
    · exact hd' j h'
    · exact ⟨p, hp, e⟩
  · exact h 5 a_dictionary (by omega) ss_f4r (Or.inl rfl)
  · refine h (m + 1) _ (by omega) (ss_f4u (by omega)) (Or.inr ⟨by omega, fun j hj => ?_⟩)
    rcases (by omega : j < i ∨ j = i) with h' | rfl
    · obtain ⟨p, hp, e⟩ := hd' j h'
      exact ⟨p, by omega, by dsimp only; rw [pk_un (by omega)]; exact e⟩
    · exact ⟨m, by omega, by dsimp only; rw [pk_us]⟩
theorem ss_xpl {post : Int32 → Prop} {v : Int32} (hk : k < 18) (hex : ∃ p, p < 4 ∧ a_dictionary (4 * k + p) = v)
    (h : ∀ p, p < 4 → a_dictionary (4 * k + p) = v → post (nI p)) : wpX_placeOf post (f_segments, f_added, f_kept, f_clock, f_rows, f_many, a_row, a_from, a_to, a_held, a_sort, a_bits, a_base, a_least, a_greatest, a_words, a_dictionary, a_dRow, a_dFrom, a_dTo, a_dValue, a_wRow, a_wFrom, a_wTo, a_wValue, a_open, a_start, a_changed, a_change, a_changes, a_fresh, a_gone, a_column, a_low, a_high, a_found, a_value) (nI k) v := by
  obtain ⟨q, hq, eq⟩ := hex
  have key : ∀ f p, p ≤ q → q < f + p → wX_placeOf_2 post (nI k) v f_segments f_added f_kept f_clock f_rows f_many a_row a_from a_to a_held a_sort a_bits a_base a_least a_greatest a_words a_dictionary a_dRow a_dFrom a_dTo a_dValue a_wRow a_wFrom a_wTo a_wValue a_open a_start a_changed a_change a_changes a_fresh a_gone a_column a_low a_high a_found a_value f (nI p) := by
    intro f
    induction f with
    | zero => intro p a b; omega
    | succ f ih =>
      intro p hp hf
      simp (disch := omega) only [wX_placeOf_2, ss_a0, ss_b0, ss_c0, ss_d0, ss_e0, ss_a1, ss_b1, ss_c1, ss_d1, ss_e1, ss_a2, ss_b2, ss_c2, ss_d2, ss_e2, ss_a3, ss_b3, ss_c3, ss_d3, ss_e3, ss_a4, ss_b4, ss_c4, ss_d4, ss_e4, ss_a5, ss_b5, ss_c5, ss_d5, ss_e5, ss_a8, ss_b8, ss_c8, ss_d8, ss_e8, ss_a32, ss_b32, ss_c32, ss_d32, ss_e32, ss_a40, ss_b40, ss_c40, ss_d40, ss_e40, ss_a48, ss_b48, ss_c48, ss_d48, ss_e48, ss_a64, ss_b64, ss_c64, ss_d64, ss_e64, ss_m2, ss_m3, ss_m4, ss_m8, ss_p2, ss_p3, ss_p4, ss_p8, ss_48p, ss_in, nI_add, nI_1, nI_clamp, nI_leI, nI_ltI, nI_eq, forall_eq, true_and, and_true]
      refine ⟨by omega, fun e => h p (by omega) e, fun e => ?_⟩
      have : p ≠ q := by rintro rfl; exact e eq
      exact ih (p + 1) (by omega) (by omega)
  exact ⟨q + 1, key (q + 1) 0 (by omega) (by omega)⟩
/-! runs -/
def ss_rn (val : Nat → Int32) : Nat → Nat
  | 0 => 0
  | i + 1 => ss_rn val i + (if i = 0 ∨ ¬ val i = val (i - 1) then 1 else 0)
theorem ss_rnm {val : Nat → Int32} {i j : Nat} (h : i ≤ j) : ss_rn val i ≤ ss_rn val j := by
  induction j with
  | zero => rw [show i = 0 by omega]; exact Nat.le_refl _
  | succ j ih =>
    rcases (by omega : i = j + 1 ∨ i ≤ j) with rfl | h'
    · exact Nat.le_refl _
    · have := ih h'
      rw [ss_rn]; omega
/-- R runs over i values: borders, the word, the dictionary -/
def ss_Ru (R i : Nat) (W : Int64) (d : Nat → Int32) (val : Nat → Int32) : Prop := ∃ s1 s2 s3, s1 ≤ s2 ∧ s2 ≤ s3 ∧ s3 ≤ i ∧ (R ≤ 3 → s3 = i) ∧ (R ≤ 2 → s2 = i) ∧ (R ≤ 1 → s1 = i) ∧ W = lN (s1 + (s2 - s1) * 16 + (s3 - s2) * 256 + (i - s3) * 4096) ∧
  (∀ j, j < s1 → d 0 = val j) ∧ (∀ j, s1 ≤ j → j < s2 → d 1 = val j) ∧ (∀ j, s2 ≤ j → j < s3 → d 2 = val j) ∧ (∀ j, s3 ≤ j → j < i → d 3 = val j) ∧ (0 < i → 0 < R ∧ d (R - 1) = val (i - 1))
theorem ss_RuC {R n : Nat} {W : Int64} {d : Nat → Int32} {val : Nat → Int32} (h : ss_Ru R n W d val) : ss_C1 W d n val := by
  obtain ⟨s1, s2, s3, a, b, c, -, -, -, e, k1, k2, k3, k4, -⟩ := h
  exact ⟨s1, s2, s3, a, b, c, e, k1, k2, k3, k4⟩
/-- the same run goes on -/
theorem ss_RuG {R i : Nat} {W : Int64} {d : Nat → Int32} {val : Nat → Int32} (hi : 0 < i) (hR : R ≤ 4) (h : ss_Ru R i W d val) (e : d (R - 1) = val i) : ss_Ru R (i + 1) (W + lN (2 ^ (4 * (R - 1)))) d val := by
  obtain ⟨s1, s2, s3, a, b, c, r3, r2, r1, ew, k1, k2, k3, k4, k5⟩ := h
  obtain ⟨R0, -⟩ := k5 hi
  rcases (by omega : R = 1 ∨ R = 2 ∨ R = 3 ∨ R = 4) with rfl | rfl | rfl | rfl
  · have := r1 (by omega)
    have := r2 (by omega)
    have := r3 (by omega)
    subst s1 s2 s3
    refine ⟨i + 1, i + 1, i + 1, by omega, by omega, by omega, by omega, by omega, by omega, ?_, fun j hj => ?_, by omega, by omega, by omega, fun _ => ⟨by omega, by rw [Nat.add_sub_cancel]; exact e⟩⟩
    · rw [ew, lN_add]; exact congrArg lN (by omega)
    · rcases (by omega : j < i ∨ j = i) with h' | rfl
      · exact k1 j h'
      · exact e
  · have := r2 (by omega)
    have := r3 (by omega)
    subst s2 s3
    refine ⟨s1, i + 1, i + 1, by omega, by omega, by omega, by omega, by omega, by omega, ?_, k1, fun j hj hj2 => ?_, by omega, by omega, fun _ => ⟨by omega, by rw [Nat.add_sub_cancel]; exact e⟩⟩
    · rw [ew, lN_add]; exact congrArg lN (by omega)
    · rcases (by omega : j < i ∨ j = i) with h' | rfl
      · exact k2 j hj h'
      · exact e
  · have := r3 (by omega)
    subst s3
    refine ⟨s1, s2, i + 1, by omega, by omega, by omega, by omega, by omega, by omega, ?_, k1, k2, fun j hj hj2 => ?_, by omega, fun _ => ⟨by omega, by rw [Nat.add_sub_cancel]; exact e⟩⟩
    · rw [ew, lN_add]; exact congrArg lN (by omega)
    · rcases (by omega : j < i ∨ j = i) with h' | rfl
      · exact k3 j hj h'
      · exact e
  · refine ⟨s1, s2, s3, by omega, by omega, by omega, by omega, by omega, by omega, ?_, k1, k2, k3, fun j hj hj2 => ?_, fun _ => ⟨by omega, by rw [Nat.add_sub_cancel]; exact e⟩⟩
    · rw [ew, lN_add]; exact congrArg lN (by omega)
    · rcases (by omega : j < i ∨ j = i) with h' | rfl
      · exact k4 j hj h'
      · exact e
/-- a new run begins -/
theorem ss_RuN {R i : Nat} {W : Int64} {d d' : Nat → Int32} {val : Nat → Int32} (hR : R < 4) (h0 : R = 0 → i = 0) (h : ss_Ru R i W d val) (e : d' R = val i) (ho : ∀ j, j < R → d' j = d j) : ss_Ru (R + 1) (i + 1) (W + lN (2 ^ (4 * R))) d' val := by
  obtain ⟨s1, s2, s3, a, b, c, r3, r2, r1, ew, k1, k2, k3, k4, k5⟩ := h
  rcases (by omega : R = 0 ∨ R = 1 ∨ R = 2 ∨ R = 3) with rfl | rfl | rfl | rfl
  · have := h0 rfl
    subst i
    have := r1 (by omega)
    have := r2 (by omega)
    have := r3 (by omega)
    subst s1 s2 s3
    refine ⟨1, 1, 1, by omega, by omega, by omega, by omega, by omega, by omega, ?_, fun j hj => ?_, by omega, by omega, by omega, fun _ => ⟨by omega, e⟩⟩
    · rw [ew, lN_add]
    · rw [show j = 0 by omega]; exact e
  · have := r1 (by omega)
    have := r2 (by omega)
    have := r3 (by omega)
    subst s1 s2 s3
    refine ⟨i, i + 1, i + 1, by omega, by omega, by omega, by omega, by omega, by omega, ?_, fun j hj => ?_, fun j hj hj2 => ?_, by omega, by omega, fun _ => ⟨by omega, e⟩⟩
    · rw [ew, lN_add]; exact congrArg lN (by omega)
    · rw [ho 0 (by omega)]; exact k1 j hj
    · rw [show j = i by omega]; exact e
  · have := r2 (by omega)
    have := r3 (by omega)
    subst s2 s3
    refine ⟨s1, i, i + 1, by omega, by omega, by omega, by omega, by omega, by omega, ?_, fun j hj => ?_, fun j hj hj2 => ?_, fun j hj hj2 => ?_, by omega, fun _ => ⟨by omega, e⟩⟩
    · rw [ew, lN_add]; exact congrArg lN (by omega)
    · rw [ho 0 (by omega)]; exact k1 j hj
    · rw [ho 1 (by omega)]; exact k2 j hj hj2
    · rw [show j = i by omega]; exact e
  · have := r3 (by omega)
    subst s3
    refine ⟨s1, s2, i, by omega, by omega, by omega, by omega, by omega, by omega, ?_, fun j hj => ?_, fun j hj hj2 => ?_, fun j hj hj2 => ?_, fun j hj hj2 => ?_, fun _ => ⟨by omega, e⟩⟩
    · rw [ew, lN_add]; exact congrArg lN (by omega)
    · rw [ho 0 (by omega)]; exact k1 j hj
    · rw [ho 1 (by omega)]; exact k2 j hj hj2
    · rw [ho 2 (by omega)]; exact k3 j hj hj2
    · rw [show j = i by omega]; exact e
end
end
section
section
variable {f_segments f_added f_kept f_clock f_rows f_many : Int32} {a_row a_from a_to a_held a_sort a_bits a_base a_least a_greatest a_dictionary a_dRow a_dFrom a_dTo a_dValue a_wRow a_wFrom a_wTo a_wValue a_open a_start a_changed a_change a_changes a_fresh a_gone a_column a_low a_high a_found a_value : Nat → Int32} {a_words : Nat → Int64}
variable {k n g c first : Nat} {val : Nat → Int32}
def ss_rI : Nat → Int32
  | 0 => -1
  | R + 1 => nI R
theorem ss_rI1 (R : Nat) : ss_rI R + 1 = nI R := by
  cases R with
  | zero => rfl
  | succ R => exact nI_1 R
theorem ss_sh1 {j : Nat} (h : j < 64) : (1 : Int64) <<< ((nI j).toInt64 &&& 63) = lN (2 ^ j) := by
  have h1 : (1 : Int64) = lN 1 := rfl
  rw [h1, wb_shl 1 h, Nat.one_mul]
theorem ss_xcr_l {post : SX → Prop} (hk : k < 18) (hc : c < 3) (hf : first + n ≤ 48) (hv : ∀ j, j < n → a_wValue (3 * (first + j) + c) = val j) (hr : ss_rn val n ≤ 4)
    (h : ∀ (ws : Nat → Int64) (ds : Nat → Int32), ss_f4 a_words ws k → ss_f4 a_dictionary ds k → ss_C1 (ws (4 * k)) (fun j => ds (4 * k + j)) n val → post (f_segments, f_added, f_kept, f_clock, f_rows, f_many, a_row, a_from, a_to, a_held, a_sort, a_bits, a_base, a_least, a_greatest, ws, ds, a_dRow, a_dFrom, a_dTo, a_dValue, a_wRow, a_wFrom, a_wTo, a_wValue, a_open, a_start, a_changed, a_change, a_changes, a_fresh, a_gone, a_column, a_low, a_high, a_found, a_value)) :
    ∀ f i (ws : Nat → Int64) (ds : Nat → Int32), i ≤ n → n < f + i → ss_f4 a_words ws k → ss_f4 a_dictionary ds k → ss_Ru (ss_rn val i) i (ws (4 * k)) (fun j => ds (4 * k + j)) val →
      wX_codeRuns_6 post (nI k) (nI c) (nI first) (nI n) f_segments f_added f_kept f_clock f_rows f_many f (ss_rI (ss_rn val i)) (nI i) a_row a_from a_to a_held a_sort a_bits a_base a_least a_greatest ws ds a_dRow a_dFrom a_dTo a_dValue a_wRow a_wFrom a_wTo a_wValue a_open a_start a_changed a_change a_changes a_fresh a_gone a_column a_low a_high a_found a_value := by
  intro f
  induction f with
  | zero => intro i ws ds a b; omega
  | succ f ih =>
    intro i ws ds hi hfu fw fd hR
    by_cases hl : n ≤ i
    · simp (disch := omega) only [wX_codeRuns_6, ss_a0, ss_b0, ss_c0, ss_d0, ss_e0, ss_a1, ss_b1, ss_c1, ss_d1, ss_e1, ss_a2, ss_b2, ss_c2, ss_d2, ss_e2, ss_a3, ss_b3, ss_c3, ss_d3, ss_e3, ss_a4, ss_b4, ss_c4, ss_d4, ss_e4, ss_a5, ss_b5, ss_c5, ss_d5, ss_e5, ss_a8, ss_b8, ss_c8, ss_d8, ss_e8, ss_a32, ss_b32, ss_c32, ss_d32, ss_e32, ss_a40, ss_b40, ss_c40, ss_d40, ss_e40, ss_a48, ss_b48, ss_c48, ss_d48, ss_e48, ss_a64, ss_b64, ss_c64, ss_d64, ss_e64, ss_m2, ss_m3, ss_m4, ss_m8, ss_p2, ss_p3, ss_p4, ss_p8, ss_48p, ss_in, nI_add, nI_1, nI_clamp, nI_leI, nI_ltI, nI_eq, forall_eq, true_and, and_true]
      refine ⟨fun _ => h ws ds fw fd ?_, fun z => absurd hl z⟩
      rw [show i = n by omega] at hR
      exact ss_RuC hR
    · have hRi : ss_rn val (i + 1) ≤ 4 := Nat.le_trans (ss_rnm (by omega)) hr
      have ev := hv i (by omega)
      -- a new run
      have nw : ss_rn val (i + 1) = ss_rn val i + 1 → (ss_rn val i = 0 → i = 0) → wX_codeRuns_54 post (wX_codeRuns_6 post (nI k) (nI c) (nI first) (nI n) f_segments f_added f_kept f_clock f_rows f_many f) (nI k) (nI c) (nI first) (nI n) (ss_rI (ss_rn val i)) (nI i) (val i) 1 f_segments f_added f_kept f_clock f_rows f_many a_row a_from a_to a_held a_sort a_bits a_base a_least a_greatest ws ds a_dRow a_dFrom a_dTo a_dValue a_wRow a_wFrom a_wTo a_wValue a_open a_start a_changed a_change a_changes a_fresh a_gone a_column a_low a_high a_found a_value := by
        intro e1 e0
        have hR4 : ss_rn val i < 4 := by omega
        simp (disch := omega) only [wX_codeRuns_54, wX_codeRuns_77, ss_rI1, ss_a0, ss_b0, ss_c0, ss_d0, ss_e0, ss_a1, ss_b1, ss_c1, ss_d1, ss_e1, ss_a2, ss_b2, ss_c2, ss_d2, ss_e2, ss_a3, ss_b3, ss_c3, ss_d3, ss_e3, ss_a4, ss_b4, ss_c4, ss_d4, ss_e4, ss_a5, ss_b5, ss_c5, ss_d5, ss_e5, ss_a8, ss_b8, ss_c8, ss_d8, ss_e8, ss_a32, ss_b32, ss_c32, ss_d32, ss_e32, ss_a40, ss_b40, ss_c40, ss_d40, ss_e40, ss_a48, ss_b48, ss_c48, ss_d48, ss_e48, ss_a64, ss_b64, ss_c64, ss_d64, ss_e64, ss_m2, ss_m3, ss_m4, ss_m8, ss_p2, ss_p3, ss_p4, ss_p8, ss_48p, ss_in, nI_add, nI_1, nI_clamp, nI_leI, nI_ltI, nI_eq, forall_eq, true_and, and_true]
        refine ⟨fun z => absurd z (by decide), fun _ => ⟨by omega, by omega, by omega, ?_⟩⟩
        rw [ss_sh1 (by omega)]
        have := ih (i + 1) (vp_updL ws (4 * k) (ws (4 * k) + lN (2 ^ (4 * ss_rn val i)))) (upd ds (4 * k + ss_rn val i) (val i)) (by omega) (by omega) (ss_f4t fw (ss_f4L (j := 0) (by omega))) (ss_f4t fd (ss_f4u hR4)) ?_
        · rw [e1] at this; exact this
        · rw [e1, pk_uLs]
          refine ss_RuN (d := fun j => ds (4 * k + j)) hR4 e0 hR ?_ fun j hj => ?_
          · rw [pk_us]
          · rw [pk_un (by omega)]
      have R0 : ss_rn val i = 0 → i = 0 := by
        intro z
        obtain ⟨_, _, _, _, _, _, _, _, _, _, _, _, _, _, k5⟩ := hR
        rcases (by omega : i = 0 ∨ 0 < i) with h' | h'
        · exact h'
        · have := (k5 h').1; omega
      simp (disch := omega) only [wX_codeRuns_6, wX_codeRuns_49, ss_a0, ss_b0, ss_c0, ss_d0, ss_e0, ss_a1, ss_b1, ss_c1, ss_d1, ss_e1, ss_a2, ss_b2, ss_c2, ss_d2, ss_e2, ss_a3, ss_b3, ss_c3, ss_d3, ss_e3, ss_a4, ss_b4, ss_c4, ss_d4, ss_e4, ss_a5, ss_b5, ss_c5, ss_d5, ss_e5, ss_a8, ss_b8, ss_c8, ss_d8, ss_e8, ss_a32, ss_b32, ss_c32, ss_d32, ss_e32, ss_a40, ss_b40, ss_c40, ss_d40, ss_e40, ss_a48, ss_b48, ss_c48, ss_d48, ss_e48, ss_a64, ss_b64, ss_c64, ss_d64, ss_e64, ss_m2, ss_m3, ss_m4, ss_m8, ss_p2, ss_p3, ss_p4, ss_p8, ss_48p, ss_in, nI_add, nI_1, nI_clamp, nI_leI, nI_ltI, nI_eq, forall_eq, true_and, and_true, ev]
      refine ⟨fun z => absurd z hl, fun _ => ⟨by omega, fun z => ?_, fun z => ?_⟩⟩
      · exact nw (by rw [ss_rn, if_pos (Or.inl z)]) R0
      · have h0 : 0 < ss_rn val i ∧ ds (4 * k + (ss_rn val i - 1)) = val (i - 1) := by
          obtain ⟨_, _, _, _, _, _, _, _, _, _, _, _, _, _, k5⟩ := hR
          exact k5 (by omega)
        have hm := ss_rnm (val := val) (i := i) (j := i + 1) (by omega)
        obtain ⟨R, eR⟩ : ∃ R, ss_rn val i = R + 1 := ⟨ss_rn val i - 1, by omega⟩
        rw [eR, Nat.add_sub_cancel] at h0
        have er : ss_rI (ss_rn val i) = nI R := by rw [eR]; rfl
        rw [er]
        simp (disch := omega) only [ss_a0, ss_b0, ss_c0, ss_d0, ss_e0, ss_a1, ss_b1, ss_c1, ss_d1, ss_e1, ss_a2, ss_b2, ss_c2, ss_d2, ss_e2, ss_a3, ss_b3, ss_c3, ss_d3, ss_e3, ss_a4, ss_b4, ss_c4, ss_d4, ss_e4, ss_a5, ss_b5, ss_c5, ss_d5, ss_e5, ss_a8, ss_b8, ss_c8, ss_d8, ss_e8, ss_a32, ss_b32, ss_c32, ss_d32, ss_e32, ss_a40, ss_b40, ss_c40, ss_d40, ss_e40, ss_a48, ss_b48, ss_c48, ss_d48, ss_e48, ss_a64, ss_b64, ss_c64, ss_d64, ss_e64, ss_m2, ss_m3, ss_m4, ss_m8, ss_p2, ss_p3, ss_p4, ss_p8, ss_48p, ss_in, nI_add, nI_1, nI_clamp, nI_leI, nI_ltI, nI_eq, forall_eq, true_and, and_true]
        rw [h0.2]
        refine ⟨by omega, fun e => ?_, fun e => ?_⟩
        · have e1 : ss_rn val (i + 1) = R + 1 := by
            rw [ss_rn, if_neg, eR]
            rintro (z' | z')
            · exact z z'
            · exact z' e.symm
          simp (disch := omega) only [wX_codeRuns_54, wX_codeRuns_77, ss_a0, ss_b0, ss_c0, ss_d0, ss_e0, ss_a1, ss_b1, ss_c1, ss_d1, ss_e1, ss_a2, ss_b2, ss_c2, ss_d2, ss_e2, ss_a3, ss_b3, ss_c3, ss_d3, ss_e3, ss_a4, ss_b4, ss_c4, ss_d4, ss_e4, ss_a5, ss_b5, ss_c5, ss_d5, ss_e5, ss_a8, ss_b8, ss_c8, ss_d8, ss_e8, ss_a32, ss_b32, ss_c32, ss_d32, ss_e32, ss_a40, ss_b40, ss_c40, ss_d40, ss_e40, ss_a48, ss_b48, ss_c48, ss_d48, ss_e48, ss_a64, ss_b64, ss_c64, ss_d64, ss_e64, ss_m2, ss_m3, ss_m4, ss_m8, ss_p2, ss_p3, ss_p4, ss_p8, ss_48p, ss_in, nI_add, nI_1, nI_clamp, nI_leI, nI_ltI, nI_eq, forall_eq, true_and, and_true]
          refine ⟨fun _ => ⟨by omega, by omega, ?_⟩, fun z => absurd trivial z⟩
          rw [ss_sh1 (by omega)]
          have := ih (i + 1) (vp_updL ws (4 * k) (ws (4 * k) + lN (2 ^ (4 * R)))) ds (by omega) (by omega) (ss_f4t fw (ss_f4L (j := 0) (by omega))) fd ?_
          · rw [e1] at this; exact this
          · rw [e1, pk_uLs]
            have hG := ss_RuG (R := R + 1) (by omega) (by omega) (eR ▸ hR) (by rw [Nat.add_sub_cancel]; exact h0.2.trans e)
            rw [Nat.add_sub_cancel] at hG
            exact hG
        · have := nw (by rw [ss_rn, if_pos (Or.inr (fun z' => e z'.symm))]) R0
          rw [er] at this
          exact this
theorem ss_xcr {post : SX → Prop} (hk : k < 18) (hc : c < 3) (hf : first + n ≤ 48) (hv : ∀ j, j < n → a_wValue (3 * (first + j) + c) = val j) (hr : ss_rn val n ≤ 4) (hw : a_words (4 * k) = 0)
    (h : ∀ (ws : Nat → Int64) (ds : Nat → Int32), ss_f4 a_words ws k → ss_f4 a_dictionary ds k → ss_C1 (ws (4 * k)) (fun j => ds (4 * k + j)) n val → post (f_segments, f_added, f_kept, f_clock, f_rows, f_many, a_row, a_from, a_to, a_held, a_sort, a_bits, a_base, a_least, a_greatest, ws, ds, a_dRow, a_dFrom, a_dTo, a_dValue, a_wRow, a_wFrom, a_wTo, a_wValue, a_open, a_start, a_changed, a_change, a_changes, a_fresh, a_gone, a_column, a_low, a_high, a_found, a_value)) : wpX_codeRuns post (f_segments, f_added, f_kept, f_clock, f_rows, f_many, a_row, a_from, a_to, a_held, a_sort, a_bits, a_base, a_least, a_greatest, a_words, a_dictionary, a_dRow, a_dFrom, a_dTo, a_dValue, a_wRow, a_wFrom, a_wTo, a_wValue, a_open, a_start, a_changed, a_change, a_changes, a_fresh, a_gone, a_column, a_low, a_high, a_found, a_value) (nI k) (nI c) (nI first) (nI n) := by
  refine ⟨n + 1, ss_xcr_l hk hc hf hv hr h (n + 1) 0 a_words a_dictionary (by omega) (by omega) ss_f4r ss_f4r ?_⟩
  rw [hw]
  exact ⟨0, 0, 0, by omega, by omega, by omega, by omega, by omega, by omega, rfl, by omega, by omega, by omega, by omega, by omega⟩
/-! differences -/
theorem ss_dff {a b : Int32} (h : a ≤ b) : ∃ D, D < 2 ^ 32 ∧ b.toInt64 - a.toInt64 = lN D ∧ a + nI D = b ∧ (D : Int) = b.toInt - a.toInt := by
  have ha := a.le_toInt
  have ha2 := a.toInt_lt
  have hb := b.le_toInt
  have hb2 := b.toInt_lt
  rw [Int32.le_iff_toInt_le] at h
  refine ⟨(b.toInt - a.toInt).toNat, by omega, ?_, ?_, by omega⟩
  · apply Int64.toInt_inj.mp
    rw [Int64.toInt_sub, Int32.toInt_toInt64, Int32.toInt_toInt64, pk_lT (by omega), Int.bmod_eq_of_le (by omega) (by omega)]
    omega
  · apply Int32.toInt_inj.mp
    rw [Int32.toInt_add]
    have e : (nI (b.toInt - a.toInt).toNat).toInt = Int.bmod (b.toInt - a.toInt) (2 ^ 32) := by
      show (Int32.ofNat _).toInt = _
      rw [Int32.toInt_ofNat', Int.toNat_of_nonneg (by omega)]
    rw [e, Int.add_bmod_bmod, show a.toInt + (b.toInt - a.toInt) = b.toInt by omega, Int.bmod_eq_of_le (by omega) (by omega)]
theorem ss_by8 : ∀ b, b < 64 → vp_nar .byte (nI b).toInt8.toInt32 = nI b := by decide +kernel
def ss_f1 {α : Type} (f f' : Nat → α) (k : Nat) : Prop := ∀ j, ¬ j = k → f' j = f j
theorem ss_f1u {f : Nat → Int32} {k : Nat} {x : Int32} : ss_f1 f (upd f k x) k := fun _ h => pk_un h
theorem ss_f1r {α : Type} {f : Nat → α} {k : Nat} : ss_f1 f f k := fun _ _ => rfl
theorem ss_f1t {α : Type} {f g h : Nat → α} {k : Nat} (a : ss_f1 f g k) (b : ss_f1 g h k) : ss_f1 f h k := fun j hj => (b j hj).trans (a j hj)
/-! the last loop: packing -/
theorem ss_xe345F {post : SX → Prop} {b : Nat} (hk : k < 18) (hc : c < 3) (hn : n ≤ 8) (hf : first + n ≤ 48) (hv : ∀ j, j < n → a_wValue (3 * (first + j) + c) = val j) (hs : a_sort k = 0) (hb : b ≤ 32) (eb : a_bits k = nI b)
    (hD : ∀ j, j < n → ∃ D, D < 2 ^ b ∧ (val j).toInt64 - (a_base k).toInt64 = lN D ∧ a_base k + nI D = val j)
    (h : ∀ ws : Nat → Int64, ss_f4 a_words ws k → ss_C0 (a_bits k) (a_base k) (fun j => ws (4 * k + j)) n val → post (f_segments, f_added, f_kept, f_clock, f_rows, f_many, a_row, a_from, a_to, a_held, a_sort, a_bits, a_base, a_least, a_greatest, ws, a_dictionary, a_dRow, a_dFrom, a_dTo, a_dValue, a_wRow, a_wFrom, a_wTo, a_wValue, a_open, a_start, a_changed, a_change, a_changes, a_fresh, a_gone, a_column, a_low, a_high, a_found, a_value)) :
    ∀ f i (ws : Nat → Int64) (w : Nat → Nat), i ≤ n → n < f + i → ss_f4 a_words ws k → ss_Wd (fun j => ws (4 * k + j)) w → ss_Fr b w (a_base k) i val → (∀ p, b * i ≤ p → ss_sb w p = false) →
      wX_encode_345 post (nI c) (nI first) (nI n) (nI k) f (nI i) f_segments f_added f_kept f_clock f_rows f_many a_row a_from a_to a_held a_sort a_bits a_base a_least a_greatest ws a_dictionary a_dRow a_dFrom a_dTo a_dValue a_wRow a_wFrom a_wTo a_wValue a_open a_start a_changed a_change a_changes a_fresh a_gone a_column a_low a_high a_found a_value := by
  intro f
  induction f with
  | zero => intro i ws w a b; omega
  | succ f ih =>
    intro i ws w hi hfu fw hw hF hz
    by_cases hl : n ≤ i
    · simp (disch := omega) only [wX_encode_345, ss_a0, ss_b0, ss_c0, ss_d0, ss_e0, ss_a1, ss_b1, ss_c1, ss_d1, ss_e1, ss_a2, ss_b2, ss_c2, ss_d2, ss_e2, ss_a3, ss_b3, ss_c3, ss_d3, ss_e3, ss_a4, ss_b4, ss_c4, ss_d4, ss_e4, ss_a5, ss_b5, ss_c5, ss_d5, ss_e5, ss_a8, ss_b8, ss_c8, ss_d8, ss_e8, ss_a32, ss_b32, ss_c32, ss_d32, ss_e32, ss_a40, ss_b40, ss_c40, ss_d40, ss_e40, ss_a48, ss_b48, ss_c48, ss_d48, ss_e48, ss_a64, ss_b64, ss_c64, ss_d64, ss_e64, ss_m2, ss_m3, ss_m4, ss_m8, ss_p2, ss_p3, ss_p4, ss_p8, ss_48p, ss_in, nI_add, nI_1, nI_clamp, nI_leI, nI_ltI, nI_eq, forall_eq, true_and, and_true]
      refine ⟨fun _ => h ws fw ⟨b, w, hb, eb, hw, ?_⟩, fun z => absurd hl z⟩
      rw [show n = i by omega]; exact hF
    · have ev := hv i (by omega)
      obtain ⟨D, d1, d2, d3⟩ := hD i (by omega)
      simp (disch := omega) only [wX_encode_345, ss_a0, ss_b0, ss_c0, ss_d0, ss_e0, ss_a1, ss_b1, ss_c1, ss_d1, ss_e1, ss_a2, ss_b2, ss_c2, ss_d2, ss_e2, ss_a3, ss_b3, ss_c3, ss_d3, ss_e3, ss_a4, ss_b4, ss_c4, ss_d4, ss_e4, ss_a5, ss_b5, ss_c5, ss_d5, ss_e5, ss_a8, ss_b8, ss_c8, ss_d8, ss_e8, ss_a32, ss_b32, ss_c32, ss_d32, ss_e32, ss_a40, ss_b40, ss_c40, ss_d40, ss_e40, ss_a48, ss_b48, ss_c48, ss_d48, ss_e48, ss_a64, ss_b64, ss_c64, ss_d64, ss_e64, ss_m2, ss_m3, ss_m4, ss_m8, ss_p2, ss_p3, ss_p4, ss_p8, ss_48p, ss_in, nI_add, nI_1, nI_clamp, nI_leI, nI_ltI, nI_eq, forall_eq, true_and, and_true, ev, hs, d2]
      refine ⟨fun z => absurd z hl, fun _ => ⟨by omega, fun z => absurd z (by decide), fun _ => ⟨by omega, by omega, fun _ => ⟨by omega, ?_⟩, fun z => absurd trivial z⟩⟩⟩
      refine ss_xpb hk (by omega) hb eb hw d1 fun ws' fw' hw' => ?_
      have hb1 : b * (i + 1) = b * i + b := by rw [Nat.mul_add, Nat.mul_one]
      refine ih (i + 1) ws' _ (by omega) (by omega) (ss_f4t fw fw') hw' (fun j hj => ?_) (fun p hp => ?_)
      · rcases (by omega : j < i ∨ j = i) with h' | rfl
        · obtain ⟨E, e1, e2, e3⟩ := hF j h'
          refine ⟨E, e1, e2, fun q hq => ?_⟩
          rw [ss_pwB hb d1]
          have : b * j + b ≤ b * i := by
            have : b * (j + 1) ≤ b * i := Nat.mul_le_mul_left b (by omega)
            rw [Nat.mul_add, Nat.mul_one] at this; exact this
          have n1 : ¬ b * i ≤ b * j + q := by omega
          simp only [n1, decide_false, Bool.false_and, Bool.or_false]
          exact e3 q hq
        · refine ⟨D, d1, d3, fun q hq => ?_⟩
          rw [ss_pwB hb d1, hz _ (by omega)]
          have n1 : b * j ≤ b * j + q := by omega
          simp only [n1, decide_true, Bool.true_and, Bool.false_or, Nat.add_sub_cancel_left]
      · rw [ss_pwB hb d1, hz _ (by omega)]
        have : D.testBit (p - b * i) = false := Nat.testBit_lt_two_pow (Nat.lt_of_lt_of_le d1 (Nat.pow_le_pow_right (by decide) (by omega)))
        simp only [this, Bool.and_false, Bool.or_false]
theorem ss_xe345D {post : SX → Prop} (hk : k < 18) (hc : c < 3) (hn : n ≤ 8) (hf : first + n ≤ 48) (hv : ∀ j, j < n → a_wValue (3 * (first + j) + c) = val j) (hs : a_sort k = 2)
    (hD : ∀ j, j < n → ∃ p, p < 4 ∧ a_dictionary (4 * k + p) = val j)
    (h : ∀ ws : Nat → Int64, ss_f4 a_words ws k → ss_C2 (ws (4 * k)) (fun j => a_dictionary (4 * k + j)) n val → post (f_segments, f_added, f_kept, f_clock, f_rows, f_many, a_row, a_from, a_to, a_held, a_sort, a_bits, a_base, a_least, a_greatest, ws, a_dictionary, a_dRow, a_dFrom, a_dTo, a_dValue, a_wRow, a_wFrom, a_wTo, a_wValue, a_open, a_start, a_changed, a_change, a_changes, a_fresh, a_gone, a_column, a_low, a_high, a_found, a_value)) :
    ∀ f i (ws : Nat → Int64) (w : Nat), i ≤ n → n < f + i → ss_f4 a_words ws k → ws (4 * k) = lN w → w < 2 ^ (2 * i) → (∀ j, j < i → a_dictionary (4 * k + w / 2 ^ (2 * j) % 4) = val j) →
      wX_encode_345 post (nI c) (nI first) (nI n) (nI k) f (nI i) f_segments f_added f_kept f_clock f_rows f_many a_row a_from a_to a_held a_sort a_bits a_base a_least a_greatest ws a_dictionary a_dRow a_dFrom a_dTo a_dValue a_wRow a_wFrom a_wTo a_wValue a_open a_start a_changed a_change a_changes a_fresh a_gone a_column a_low a_high a_found a_value := by
  intro f
  induction f with
  | zero => intro i ws w a b; omega
  | succ f ih =>
    intro i ws w hi hfu fw ew hw hF
    have p16 : (2 : Nat) ^ (2 * i) ≤ 65536 := Nat.pow_le_pow_right (n := 2) (j := 16) (by decide) (by omega)
    by_cases hl : n ≤ i
    · simp (disch := omega) only [wX_encode_345, ss_a0, ss_b0, ss_c0, ss_d0, ss_e0, ss_a1, ss_b1, ss_c1, ss_d1, ss_e1, ss_a2, ss_b2, ss_c2, ss_d2, ss_e2, ss_a3, ss_b3, ss_c3, ss_d3, ss_e3, ss_a4, ss_b4, ss_c4, ss_d4, ss_e4, ss_a5, ss_b5, ss_c5, ss_d5, ss_e5, ss_a8, ss_b8, ss_c8, ss_d8, ss_e8, ss_a32, ss_b32, ss_c32, ss_d32, ss_e32, ss_a40, ss_b40, ss_c40, ss_d40, ss_e40, ss_a48, ss_b48, ss_c48, ss_d48, ss_e48, ss_a64, ss_b64, ss_c64, ss_d64, ss_e64, ss_m2, ss_m3, ss_m4, ss_m8, ss_p2, ss_p3, ss_p4, ss_p8, ss_48p, ss_in, nI_add, nI_1, nI_clamp, nI_leI, nI_ltI, nI_eq, forall_eq, true_and, and_true]
      refine ⟨fun _ => h ws fw ⟨w, by omega, ew, ?_⟩, fun z => absurd hl z⟩
      rw [show n = i by omega]; exact hF
    · have ev := hv i (by omega)
      simp (disch := omega) only [wX_encode_345, ss_a0, ss_b0, ss_c0, ss_d0, ss_e0, ss_a1, ss_b1, ss_c1, ss_d1, ss_e1, ss_a2, ss_b2, ss_c2, ss_d2, ss_e2, ss_a3, ss_b3, ss_c3, ss_d3, ss_e3, ss_a4, ss_b4, ss_c4, ss_d4, ss_e4, ss_a5, ss_b5, ss_c5, ss_d5, ss_e5, ss_a8, ss_b8, ss_c8, ss_d8, ss_e8, ss_a32, ss_b32, ss_c32, ss_d32, ss_e32, ss_a40, ss_b40, ss_c40, ss_d40, ss_e40, ss_a48, ss_b48, ss_c48, ss_d48, ss_e48, ss_a64, ss_b64, ss_c64, ss_d64, ss_e64, ss_m2, ss_m3, ss_m4, ss_m8, ss_p2, ss_p3, ss_p4, ss_p8, ss_48p, ss_in, nI_add, nI_1, nI_clamp, nI_leI, nI_ltI, nI_eq, forall_eq, true_and, and_true, ev, hs]
      refine ⟨fun z => absurd z hl, fun _ => ⟨by omega, fun z => absurd z (by decide), fun _ => ⟨by omega, by omega, fun z => absurd z (by decide), fun _ => ⟨by omega, ?_⟩⟩⟩⟩
      refine ss_xpl hk (hD i (by omega)) fun p hp ep => ⟨by omega, ?_⟩
      have pe : (2 : Nat) ^ (2 * (i + 1)) = 4 * 2 ^ (2 * i) := by rw [show 2 * (i + 1) = 2 + 2 * i by omega, Nat.pow_add]
      have pl : (2 : Nat) ^ (2 * (i + 1)) ≤ 65536 := Nat.pow_le_pow_right (n := 2) (j := 16) (by decide) (by omega)
      have pm : p * 2 ^ (2 * i) ≤ 3 * 2 ^ (2 * i) := Nat.mul_le_mul_right _ (by omega)
      rw [ew, nI_l (by omega), wb_shl p (by omega), g_or' (k := 2 * i) rfl hw (by omega)]
      refine ih (i + 1) _ (w + p * 2 ^ (2 * i)) (by omega) (by omega) (ss_f4t fw (ss_f4L (j := 0) (by omega))) pk_uLs (by omega) fun j hj => ?_
      rcases (by omega : j < i ∨ j = i) with h' | rfl
      · have e : (w + p * 2 ^ (2 * i)) / 2 ^ (2 * j) % 4 = w / 2 ^ (2 * j) % 4 := by
          have pj : (2 : Nat) ^ (2 * i) = 2 ^ (2 * j) * (4 * 2 ^ (2 * (i - j - 1))) := by
            rw [show (4 : Nat) = 2 ^ 2 from rfl, ← Nat.pow_add, ← Nat.pow_add]; congr 1; omega
          rw [pj, show w + p * (2 ^ (2 * j) * (4 * 2 ^ (2 * (i - j - 1)))) = w + 2 ^ (2 * j) * (4 * (p * 2 ^ (2 * (i - j - 1)))) by
            congr 1; rw [Nat.mul_left_comm, Nat.mul_left_comm p 4], Nat.add_mul_div_left _ _ (Nat.two_pow_pos _), Nat.add_mul_mod_self_left]
        rw [e]; exact hF j h'
      · rw [Nat.add_mul_div_right _ _ (Nat.two_pow_pos _), Nat.div_eq_of_lt hw, Nat.zero_add, Nat.mod_eq_of_lt hp]
        exact ep
end
end
section
section
variable {f_segments f_added f_kept f_clock f_rows f_many : Int32} {a_row a_from a_to a_held a_sort a_bits a_base a_least a_greatest a_dictionary a_dRow a_dFrom a_dTo a_dValue a_wRow a_wFrom a_wTo a_wValue a_open a_start a_changed a_change a_changes a_fresh a_gone a_column a_low a_high a_found a_value : Nat → Int32} {a_words : Nat → Int64}
variable {k n c first : Nat} {val : Nat → Int32}
/-- what encoding leaves -/
def ss_Enc (k n : Nat) (val : Nat → Int32) (so bi ba le gr so' bi' ba' le' gr' : Nat → Int32) (ws ws' : Nat → Int64) (ds ds' : Nat → Int32) : Prop :=
  ss_f1 so so' k ∧ ss_f1 bi bi' k ∧ ss_f1 ba ba' k ∧ ss_f1 le le' k ∧ ss_f1 gr gr' k ∧ ss_f4 ws ws' k ∧ ss_f4 ds ds' k ∧ ss_Cod so' bi' ba' ws' ds' k n val ∧ ∀ i, i < n → le' k ≤ val i ∧ val i ≤ gr' k
theorem ss_nar0 : vp_nar .byte 0 = 0 := by rw [vp_nar_byte]; decide
theorem ss_nar1 : vp_nar .byte 1 = 1 := by rw [vp_nar_byte]; decide
theorem ss_nar2 : vp_nar .byte 2 = 2 := by rw [vp_nar_byte]; decide
/-- behind the choice of a code -/
theorem ss_xe320 {post : SX → Prop} {b z : Nat} (hk : k < 18) (hc : c < 3) (hn0 : 0 < n) (hn : n ≤ 8) (hf : first + n ≤ 48) (hv : ∀ j, j < n → a_wValue (3 * (first + j) + c) = val j)
    (hb : b ≤ 32) (eb : a_bits k = nI b) (hw : ∀ j, j < 4 → a_words (4 * k + j) = 0)
    (hz : (z = 0) ∨ (z = 1 ∧ ss_rn val n ≤ 4) ∨ (z = 2 ∧ ∀ j, j < n → ∃ p, p < 4 ∧ a_dictionary (4 * k + p) = val j))
    (hD : ∀ j, j < n → ∃ D, D < 2 ^ b ∧ (val j).toInt64 - (a_base k).toInt64 = lN D ∧ a_base k + nI D = val j)
    (h : ∀ (so : Nat → Int32) (ws : Nat → Int64) (ds : Nat → Int32), ss_f1 a_sort so k → ss_f4 a_words ws k → ss_f4 a_dictionary ds k → ss_Cod so a_bits a_base ws ds k n val → post (f_segments, f_added, f_kept, f_clock, f_rows, f_many, a_row, a_from, a_to, a_held, so, a_bits, a_base, a_least, a_greatest, ws, ds, a_dRow, a_dFrom, a_dTo, a_dValue, a_wRow, a_wFrom, a_wTo, a_wValue, a_open, a_start, a_changed, a_change, a_changes, a_fresh, a_gone, a_column, a_low, a_high, a_found, a_value)) :
    wX_encode_320 post (nI c) (nI first) (nI n) (nI k) (nI z) (nI k) f_segments f_added f_kept f_clock f_rows f_many a_row a_from a_to a_held a_sort a_bits a_base a_least a_greatest a_words a_dictionary a_dRow a_dFrom a_dTo a_dValue a_wRow a_wFrom a_wTo a_wValue a_open a_start a_changed a_change a_changes a_fresh a_gone a_column a_low a_high a_found a_value := by
  have w0 : a_words (4 * k) = 0 := hw 0 (by omega)
  rcases hz with rfl | ⟨rfl, hr⟩ | ⟨rfl, hd⟩
  · have e0 : vp_nar .byte (nI 0) = 0 := ss_nar0
    simp (disch := omega) only [wX_encode_320, ss_a0, ss_b0, ss_c0, ss_d0, ss_e0, ss_a1, ss_b1, ss_c1, ss_d1, ss_e1, ss_a2, ss_b2, ss_c2, ss_d2, ss_e2, ss_a3, ss_b3, ss_c3, ss_d3, ss_e3, ss_a4, ss_b4, ss_c4, ss_d4, ss_e4, ss_a5, ss_b5, ss_c5, ss_d5, ss_e5, ss_a8, ss_b8, ss_c8, ss_d8, ss_e8, ss_a32, ss_b32, ss_c32, ss_d32, ss_e32, ss_a40, ss_b40, ss_c40, ss_d40, ss_e40, ss_a48, ss_b48, ss_c48, ss_d48, ss_e48, ss_a64, ss_b64, ss_c64, ss_d64, ss_e64, ss_m2, ss_m3, ss_m4, ss_m8, ss_p2, ss_p3, ss_p4, ss_p8, ss_48p, ss_in, nI_add, nI_1, nI_clamp, nI_leI, nI_ltI, nI_eq, forall_eq, true_and, and_true, e0, pk_us]
    refine ⟨by omega, by omega, fun z => absurd z (by decide), fun _ => ⟨n + 1, ?_⟩⟩
    have hs : upd a_sort k 0 k = 0 := pk_us
    refine ss_xe345F hk hc hn hf hv hs hb eb hD (fun ws fw hC => ?_) (n + 1) 0 a_words (fun _ => 0) (by omega) (by omega) ss_f4r (fun j hj => ⟨Nat.two_pow_pos 64, hw j hj⟩) (fun i hi => by omega) (fun p _ => by simp [ss_sb])
    exact h _ ws a_dictionary ss_f1u fw ss_f4r (Or.inl ⟨hs, hC⟩)
  · have e0 : vp_nar .byte (nI 1) = 1 := ss_nar1
    simp (disch := omega) only [wX_encode_320, ss_a0, ss_b0, ss_c0, ss_d0, ss_e0, ss_a1, ss_b1, ss_c1, ss_d1, ss_e1, ss_a2, ss_b2, ss_c2, ss_d2, ss_e2, ss_a3, ss_b3, ss_c3, ss_d3, ss_e3, ss_a4, ss_b4, ss_c4, ss_d4, ss_e4, ss_a5, ss_b5, ss_c5, ss_d5, ss_e5, ss_a8, ss_b8, ss_c8, ss_d8, ss_e8, ss_a32, ss_b32, ss_c32, ss_d32, ss_e32, ss_a40, ss_b40, ss_c40, ss_d40, ss_e40, ss_a48, ss_b48, ss_c48, ss_d48, ss_e48, ss_a64, ss_b64, ss_c64, ss_d64, ss_e64, ss_m2, ss_m3, ss_m4, ss_m8, ss_p2, ss_p3, ss_p4, ss_p8, ss_48p, ss_in, nI_add, nI_1, nI_clamp, nI_leI, nI_ltI, nI_eq, forall_eq, true_and, and_true, e0, pk_us]
    refine ⟨by omega, by omega, fun _ => ?_, fun z => absurd trivial z⟩
    refine ss_xcr hk hc hf hv hr w0 fun ws ds fw fd hC => ?_
    refine ⟨1, ?_⟩
    have hs : upd a_sort k 1 k = 1 := pk_us
    have n0 : ¬ n ≤ 0 := by omega
    show wX_encode_345 post (nI c) (nI first) (nI n) (nI k) (0 + 1) (nI 0) f_segments f_added f_kept f_clock f_rows f_many a_row a_from a_to a_held (upd a_sort k 1) a_bits a_base a_least a_greatest ws ds a_dRow a_dFrom a_dTo a_dValue a_wRow a_wFrom a_wTo a_wValue a_open a_start a_changed a_change a_changes a_fresh a_gone a_column a_low a_high a_found a_value
    simp (disch := omega) only [wX_encode_345, ss_a0, ss_b0, ss_c0, ss_d0, ss_e0, ss_a1, ss_b1, ss_c1, ss_d1, ss_e1, ss_a2, ss_b2, ss_c2, ss_d2, ss_e2, ss_a3, ss_b3, ss_c3, ss_d3, ss_e3, ss_a4, ss_b4, ss_c4, ss_d4, ss_e4, ss_a5, ss_b5, ss_c5, ss_d5, ss_e5, ss_a8, ss_b8, ss_c8, ss_d8, ss_e8, ss_a32, ss_b32, ss_c32, ss_d32, ss_e32, ss_a40, ss_b40, ss_c40, ss_d40, ss_e40, ss_a48, ss_b48, ss_c48, ss_d48, ss_e48, ss_a64, ss_b64, ss_c64, ss_d64, ss_e64, ss_m2, ss_m3, ss_m4, ss_m8, ss_p2, ss_p3, ss_p4, ss_p8, ss_48p, ss_in, nI_add, nI_1, nI_clamp, nI_leI, nI_ltI, nI_eq, forall_eq, true_and, and_true, hs]
    exact ⟨fun z => absurd z n0, fun _ => ⟨by omega, fun _ => h _ ws ds ss_f1u fw fd (Or.inr (Or.inl ⟨hs, hC⟩)), fun z => absurd trivial z⟩⟩
  · have e0 : vp_nar .byte (nI 2) = 2 := ss_nar2
    simp (disch := omega) only [wX_encode_320, ss_a0, ss_b0, ss_c0, ss_d0, ss_e0, ss_a1, ss_b1, ss_c1, ss_d1, ss_e1, ss_a2, ss_b2, ss_c2, ss_d2, ss_e2, ss_a3, ss_b3, ss_c3, ss_d3, ss_e3, ss_a4, ss_b4, ss_c4, ss_d4, ss_e4, ss_a5, ss_b5, ss_c5, ss_d5, ss_e5, ss_a8, ss_b8, ss_c8, ss_d8, ss_e8, ss_a32, ss_b32, ss_c32, ss_d32, ss_e32, ss_a40, ss_b40, ss_c40, ss_d40, ss_e40, ss_a48, ss_b48, ss_c48, ss_d48, ss_e48, ss_a64, ss_b64, ss_c64, ss_d64, ss_e64, ss_m2, ss_m3, ss_m4, ss_m8, ss_p2, ss_p3, ss_p4, ss_p8, ss_48p, ss_in, nI_add, nI_1, nI_clamp, nI_leI, nI_ltI, nI_eq, forall_eq, true_and, and_true, e0, pk_us]
    refine ⟨by omega, by omega, fun z => absurd z (by decide), fun _ => ⟨n + 1, ?_⟩⟩
    have hs : upd a_sort k 2 k = 2 := pk_us
    refine ss_xe345D hk hc hn hf hv hs hd (fun ws fw hC => ?_) (n + 1) 0 a_words 0 (by omega) (by omega) ss_f4r w0 (by decide) (fun i hi => by omega)
    exact h _ ws a_dictionary ss_f1u fw ss_f4r (Or.inr (Or.inr ⟨hs, hC⟩))
/-- the number of bits -/
theorem ss_xe243 {post : SX → Prop} {R m S : Nat} (hk : k < 18) (hc : c < 3) (hn0 : 0 < n) (hn : n ≤ 8) (hf : first + n ≤ 48) (hv : ∀ j, j < n → a_wValue (3 * (first + j) + c) = val j)
    (hw : ∀ j, j < 4 → a_words (4 * k + j) = 0) (hR : R = ss_rn val n) (hR8 : R ≤ 8) (hm : m ≤ 5) (hd : ss_Di (fun j => a_dictionary (4 * k + j)) m n val)
    (hS : S < 2 ^ 32) (hl : ∀ j, j < n → a_least k ≤ val j) (hg : ∀ j, j < n → val j ≤ a_greatest k) (hsp : (S : Int) = (a_greatest k).toInt - (a_least k).toInt)
    (h : ∀ (so bi ba : Nat → Int32) (ws : Nat → Int64) (ds : Nat → Int32), ss_Enc k n val a_sort a_bits a_base a_least a_greatest so bi ba a_least a_greatest a_words ws a_dictionary ds → post (f_segments, f_added, f_kept, f_clock, f_rows, f_many, a_row, a_from, a_to, a_held, so, bi, ba, a_least, a_greatest, ws, ds, a_dRow, a_dFrom, a_dTo, a_dValue, a_wRow, a_wFrom, a_wTo, a_wValue, a_open, a_start, a_changed, a_change, a_changes, a_fresh, a_gone, a_column, a_low, a_high, a_found, a_value)) :
    ∀ f b, b ≤ 32 → 32 < f + b → wX_encode_243 post (nI c) (nI first) (nI n) (nI k) (nI R) (nI m) (lN S) f_segments f_added f_kept f_clock f_rows f_many a_row a_from a_to a_held a_sort a_bits a_base a_least a_greatest a_words a_dictionary a_dRow a_dFrom a_dTo a_dValue a_wRow a_wFrom a_wTo a_wValue a_open a_start a_changed a_change a_changes a_fresh a_gone a_column a_low a_high a_found a_value f (nI b) := by
  intro f
  induction f with
  | zero => intro b h1 h2; omega
  | succ f ih =>
    intro b hb hfu
    have hsd : S / 2 ^ b ≤ S := Nat.div_le_self _ _
    have e0 : lN (S / 2 ^ b) = 0 ↔ S / 2 ^ b = 0 := by
      rw [show (0 : Int64) = lN 0 from rfl, pk_lEQ (by omega) (by omega)]
    have eb := ss_by8 b (by omega)
    have tail : S / 2 ^ b = 0 → ∀ z : Nat, (z = 0 ∨ (z = 1 ∧ ss_rn val n ≤ 4) ∨ (z = 2 ∧ ∀ j, j < n → ∃ p, p < 4 ∧ a_dictionary (4 * k + p) = val j)) →
        wX_encode_320 post (nI c) (nI first) (nI n) (nI k) (nI z) (nI k) f_segments f_added f_kept f_clock f_rows f_many a_row a_from a_to a_held a_sort (upd a_bits k (nI b)) (upd a_base k (a_least k)) a_least a_greatest a_words a_dictionary a_dRow a_dFrom a_dTo a_dValue a_wRow a_wFrom a_wTo a_wValue a_open a_start a_changed a_change a_changes a_fresh a_gone a_column a_low a_high a_found a_value := by
      intro hz z hzz
      have hSb : S < 2 ^ b := by
        rcases Nat.div_eq_zero_iff.mp hz with h' | h'
        · exact absurd h' (Nat.ne_of_gt (Nat.two_pow_pos b))
        · exact h'
      refine ss_xe320 (b := b) hk hc hn0 hn hf hv hb pk_us hw hzz (fun j hj => ?_) (fun so ws ds f1 f2 f3 hC => ?_)
      · rw [pk_us]
        obtain ⟨D, d1, d2, d3, d4⟩ := ss_dff (hl j hj)
        have hg' := hg j hj
        rw [Int32.le_iff_toInt_le] at hg'
        exact ⟨D, by omega, d2, d3⟩
      · exact h so _ _ ws ds ⟨f1, ss_f1u, ss_f1u, ss_f1r, ss_f1r, f2, f3, hC, fun i hi => ⟨hl i hi, hg i hi⟩⟩
    simp (disch := omega) only [wX_encode_243, ss_a0, ss_b0, ss_c0, ss_d0, ss_e0, ss_a1, ss_b1, ss_c1, ss_d1, ss_e1, ss_a2, ss_b2, ss_c2, ss_d2, ss_e2, ss_a3, ss_b3, ss_c3, ss_d3, ss_e3, ss_a4, ss_b4, ss_c4, ss_d4, ss_e4, ss_a5, ss_b5, ss_c5, ss_d5, ss_e5, ss_a8, ss_b8, ss_c8, ss_d8, ss_e8, ss_a32, ss_b32, ss_c32, ss_d32, ss_e32, ss_a40, ss_b40, ss_c40, ss_d40, ss_e40, ss_a48, ss_b48, ss_c48, ss_d48, ss_e48, ss_a64, ss_b64, ss_c64, ss_d64, ss_e64, ss_m2, ss_m3, ss_m4, ss_m8, ss_p2, ss_p3, ss_p4, ss_p8, ss_48p, ss_in, nI_add, nI_1, nI_clamp, nI_leI, nI_ltI, nI_eq, forall_eq, true_and, and_true, pf_shr (ss_smd (show b < 64 by omega)) (show S < 2 ^ 62 by omega), e0, eb]
    refine ⟨fun hz => ⟨by omega, by omega, by omega, fun h2 => ⟨fun h4 => ⟨fun h5 => ?_, fun h5 => ?_⟩, fun h4 => ?_⟩, fun h2 => ?_⟩, fun hz => ?_⟩
    · exact tail hz 0 (Or.inl rfl)
    · refine tail hz 2 (Or.inr (Or.inr ⟨rfl, fun j hj => ?_⟩))
      rcases hd with e | ⟨e, hd⟩
      · omega
      · obtain ⟨p, hp, ep⟩ := hd j hj
        exact ⟨p, by omega, ep⟩
    · exact tail hz 1 (Or.inr (Or.inl ⟨rfl, by omega⟩))
    · exact tail hz 0 (Or.inl rfl)
    · have hb32 : b < 32 := by
        rcases (by omega : b < 32 ∨ b = 32) with h' | rfl
        · exact h'
        · exact absurd (Nat.div_eq_of_lt hS) hz
      exact ih (b + 1) (by omega) (by omega)
theorem ss_xe221 {post : SX → Prop} {R m : Nat} (hk : k < 18) (hc : c < 3) (hn0 : 0 < n) (hn : n ≤ 8) (hf : first + n ≤ 48) (hv : ∀ j, j < n → a_wValue (3 * (first + j) + c) = val j)
    (hw : ∀ j, j < 4 → a_words (4 * k + j) = 0) (hR : R = ss_rn val n) (hR8 : R ≤ 8) (hm : m ≤ 5) (hd : ss_Di (fun j => a_dictionary (4 * k + j)) m n val)
    (hl : ∀ j, j < n → a_least k ≤ val j) (hg : ∀ j, j < n → val j ≤ a_greatest k)
    (h : ∀ (so bi ba : Nat → Int32) (ws : Nat → Int64) (ds : Nat → Int32), ss_Enc k n val a_sort a_bits a_base a_least a_greatest so bi ba a_least a_greatest a_words ws a_dictionary ds → post (f_segments, f_added, f_kept, f_clock, f_rows, f_many, a_row, a_from, a_to, a_held, so, bi, ba, a_least, a_greatest, ws, ds, a_dRow, a_dFrom, a_dTo, a_dValue, a_wRow, a_wFrom, a_wTo, a_wValue, a_open, a_start, a_changed, a_change, a_changes, a_fresh, a_gone, a_column, a_low, a_high, a_found, a_value)) :
    wX_encode_221 post (nI c) (nI first) (nI n) (nI k) (nI R) (nI m) f_segments f_added f_kept f_clock f_rows f_many a_row a_from a_to a_held a_sort a_bits a_base a_least a_greatest a_words a_dictionary a_dRow a_dFrom a_dTo a_dValue a_wRow a_wFrom a_wTo a_wValue a_open a_start a_changed a_change a_changes a_fresh a_gone a_column a_low a_high a_found a_value := by
  have hlg : a_least k ≤ a_greatest k := Int32.le_trans (hl 0 hn0) (hg 0 hn0)
  obtain ⟨S, s1, s2, -, s4⟩ := ss_dff hlg
  simp (disch := omega) only [wX_encode_221, ss_a0, ss_b0, ss_c0, ss_d0, ss_e0, ss_a1, ss_b1, ss_c1, ss_d1, ss_e1, ss_a2, ss_b2, ss_c2, ss_d2, ss_e2, ss_a3, ss_b3, ss_c3, ss_d3, ss_e3, ss_a4, ss_b4, ss_c4, ss_d4, ss_e4, ss_a5, ss_b5, ss_c5, ss_d5, ss_e5, ss_a8, ss_b8, ss_c8, ss_d8, ss_e8, ss_a32, ss_b32, ss_c32, ss_d32, ss_e32, ss_a40, ss_b40, ss_c40, ss_d40, ss_e40, ss_a48, ss_b48, ss_c48, ss_d48, ss_e48, ss_a64, ss_b64, ss_c64, ss_d64, ss_e64, ss_m2, ss_m3, ss_m4, ss_m8, ss_p2, ss_p3, ss_p4, ss_p8, ss_48p, ss_in, nI_add, nI_1, nI_clamp, nI_leI, nI_ltI, nI_eq, forall_eq, true_and, and_true, s2]
  refine ⟨by omega, by omega, 33, ?_⟩
  exact ss_xe243 hk hc hn0 hn hf hv hw hR hR8 hm hd s1 hl hg s4 h 33 0 (by omega) (by omega)
/-- the dictionary -/
theorem ss_xe179 {post : SX → Prop} {R : Nat} (hk : k < 18) (hc : c < 3) (hn0 : 0 < n) (hn : n ≤ 8) (hf : first + n ≤ 48) (hv : ∀ j, j < n → a_wValue (3 * (first + j) + c) = val j)
    (hw : ∀ j, j < 4 → a_words (4 * k + j) = 0) (hR : R = ss_rn val n) (hR8 : R ≤ 8)
    (hl : ∀ j, j < n → a_least k ≤ val j) (hg : ∀ j, j < n → val j ≤ a_greatest k)
    (h : ∀ (so bi ba : Nat → Int32) (ws : Nat → Int64) (ds : Nat → Int32), ss_Enc k n val a_sort a_bits a_base a_least a_greatest so bi ba a_least a_greatest a_words ws a_dictionary ds → post (f_segments, f_added, f_kept, f_clock, f_rows, f_many, a_row, a_from, a_to, a_held, so, bi, ba, a_least, a_greatest, ws, ds, a_dRow, a_dFrom, a_dTo, a_dValue, a_wRow, a_wFrom, a_wTo, a_wValue, a_open, a_start, a_changed, a_change, a_changes, a_fresh, a_gone, a_column, a_low, a_high, a_found, a_value)) :
    ∀ f m i (ds : Nat → Int32), i ≤ n → n < f + i → m ≤ 5 → ss_f4 a_dictionary ds k → ss_Di (fun j => ds (4 * k + j)) m i val → wX_encode_179 post (nI c) (nI first) (nI n) (nI k) (nI R) f (nI m) (nI i) f_segments f_added f_kept f_clock f_rows f_many a_row a_from a_to a_held a_sort a_bits a_base a_least a_greatest a_words ds a_dRow a_dFrom a_dTo a_dValue a_wRow a_wFrom a_wTo a_wValue a_open a_start a_changed a_change a_changes a_fresh a_gone a_column a_low a_high a_found a_value := by
  intro f
  induction f with
  | zero => intro m i ds h1 h2; omega
  | succ f ih =>
    intro m i ds hi hfu hm fd hd
    have out : ss_Di (fun j => ds (4 * k + j)) m n val → wX_encode_221 post (nI c) (nI first) (nI n) (nI k) (nI R) (nI m) f_segments f_added f_kept f_clock f_rows f_many a_row a_from a_to a_held a_sort a_bits a_base a_least a_greatest a_words ds a_dRow a_dFrom a_dTo a_dValue a_wRow a_wFrom a_wTo a_wValue a_open a_start a_changed a_change a_changes a_fresh a_gone a_column a_low a_high a_found a_value := by
      intro hd'
      refine ss_xe221 hk hc hn0 hn hf hv hw hR hR8 hm hd' hl hg fun so bi ba ws ds' hE => h so bi ba ws ds' ?_
      obtain ⟨e1, e2, e3, e4, e5, e6, e7, e8⟩ := hE
      exact ⟨e1, e2, e3, e4, e5, e6, ss_f4t fd e7, e8⟩
    by_cases hli : n ≤ i
    · simp (disch := omega) only [wX_encode_179, ss_a0, ss_b0, ss_c0, ss_d0, ss_e0, ss_a1, ss_b1, ss_c1, ss_d1, ss_e1, ss_a2, ss_b2, ss_c2, ss_d2, ss_e2, ss_a3, ss_b3, ss_c3, ss_d3, ss_e3, ss_a4, ss_b4, ss_c4, ss_d4, ss_e4, ss_a5, ss_b5, ss_c5, ss_d5, ss_e5, ss_a8, ss_b8, ss_c8, ss_d8, ss_e8, ss_a32, ss_b32, ss_c32, ss_d32, ss_e32, ss_a40, ss_b40, ss_c40, ss_d40, ss_e40, ss_a48, ss_b48, ss_c48, ss_d48, ss_e48, ss_a64, ss_b64, ss_c64, ss_d64, ss_e64, ss_m2, ss_m3, ss_m4, ss_m8, ss_p2, ss_p3, ss_p4, ss_p8, ss_48p, ss_in, nI_add, nI_1, nI_clamp, nI_leI, nI_ltI, nI_eq, forall_eq, true_and, and_true]
      refine ⟨fun _ => out ?_, fun z => absurd hli z⟩
      rw [show n = i by omega]; exact hd
    · have ev := hv i (by omega)
      simp (disch := omega) only [wX_encode_179, ss_a0, ss_b0, ss_c0, ss_d0, ss_e0, ss_a1, ss_b1, ss_c1, ss_d1, ss_e1, ss_a2, ss_b2, ss_c2, ss_d2, ss_e2, ss_a3, ss_b3, ss_c3, ss_d3, ss_e3, ss_a4, ss_b4, ss_c4, ss_d4, ss_e4, ss_a5, ss_b5, ss_c5, ss_d5, ss_e5, ss_a8, ss_b8, ss_c8, ss_d8, ss_e8, ss_a32, ss_b32, ss_c32, ss_d32, ss_e32, ss_a40, ss_b40, ss_c40, ss_d40, ss_e40, ss_a48, ss_b48, ss_c48, ss_d48, ss_e48, ss_a64, ss_b64, ss_c64, ss_d64, ss_e64, ss_m2, ss_m3, ss_m4, ss_m8, ss_p2, ss_p3, ss_p4, ss_p8, ss_48p, ss_in, nI_add, nI_1, nI_clamp, nI_leI, nI_ltI, nI_eq, forall_eq, true_and, and_true, ev]
      refine ⟨fun z => absurd z hli, fun _ => ⟨fun h5 => out (Or.inl (by omega)), fun h5 => ⟨by omega, ?_⟩⟩⟩
      refine ss_xent hk (by omega) hd fun m' ds' hm' fd' hd' => ?_
      exact ih m' (i + 1) ds' (by omega) (by omega) hm' (ss_f4t fd fd') hd'
/-- the words cleared -/
theorem ss_xe151 {post : SX → Prop} {R : Nat} (hk : k < 18) (hc : c < 3) (hn0 : 0 < n) (hn : n ≤ 8) (hf : first + n ≤ 48) (hv : ∀ j, j < n → a_wValue (3 * (first + j) + c) = val j)
    (hR : R = ss_rn val n) (hR8 : R ≤ 8)
    (hl : ∀ j, j < n → a_least k ≤ val j) (hg : ∀ j, j < n → val j ≤ a_greatest k)
    (h : ∀ (so bi ba : Nat → Int32) (ws : Nat → Int64) (ds : Nat → Int32), ss_Enc k n val a_sort a_bits a_base a_least a_greatest so bi ba a_least a_greatest a_words ws a_dictionary ds → post (f_segments, f_added, f_kept, f_clock, f_rows, f_many, a_row, a_from, a_to, a_held, so, bi, ba, a_least, a_greatest, ws, ds, a_dRow, a_dFrom, a_dTo, a_dValue, a_wRow, a_wFrom, a_wTo, a_wValue, a_open, a_start, a_changed, a_change, a_changes, a_fresh, a_gone, a_column, a_low, a_high, a_found, a_value)) :
    ∀ f i (ws : Nat → Int64), i ≤ 4 → 4 < f + i → ss_f4 a_words ws k → (∀ j, j < i → ws (4 * k + j) = 0) → wX_encode_151 post (nI c) (nI first) (nI n) (nI k) (nI R) 0 f_segments f_added f_kept f_clock f_rows f_many f (nI (4 * k + i)) a_row a_from a_to a_held a_sort a_bits a_base a_least a_greatest ws a_dictionary a_dRow a_dFrom a_dTo a_dValue a_wRow a_wFrom a_wTo a_wValue a_open a_start a_changed a_change a_changes a_fresh a_gone a_column a_low a_high a_found a_value := by
  intro f
  induction f with
  | zero => intro i ws h1 h2; omega
  | succ f ih =>
    intro i ws hi hfu fw h0
    simp (disch := omega) only [wX_encode_151, ss_a0, ss_b0, ss_c0, ss_d0, ss_e0, ss_a1, ss_b1, ss_c1, ss_d1, ss_e1, ss_a2, ss_b2, ss_c2, ss_d2, ss_e2, ss_a3, ss_b3, ss_c3, ss_d3, ss_e3, ss_a4, ss_b4, ss_c4, ss_d4, ss_e4, ss_a5, ss_b5, ss_c5, ss_d5, ss_e5, ss_a8, ss_b8, ss_c8, ss_d8, ss_e8, ss_a32, ss_b32, ss_c32, ss_d32, ss_e32, ss_a40, ss_b40, ss_c40, ss_d40, ss_e40, ss_a48, ss_b48, ss_c48, ss_d48, ss_e48, ss_a64, ss_b64, ss_c64, ss_d64, ss_e64, ss_m2, ss_m3, ss_m4, ss_m8, ss_p2, ss_p3, ss_p4, ss_p8, ss_48p, ss_in, nI_add, nI_1, nI_clamp, nI_leI, nI_ltI, nI_eq, forall_eq, true_and, and_true]
    refine ⟨fun z => ⟨n + 1, ?_⟩, fun z => ⟨by omega, ?_⟩⟩
    · refine ss_xe179 hk hc hn0 hn hf hv (fun j hj => h0 j (by omega)) hR hR8 hl hg (fun so bi ba ws' ds' hE => h so bi ba ws' ds' ?_) (n + 1) 0 0 a_dictionary (by omega) (by omega) (by omega) ss_f4r (Or.inr ⟨by omega, fun j hj => by omega⟩)
      obtain ⟨e1, e2, e3, e4, e5, e6, e7, e8⟩ := hE
      exact ⟨e1, e2, e3, e4, e5, ss_f4t fw e6, e7, e8⟩
    · refine ih (i + 1) _ (by omega) (by omega) (ss_f4t fw (ss_f4L (by omega))) fun j hj => ?_
      rcases (by omega : j < i ∨ j = i) with h' | rfl
      · rw [pk_uLn (by omega)]; exact h0 j h'
      · exact pk_uLs
/-- least, greatest and runs -/
theorem ss_xe47 {post : SX → Prop} (hk : k < 18) (hc : c < 3) (hn0 : 0 < n) (hn : n ≤ 8) (hf : first + n ≤ 48) (hv : ∀ j, j < n → a_wValue (3 * (first + j) + c) = val j)
    (h : ∀ (so bi ba le gr : Nat → Int32) (ws : Nat → Int64) (ds : Nat → Int32), ss_Enc k n val a_sort a_bits a_base a_least a_greatest so bi ba le gr a_words ws a_dictionary ds → post (f_segments, f_added, f_kept, f_clock, f_rows, f_many, a_row, a_from, a_to, a_held, so, bi, ba, le, gr, ws, ds, a_dRow, a_dFrom, a_dTo, a_dValue, a_wRow, a_wFrom, a_wTo, a_wValue, a_open, a_start, a_changed, a_change, a_changes, a_fresh, a_gone, a_column, a_low, a_high, a_found, a_value)) :
    ∀ f i (le gr : Nat → Int32), i ≤ n → n < f + i → ss_f1 a_least le k → ss_f1 a_greatest gr k → (∀ j, j < i → le k ≤ val j ∧ val j ≤ gr k) →
      wX_encode_47 post (nI c) (nI first) (nI n) (nI k) 0 f_segments f_added f_kept f_clock f_rows f_many f (nI (max 1 (ss_rn val i))) (nI i) a_row a_from a_to a_held a_sort a_bits a_base le gr a_words a_dictionary a_dRow a_dFrom a_dTo a_dValue a_wRow a_wFrom a_wTo a_wValue a_open a_start a_changed a_change a_changes a_fresh a_gone a_column a_low a_high a_found a_value := by
  intro f
  induction f with
  | zero => intro i le gr h1 h2; omega
  | succ f ih =>
    intro i le gr hi hfu fl fg hb
    have rle : ∀ j, ss_rn val j ≤ j := by
      intro j
      induction j with
      | zero => exact Nat.le_refl _
      | succ j ihj => rw [ss_rn]; split <;> omega
    have r1 : ∀ j, 0 < j → 1 ≤ ss_rn val j := by
      intro j hj
      have := ss_rnm (val := val) (i := 1) (j := j) hj
      have e : ss_rn val 1 = 1 := by rw [ss_rn, ss_rn, if_pos (Or.inl rfl)]
      omega
    by_cases hli : n ≤ i
    · have e : i = n := by omega
      subst e
      simp (disch := omega) only [wX_encode_47, ss_a0, ss_b0, ss_c0, ss_d0, ss_e0, ss_a1, ss_b1, ss_c1, ss_d1, ss_e1, ss_a2, ss_b2, ss_c2, ss_d2, ss_e2, ss_a3, ss_b3, ss_c3, ss_d3, ss_e3, ss_a4, ss_b4, ss_c4, ss_d4, ss_e4, ss_a5, ss_b5, ss_c5, ss_d5, ss_e5, ss_a8, ss_b8, ss_c8, ss_d8, ss_e8, ss_a32, ss_b32, ss_c32, ss_d32, ss_e32, ss_a40, ss_b40, ss_c40, ss_d40, ss_e40, ss_a48, ss_b48, ss_c48, ss_d48, ss_e48, ss_a64, ss_b64, ss_c64, ss_d64, ss_e64, ss_m2, ss_m3, ss_m4, ss_m8, ss_p2, ss_p3, ss_p4, ss_p8, ss_48p, ss_in, nI_add, nI_1, nI_clamp, nI_leI, nI_ltI, nI_eq, forall_eq, true_and, and_true]
      refine ⟨fun _ => ⟨5, ?_⟩, fun z => absurd hli z⟩
      have := r1 i hn0
      have hri := rle i
      rw [show max 1 (ss_rn val i) = ss_rn val i by omega]
      refine ss_xe151 hk hc hn0 hn hf hv rfl (by omega) (fun j hj => (hb j hj).1) (fun j hj => (hb j hj).2) (fun so bi ba ws ds hE => h so bi ba le gr ws ds ?_) 5 0 a_words (by omega) (by omega) ss_f4r (fun j hj => by omega)
      obtain ⟨e1, e2, e3, e4, e5, e6, e7, e8, e9⟩ := hE
      exact ⟨e1, e2, e3, fl, fg, e6, e7, e8, e9⟩
    · have ev := hv i (by omega)
      have hri := rle i
      -- behind least and greatest
      have t111 : ∀ le' gr' : Nat → Int32, ss_f1 a_least le' k → ss_f1 a_greatest gr' k → (∀ j, j < i + 1 → le' k ≤ val j ∧ val j ≤ gr' k) →
          wX_encode_111 post (wX_encode_47 post (nI c) (nI first) (nI n) (nI k) 0 f_segments f_added f_kept f_clock f_rows f_many f) (nI c) (nI first) (nI n) (nI k) (nI (max 1 (ss_rn val i))) 0 (nI i) (val i) f_segments f_added f_kept f_clock f_rows f_many a_row a_from a_to a_held a_sort a_bits a_base le' gr' a_words a_dictionary a_dRow a_dFrom a_dTo a_dValue a_wRow a_wFrom a_wTo a_wValue a_open a_start a_changed a_change a_changes a_fresh a_gone a_column a_low a_high a_found a_value := by
        intro le' gr' fl' fg' hb'
        have st := ih (i + 1) le' gr' (by omega) (by omega) fl' fg' hb'
        rcases (by omega : i = 0 ∨ 0 < i) with rfl | hpos
        · rw [show max 1 (ss_rn val (0 + 1)) = max 1 (ss_rn val 0) by rw [ss_rn, ss_rn, if_pos (Or.inl rfl)]; omega] at st
          simp (disch := omega) only [wX_encode_111, ss_a0, ss_b0, ss_c0, ss_d0, ss_e0, ss_a1, ss_b1, ss_c1, ss_d1, ss_e1, ss_a2, ss_b2, ss_c2, ss_d2, ss_e2, ss_a3, ss_b3, ss_c3, ss_d3, ss_e3, ss_a4, ss_b4, ss_c4, ss_d4, ss_e4, ss_a5, ss_b5, ss_c5, ss_d5, ss_e5, ss_a8, ss_b8, ss_c8, ss_d8, ss_e8, ss_a32, ss_b32, ss_c32, ss_d32, ss_e32, ss_a40, ss_b40, ss_c40, ss_d40, ss_e40, ss_a48, ss_b48, ss_c48, ss_d48, ss_e48, ss_a64, ss_b64, ss_c64, ss_d64, ss_e64, ss_m2, ss_m3, ss_m4, ss_m8, ss_p2, ss_p3, ss_p4, ss_p8, ss_48p, ss_in, nI_add, nI_1, nI_clamp, nI_leI, nI_ltI, nI_eq, forall_eq, true_and, and_true]
          exact ⟨fun _ => st, fun z => absurd (Nat.le_refl 0) z⟩
        · have ev1 := hv (i - 1) (by omega)
          rw [show 3 * (first + (i - 1)) + c = 3 * (first + i) + c - 3 by omega] at ev1
          have es : nI (3 * (first + i) + c) - 3 = nI (3 * (first + i) + c - 3) := ss_s3 (by omega)
          have hri1 := r1 i hpos
          simp (disch := omega) only [wX_encode_111, ss_a0, ss_b0, ss_c0, ss_d0, ss_e0, ss_a1, ss_b1, ss_c1, ss_d1, ss_e1, ss_a2, ss_b2, ss_c2, ss_d2, ss_e2, ss_a3, ss_b3, ss_c3, ss_d3, ss_e3, ss_a4, ss_b4, ss_c4, ss_d4, ss_e4, ss_a5, ss_b5, ss_c5, ss_d5, ss_e5, ss_a8, ss_b8, ss_c8, ss_d8, ss_e8, ss_a32, ss_b32, ss_c32, ss_d32, ss_e32, ss_a40, ss_b40, ss_c40, ss_d40, ss_e40, ss_a48, ss_b48, ss_c48, ss_d48, ss_e48, ss_a64, ss_b64, ss_c64, ss_d64, ss_e64, ss_m2, ss_m3, ss_m4, ss_m8, ss_p2, ss_p3, ss_p4, ss_p8, ss_48p, ss_in, nI_add, nI_1, nI_clamp, nI_leI, nI_ltI, nI_eq, forall_eq, true_and, and_true, es, ev1]
          refine ⟨fun z => absurd z (by omega), fun _ => ⟨by omega, fun e => ?_, fun e => ?_⟩⟩
          · rw [show max 1 (ss_rn val (i + 1)) = max 1 (ss_rn val i) by rw [ss_rn, if_neg (by rintro (z | z); omega; exact z e)]; omega] at st
            exact st
          · rw [show max 1 (ss_rn val (i + 1)) = max 1 (ss_rn val i) + 1 by rw [ss_rn, if_pos (Or.inr e)]; omega] at st
            exact st
      have t90 : ∀ le' : Nat → Int32, ss_f1 a_least le' k → (∀ j, j < i + 1 → le' k ≤ val j) →
          wX_encode_90 post (wX_encode_47 post (nI c) (nI first) (nI n) (nI k) 0 f_segments f_added f_kept f_clock f_rows f_many f) (nI c) (nI first) (nI n) (nI k) (nI (max 1 (ss_rn val i))) 0 (nI i) (val i) f_segments f_added f_kept f_clock f_rows f_many a_row a_from a_to a_held a_sort a_bits a_base le' gr a_words a_dictionary a_dRow a_dFrom a_dTo a_dValue a_wRow a_wFrom a_wTo a_wValue a_open a_start a_changed a_change a_changes a_fresh a_gone a_column a_low a_high a_found a_value := by
        intro le' fl' hb'
        simp (disch := omega) only [wX_encode_90, ss_a0, ss_b0, ss_c0, ss_d0, ss_e0, ss_a1, ss_b1, ss_c1, ss_d1, ss_e1, ss_a2, ss_b2, ss_c2, ss_d2, ss_e2, ss_a3, ss_b3, ss_c3, ss_d3, ss_e3, ss_a4, ss_b4, ss_c4, ss_d4, ss_e4, ss_a5, ss_b5, ss_c5, ss_d5, ss_e5, ss_a8, ss_b8, ss_c8, ss_d8, ss_e8, ss_a32, ss_b32, ss_c32, ss_d32, ss_e32, ss_a40, ss_b40, ss_c40, ss_d40, ss_e40, ss_a48, ss_b48, ss_c48, ss_d48, ss_e48, ss_a64, ss_b64, ss_c64, ss_d64, ss_e64, ss_m2, ss_m3, ss_m4, ss_m8, ss_p2, ss_p3, ss_p4, ss_p8, ss_48p, ss_in, nI_add, nI_1, nI_clamp, nI_leI, nI_ltI, nI_eq, forall_eq, true_and, and_true]
        refine ⟨by omega, fun e => ?_, fun e => ⟨by omega, ?_⟩⟩
        · refine t111 le' gr fl' fg fun j hj => ⟨hb' j hj, ?_⟩
          rcases (by omega : j < i ∨ j = i) with h' | rfl
          · exact (hb j h').2
          · exact e
        · refine t111 le' _ fl' (ss_f1t fg ss_f1u) fun j hj => ⟨hb' j hj, ?_⟩
          rw [pk_us]
          rcases (by omega : j < i ∨ j = i) with h' | rfl
          · exact Int32.le_trans (hb j h').2 (Int32.le_of_lt (Int32.not_le.mp e))
          · exact Int32.le_refl _
      simp (disch := omega) only [wX_encode_47, ss_a0, ss_b0, ss_c0, ss_d0, ss_e0, ss_a1, ss_b1, ss_c1, ss_d1, ss_e1, ss_a2, ss_b2, ss_c2, ss_d2, ss_e2, ss_a3, ss_b3, ss_c3, ss_d3, ss_e3, ss_a4, ss_b4, ss_c4, ss_d4, ss_e4, ss_a5, ss_b5, ss_c5, ss_d5, ss_e5, ss_a8, ss_b8, ss_c8, ss_d8, ss_e8, ss_a32, ss_b32, ss_c32, ss_d32, ss_e32, ss_a40, ss_b40, ss_c40, ss_d40, ss_e40, ss_a48, ss_b48, ss_c48, ss_d48, ss_e48, ss_a64, ss_b64, ss_c64, ss_d64, ss_e64, ss_m2, ss_m3, ss_m4, ss_m8, ss_p2, ss_p3, ss_p4, ss_p8, ss_48p, ss_in, nI_add, nI_1, nI_clamp, nI_leI, nI_ltI, nI_eq, forall_eq, true_and, and_true, ev]
      refine ⟨fun z => absurd z hli, fun _ => ⟨by omega, by omega, fun e => ?_, fun e => ⟨by omega, ?_⟩⟩⟩
      · refine t90 le fl fun j hj => ?_
        rcases (by omega : j < i ∨ j = i) with h' | rfl
        · exact (hb j h').1
        · exact e
      · refine t90 _ (ss_f1t fl ss_f1u) fun j hj => ?_
        rw [pk_us]
        rcases (by omega : j < i ∨ j = i) with h' | rfl
        · exact Int32.le_trans (Int32.le_of_lt (Int32.not_le.mp e)) (hb j h').1
        · exact Int32.le_refl _
theorem ss_xe {post : SX → Prop} {g : Nat} (hg : g < 6) (hc : c < 3) (hn0 : 0 < n) (hn : n ≤ 8) (hf : first + n ≤ 48) (hv : ∀ j, j < n → a_wValue (3 * (first + j) + c) = val j)
    (h : ∀ (so bi ba le gr : Nat → Int32) (ws : Nat → Int64) (ds : Nat → Int32), ss_Enc (3 * g + c) n val a_sort a_bits a_base a_least a_greatest so bi ba le gr a_words ws a_dictionary ds → post (f_segments, f_added, f_kept, f_clock, f_rows, f_many, a_row, a_from, a_to, a_held, so, bi, ba, le, gr, ws, ds, a_dRow, a_dFrom, a_dTo, a_dValue, a_wRow, a_wFrom, a_wTo, a_wValue, a_open, a_start, a_changed, a_change, a_changes, a_fresh, a_gone, a_column, a_low, a_high, a_found, a_value)) :
    wpX_encode post (f_segments, f_added, f_kept, f_clock, f_rows, f_many, a_row, a_from, a_to, a_held, a_sort, a_bits, a_base, a_least, a_greatest, a_words, a_dictionary, a_dRow, a_dFrom, a_dTo, a_dValue, a_wRow, a_wFrom, a_wTo, a_wValue, a_open, a_start, a_changed, a_change, a_changes, a_fresh, a_gone, a_column, a_low, a_high, a_found, a_value) (nI g) (nI c) (nI first) (nI n) := by
  simp (disch := omega) only [wpX_encode, ss_a0, ss_b0, ss_c0, ss_d0, ss_e0, ss_a1, ss_b1, ss_c1, ss_d1, ss_e1, ss_a2, ss_b2, ss_c2, ss_d2, ss_e2, ss_a3, ss_b3, ss_c3, ss_d3, ss_e3, ss_a4, ss_b4, ss_c4, ss_d4, ss_e4, ss_a5, ss_b5, ss_c5, ss_d5, ss_e5, ss_a8, ss_b8, ss_c8, ss_d8, ss_e8, ss_a32, ss_b32, ss_c32, ss_d32, ss_e32, ss_a40, ss_b40, ss_c40, ss_d40, ss_e40, ss_a48, ss_b48, ss_c48, ss_d48, ss_e48, ss_a64, ss_b64, ss_c64, ss_d64, ss_e64, ss_m2, ss_m3, ss_m4, ss_m8, ss_p2, ss_p3, ss_p4, ss_p8, ss_48p, ss_in, nI_add, nI_1, nI_clamp, nI_leI, nI_ltI, nI_eq, forall_eq, true_and, and_true]
  refine ⟨by omega, by omega, by omega, by omega, n + 1, ?_⟩
  refine ss_xe47 (by omega) hc hn0 hn hf hv (fun so bi ba le gr ws ds hE => h so bi ba le gr ws ds ?_) (n + 1) 0 _ _ (by omega) (by omega) ss_f1r ss_f1r (fun j hj => by omega)
  obtain ⟨e1, e2, e3, e4, e5, e6⟩ := hE
  exact ⟨e1, e2, e3, ss_f1t ss_f1u e4, ss_f1t ss_f1u e5, e6⟩
end
end
section
/-! gathering what is live -/
def ss_App {α : Type} (s s' : Nat → α) (n : Nat) (x : α) : Prop := (∀ i, i < n → s' i = s i) ∧ s' n = x
theorem ss_AppL {α : Type} {s s' : Nat → α} {n : Nat} {x : α} (h : ss_App s s' n x) : ss_ls s' (n + 1) = ss_ls s n ++ [x] := by
  rw [ss_lsS, h.2, ss_lsC h.1]
/-- rows in order -/
def ss_So (s : Nat → ss_V) (n : Nat) : Prop := ∀ i j, i ≤ j → j < n → (s i).1 ≤ (s j).1
theorem ss_SoP {s : Nat → ss_V} {n : Nat} : ss_So s n ↔ (ss_ls s n).Pairwise (fun x y => x.1 ≤ y.1) := by
  rw [List.pairwise_iff_getElem]
  constructor
  · intro h i j hi hj hij
    rw [ss_lsG, ss_lsG]
    rw [ss_lsL] at hj
    exact h i j (by omega) hj
  · intro h i j hij hj
    rcases (by omega : i = j ∨ i < j) with rfl | hlt
    · exact Int32.le_refl _
    · have := h i j (by rw [ss_lsL]; omega) (by rw [ss_lsL]; omega) hlt
      rw [ss_lsG, ss_lsG] at this
      exact this
theorem ss_cpm {α : Type} {g : Nat → α} {p : α → Bool} {d n : Nat} (h : d ≤ n) : (ss_ls g d).countP p ≤ (ss_ls g n).countP p := by
  obtain ⟨m, rfl⟩ : ∃ m, n = d + m := ⟨n - d, by omega⟩
  rw [ss_lsA, List.countP_append]; omega
section
variable {f_segments f_added f_kept f_clock f_rows f_many : Int32} {a_row a_from a_to a_held a_sort a_bits a_base a_least a_greatest a_dictionary a_dRow a_dFrom a_dTo a_dValue a_wRow a_wFrom a_wTo a_wValue a_open a_start a_changed a_change a_changes a_fresh a_gone a_column a_low a_high a_found a_value : Nat → Int32} {a_words : Nat → Int64}
variable {sg na cl kp N : Nat} {wv : Nat → Int32}
theorem ss_trU {f : Nat → Int32} {n i : Nat} {a b c : Int32} (h : i ≠ n) : ss_tr (upd (upd (upd f (3 * n) a) (3 * n + 1) b) (3 * n + 2) c) i = ss_tr f i := by
  unfold ss_tr
  rw [pk_un (by omega), pk_un (by omega), pk_un (by omega), pk_un (by omega), pk_un (by omega), pk_un (by omega), pk_un (by omega), pk_un (by omega), pk_un (by omega)]
theorem ss_trS {f : Nat → Int32} {n : Nat} {a b c : Int32} : ss_tr (upd (upd (upd f (3 * n) a) (3 * n + 1) b) (3 * n + 2) c) n = (a, b, c) := by
  unfold ss_tr
  rw [pk_un (j := 3 * n) (by omega), pk_un (j := 3 * n) (by omega), pk_us, pk_un (j := 3 * n + 1) (by omega), pk_us, pk_us]
theorem ss_xtk {post : SX → Prop} {r f t : Int32} (hk : kp < 48) (h : post (nI sg, nI na, nI (kp + 1), nI cl, f_rows, f_many, a_row, a_from, a_to, a_held, a_sort, a_bits, a_base, a_least, a_greatest, a_words, a_dictionary, a_dRow, a_dFrom, a_dTo, a_dValue, upd a_wRow kp r, upd a_wFrom kp f, upd a_wTo kp t, a_wValue, a_open, a_start, a_changed, a_change, a_changes, a_fresh, a_gone, a_column, a_low, a_high, a_found, a_value)) : wpX_take post (nI sg, nI na, nI kp, nI cl, f_rows, f_many, a_row, a_from, a_to, a_held, a_sort, a_bits, a_base, a_least, a_greatest, a_words, a_dictionary, a_dRow, a_dFrom, a_dTo, a_dValue, a_wRow, a_wFrom, a_wTo, a_wValue, a_open, a_start, a_changed, a_change, a_changes, a_fresh, a_gone, a_column, a_low, a_high, a_found, a_value) r f t := by
  simp (disch := omega) only [wpX_take, ss_a0, ss_b0, ss_c0, ss_d0, ss_e0, ss_a1, ss_b1, ss_c1, ss_d1, ss_e1, ss_a2, ss_b2, ss_c2, ss_d2, ss_e2, ss_a3, ss_b3, ss_c3, ss_d3, ss_e3, ss_a4, ss_b4, ss_c4, ss_d4, ss_e4, ss_a5, ss_b5, ss_c5, ss_d5, ss_e5, ss_a8, ss_b8, ss_c8, ss_d8, ss_e8, ss_a32, ss_b32, ss_c32, ss_d32, ss_e32, ss_a40, ss_b40, ss_c40, ss_d40, ss_e40, ss_a48, ss_b48, ss_c48, ss_d48, ss_e48, ss_a64, ss_b64, ss_c64, ss_d64, ss_e64, ss_m2, ss_m3, ss_m4, ss_m8, ss_p2, ss_p3, ss_p4, ss_p8, ss_48p, ss_in, nI_add, nI_1, nI_clamp, nI_leI, nI_ltI, nI_eq, forall_eq, true_and, and_true]
  exact ⟨hk, hk, hk, h⟩
theorem ss_xco {post : SX → Prop} {g i n : Nat} (hg : g < 6) (hi : i < n) (hn : n ≤ 8) (hk : kp < 48) (hC : ∀ c, c < 3 → ss_Cod a_sort a_bits a_base a_words a_dictionary (3 * g + c) n (fun i => wv (3 * (8 * g + i) + c)))
    (h : ∀ wr wf wt wl : Nat → Int32, ss_App (ss_ve a_wRow a_wFrom a_wTo a_wValue) (ss_ve wr wf wt wl) kp (ss_ve a_row a_from a_to wv (8 * g + i)) → post (nI sg, nI na, nI (kp + 1), nI cl, f_rows, f_many, a_row, a_from, a_to, a_held, a_sort, a_bits, a_base, a_least, a_greatest, a_words, a_dictionary, a_dRow, a_dFrom, a_dTo, a_dValue, wr, wf, wt, wl, a_open, a_start, a_changed, a_change, a_changes, a_fresh, a_gone, a_column, a_low, a_high, a_found, a_value)) : wpX_copyOut post (nI sg, nI na, nI kp, nI cl, f_rows, f_many, a_row, a_from, a_to, a_held, a_sort, a_bits, a_base, a_least, a_greatest, a_words, a_dictionary, a_dRow, a_dFrom, a_dTo, a_dValue, a_wRow, a_wFrom, a_wTo, a_wValue, a_open, a_start, a_changed, a_change, a_changes, a_fresh, a_gone, a_column, a_low, a_high, a_found, a_value) (nI g) (nI i) := by
  have l3 : ∀ f (wl : Nat → Int32), wl = upd (upd (upd a_wValue (3 * kp) (wv (3 * (8 * g + i)))) (3 * kp + 1) (wv (3 * (8 * g + i) + 1))) (3 * kp + 2) (wv (3 * (8 * g + i) + 2)) → wX_copyOut_2 post (nI g) (nI i) (nI sg) (nI na) (nI kp) (nI cl) f_rows f_many (f + 1) (nI 3) a_row a_from a_to a_held a_sort a_bits a_base a_least a_greatest a_words a_dictionary a_dRow a_dFrom a_dTo a_dValue a_wRow a_wFrom a_wTo wl a_open a_start a_changed a_change a_changes a_fresh a_gone a_column a_low a_high a_found a_value := by
    rintro f wl rfl
    simp (disch := omega) only [wX_copyOut_2, ss_a0, ss_b0, ss_c0, ss_d0, ss_e0, ss_a1, ss_b1, ss_c1, ss_d1, ss_e1, ss_a2, ss_b2, ss_c2, ss_d2, ss_e2, ss_a3, ss_b3, ss_c3, ss_d3, ss_e3, ss_a4, ss_b4, ss_c4, ss_d4, ss_e4, ss_a5, ss_b5, ss_c5, ss_d5, ss_e5, ss_a8, ss_b8, ss_c8, ss_d8, ss_e8, ss_a32, ss_b32, ss_c32, ss_d32, ss_e32, ss_a40, ss_b40, ss_c40, ss_d40, ss_e40, ss_a48, ss_b48, ss_c48, ss_d48, ss_e48, ss_a64, ss_b64, ss_c64, ss_d64, ss_e64, ss_m2, ss_m3, ss_m4, ss_m8, ss_p2, ss_p3, ss_p4, ss_p8, ss_48p, ss_in, nI_add, nI_1, nI_clamp, nI_leI, nI_ltI, nI_eq, forall_eq, true_and, and_true]
    refine ⟨fun _ => ⟨by omega, by omega, by omega, ss_xtk hk (h (upd a_wRow kp (a_row (8 * g + i))) (upd a_wFrom kp (a_from (8 * g + i))) (upd a_wTo kp (a_to (8 * g + i))) _ ⟨fun j hj => ?_, ?_⟩)⟩, fun z => absurd (Nat.le_refl 3) z⟩
    · unfold ss_ve
      rw [pk_un (by omega), pk_un (by omega), pk_un (by omega)]
      exact congrArg (fun z => (a_wRow j, a_wFrom j, a_wTo j, z)) (ss_trU (by omega))
    · unfold ss_ve
      rw [pk_us, pk_us, pk_us]
      exact congrArg (fun z => (a_row (8 * g + i), a_from (8 * g + i), a_to (8 * g + i), z)) ss_trS
  have st : ∀ f c (wl : Nat → Int32), c < 3 → wX_copyOut_2 post (nI g) (nI i) (nI sg) (nI na) (nI kp) (nI cl) f_rows f_many f (nI (c + 1)) a_row a_from a_to a_held a_sort a_bits a_base a_least a_greatest a_words a_dictionary a_dRow a_dFrom a_dTo a_dValue a_wRow a_wFrom a_wTo (upd wl (3 * kp + c) (wv (3 * (8 * g + i) + c))) a_open a_start a_changed a_change a_changes a_fresh a_gone a_column a_low a_high a_found a_value → wX_copyOut_2 post (nI g) (nI i) (nI sg) (nI na) (nI kp) (nI cl) f_rows f_many (f + 1) (nI c) a_row a_from a_to a_held a_sort a_bits a_base a_least a_greatest a_words a_dictionary a_dRow a_dFrom a_dTo a_dValue a_wRow a_wFrom a_wTo wl a_open a_start a_changed a_change a_changes a_fresh a_gone a_column a_low a_high a_found a_value := by
    intro f c wl hc hn'
    simp (disch := omega) only [wX_copyOut_2, ss_a0, ss_b0, ss_c0, ss_d0, ss_e0, ss_a1, ss_b1, ss_c1, ss_d1, ss_e1, ss_a2, ss_b2, ss_c2, ss_d2, ss_e2, ss_a3, ss_b3, ss_c3, ss_d3, ss_e3, ss_a4, ss_b4, ss_c4, ss_d4, ss_e4, ss_a5, ss_b5, ss_c5, ss_d5, ss_e5, ss_a8, ss_b8, ss_c8, ss_d8, ss_e8, ss_a32, ss_b32, ss_c32, ss_d32, ss_e32, ss_a40, ss_b40, ss_c40, ss_d40, ss_e40, ss_a48, ss_b48, ss_c48, ss_d48, ss_e48, ss_a64, ss_b64, ss_c64, ss_d64, ss_e64, ss_m2, ss_m3, ss_m4, ss_m8, ss_p2, ss_p3, ss_p4, ss_p8, ss_48p, ss_in, nI_add, nI_1, nI_clamp, nI_leI, nI_ltI, nI_eq, forall_eq, true_and, and_true]
    exact ⟨fun z => absurd z (by omega), fun _ => ss_xde (n := n) hg hc hi hn (hC c hc) ⟨by omega, hn'⟩⟩
  exact ⟨4, st 3 0 _ (by omega) (st 2 1 _ (by omega) (st 1 2 _ (by omega) (l3 0 _ rfl)))⟩
theorem ss_xex {post : SX → Prop} {x y : Nat} (hx : x < 48) (hy : y < 48) (hne : x ≠ y)
    (h : ∀ wr wf wt wl : Nat → Int32, ss_ve wr wf wt wl x = ss_ve a_wRow a_wFrom a_wTo a_wValue y → ss_ve wr wf wt wl y = ss_ve a_wRow a_wFrom a_wTo a_wValue x → (∀ i, i ≠ x → i ≠ y → ss_ve wr wf wt wl i = ss_ve a_wRow a_wFrom a_wTo a_wValue i) → post (nI sg, nI na, nI kp, nI cl, f_rows, f_many, a_row, a_from, a_to, a_held, a_sort, a_bits, a_base, a_least, a_greatest, a_words, a_dictionary, a_dRow, a_dFrom, a_dTo, a_dValue, wr, wf, wt, wl, a_open, a_start, a_changed, a_change, a_changes, a_fresh, a_gone, a_column, a_low, a_high, a_found, a_value)) :
    wpX_exchange post (nI sg, nI na, nI kp, nI cl, f_rows, f_many, a_row, a_from, a_to, a_held, a_sort, a_bits, a_base, a_least, a_greatest, a_words, a_dictionary, a_dRow, a_dFrom, a_dTo, a_dValue, a_wRow, a_wFrom, a_wTo, a_wValue, a_open, a_start, a_changed, a_change, a_changes, a_fresh, a_gone, a_column, a_low, a_high, a_found, a_value) (nI x) (nI y) := by
  simp (disch := omega) only [wpX_exchange, ss_a0, ss_b0, ss_c0, ss_d0, ss_e0, ss_a1, ss_b1, ss_c1, ss_d1, ss_e1, ss_a2, ss_b2, ss_c2, ss_d2, ss_e2, ss_a3, ss_b3, ss_c3, ss_d3, ss_e3, ss_a4, ss_b4, ss_c4, ss_d4, ss_e4, ss_a5, ss_b5, ss_c5, ss_d5, ss_e5, ss_a8, ss_b8, ss_c8, ss_d8, ss_e8, ss_a32, ss_b32, ss_c32, ss_d32, ss_e32, ss_a40, ss_b40, ss_c40, ss_d40, ss_e40, ss_a48, ss_b48, ss_c48, ss_d48, ss_e48, ss_a64, ss_b64, ss_c64, ss_d64, ss_e64, ss_m2, ss_m3, ss_m4, ss_m8, ss_p2, ss_p3, ss_p4, ss_p8, ss_48p, ss_in, nI_add, nI_1, nI_clamp, nI_leI, nI_ltI, nI_eq, forall_eq, true_and, and_true]
  refine ⟨hx, hx, hx, hy, hx, hy, hx, hy, hx, hy, hy, hy, 4, ?_⟩
  have key : ∀ f c (wl : Nat → Int32), c ≤ 3 → 3 < f + c → (∀ d, d < c → wl (3 * x + d) = a_wValue (3 * y + d) ∧ wl (3 * y + d) = a_wValue (3 * x + d)) → (∀ d, c ≤ d → d < 3 → wl (3 * x + d) = a_wValue (3 * x + d) ∧ wl (3 * y + d) = a_wValue (3 * y + d)) → (∀ i d, i ≠ x → i ≠ y → d < 3 → wl (3 * i + d) = a_wValue (3 * i + d)) →
      wX_exchange_85 post (nI x) (nI y) (nI sg) (nI na) (nI kp) (nI cl) f_rows f_many f (nI c) a_row a_from a_to a_held a_sort a_bits a_base a_least a_greatest a_words a_dictionary a_dRow a_dFrom a_dTo a_dValue (upd (upd a_wRow x (a_wRow y)) y (a_wRow x)) (upd (upd a_wFrom x (a_wFrom y)) y (a_wFrom x)) (upd (upd a_wTo x (a_wTo y)) y (a_wTo x)) wl a_open a_start a_changed a_change a_changes a_fresh a_gone a_column a_low a_high a_found a_value := by
    intro f
    induction f with
    | zero => intro c wl h1 h2; omega
    | succ f ih =>
      intro c wl hc hf h1 h2 h3
      simp (disch := omega) only [wX_exchange_85, ss_a0, ss_b0, ss_c0, ss_d0, ss_e0, ss_a1, ss_b1, ss_c1, ss_d1, ss_e1, ss_a2, ss_b2, ss_c2, ss_d2, ss_e2, ss_a3, ss_b3, ss_c3, ss_d3, ss_e3, ss_a4, ss_b4, ss_c4, ss_d4, ss_e4, ss_a5, ss_b5, ss_c5, ss_d5, ss_e5, ss_a8, ss_b8, ss_c8, ss_d8, ss_e8, ss_a32, ss_b32, ss_c32, ss_d32, ss_e32, ss_a40, ss_b40, ss_c40, ss_d40, ss_e40, ss_a48, ss_b48, ss_c48, ss_d48, ss_e48, ss_a64, ss_b64, ss_c64, ss_d64, ss_e64, ss_m2, ss_m3, ss_m4, ss_m8, ss_p2, ss_p3, ss_p4, ss_p8, ss_48p, ss_in, nI_add, nI_1, nI_clamp, nI_leI, nI_ltI, nI_eq, forall_eq, true_and, and_true]
      refine ⟨fun z => h _ _ _ _ ?_ ?_ (fun i a b => ?_), fun z => ⟨by omega, by omega, by omega, by omega, ih (c + 1) _ (by omega) (by omega) (fun d hd => ?_) (fun d hd hd2 => ?_) (fun i d a b hd => ?_)⟩⟩
      · unfold ss_ve
        rw [pk_un hne, pk_us, pk_un hne, pk_us, pk_un hne, pk_us, ss_trC fun d hd => (h1 d (by omega)).1]
      · unfold ss_ve
        rw [pk_us, pk_us, pk_us, ss_trC fun d hd => (h1 d (by omega)).2]
      · unfold ss_ve
        rw [pk_un b, pk_un a, pk_un b, pk_un a, pk_un b, pk_un a, ss_trC fun d hd => h3 i d a b hd]
      · rcases (by omega : d < c ∨ d = c) with h' | rfl
        · rw [pk_un (by omega), pk_un (by omega), pk_un (by omega), pk_un (by omega)]
          exact h1 d h'
        · obtain ⟨a, b⟩ := h2 d (by omega) (by omega)
          rw [pk_un (by omega), pk_us, pk_us]
          exact ⟨b, a⟩
      · rw [pk_un (by omega), pk_un (by omega), pk_un (by omega), pk_un (by omega)]
        exact h2 d (by omega) hd2
      · rw [pk_un (by omega), pk_un (by omega)]
        exact h3 i d a b hd
  exact key 4 0 a_wValue (by omega) (by omega) (fun d hd => by omega) (fun d _ _ => ⟨rfl, rfl⟩) (fun _ _ _ _ _ => rfl)
/-- one is sunk to its place -/
theorem ss_xsk_l {post : SX → Prop} {n : Nat} (hn : n < 48)
    (h : ∀ wr wf wt wl : Nat → Int32, List.Perm (ss_ls (ss_ve wr wf wt wl) (n + 1)) (ss_ls (ss_ve a_wRow a_wFrom a_wTo a_wValue) (n + 1)) → ss_So (ss_ve wr wf wt wl) (n + 1) → post (nI sg, nI na, nI kp, nI cl, f_rows, f_many, a_row, a_from, a_to, a_held, a_sort, a_bits, a_base, a_least, a_greatest, a_words, a_dictionary, a_dRow, a_dFrom, a_dTo, a_dValue, wr, wf, wt, wl, a_open, a_start, a_changed, a_change, a_changes, a_fresh, a_gone, a_column, a_low, a_high, a_found, a_value)) :
    ∀ f k (wr wf wt wl : Nat → Int32), k ≤ n → k < f → List.Perm (ss_ls (ss_ve wr wf wt wl) (n + 1)) (ss_ls (ss_ve a_wRow a_wFrom a_wTo a_wValue) (n + 1)) →
      (∀ i j, i ≤ j → j < n + 1 → i ≠ k → j ≠ k → wr i ≤ wr j) → (∀ j, k < j → j < n + 1 → wr k ≤ wr j) →
      wX_sink_2 post f (nI k) (nI sg) (nI na) (nI kp) (nI cl) f_rows f_many a_row a_from a_to a_held a_sort a_bits a_base a_least a_greatest a_words a_dictionary a_dRow a_dFrom a_dTo a_dValue wr wf wt wl a_open a_start a_changed a_change a_changes a_fresh a_gone a_column a_low a_high a_found a_value := by
  intro f
  induction f with
  | zero => intro k wr wf wt wl h1 h2; omega
  | succ f ih =>
    intro k wr wf wt wl hk hf hP hs1 hs2
    have done : (0 < k → wr (k - 1) ≤ wr k) → post (nI sg, nI na, nI kp, nI cl, f_rows, f_many, a_row, a_from, a_to, a_held, a_sort, a_bits, a_base, a_least, a_greatest, a_words, a_dictionary, a_dRow, a_dFrom, a_dTo, a_dValue, wr, wf, wt, wl, a_open, a_start, a_changed, a_change, a_changes, a_fresh, a_gone, a_column, a_low, a_high, a_found, a_value) := by
      intro hd
      refine h _ _ _ _ hP fun i j hij hj => ?_
      show wr i ≤ wr j
      by_cases e1 : i = k
      · subst e1
        rcases (by omega : i = j ∨ i < j) with rfl | h'
        · exact Int32.le_refl _
        · exact hs2 j h' hj
      · by_cases e2 : j = k
        · subst e2
          rcases (by omega : i = j - 1 ∨ i < j - 1) with rfl | h'
          · exact hd (by omega)
          · exact Int32.le_trans (hs1 i (j - 1) (by omega) (by omega) e1 (by omega)) (hd (by omega))
        · exact hs1 i j hij hj e1 e2
    by_cases k0 : k ≤ 0
    · simp (disch := omega) only [wX_sink_2, ss_a0, ss_b0, ss_c0, ss_d0, ss_e0, ss_a1, ss_b1, ss_c1, ss_d1, ss_e1, ss_a2, ss_b2, ss_c2, ss_d2, ss_e2, ss_a3, ss_b3, ss_c3, ss_d3, ss_e3, ss_a4, ss_b4, ss_c4, ss_d4, ss_e4, ss_a5, ss_b5, ss_c5, ss_d5, ss_e5, ss_a8, ss_b8, ss_c8, ss_d8, ss_e8, ss_a32, ss_b32, ss_c32, ss_d32, ss_e32, ss_a40, ss_b40, ss_c40, ss_d40, ss_e40, ss_a48, ss_b48, ss_c48, ss_d48, ss_e48, ss_a64, ss_b64, ss_c64, ss_d64, ss_e64, ss_m2, ss_m3, ss_m4, ss_m8, ss_p2, ss_p3, ss_p4, ss_p8, ss_48p, ss_in, nI_add, nI_1, nI_clamp, nI_leI, nI_ltI, nI_eq, forall_eq, true_and, and_true]
      exact ⟨fun _ => done (fun z => by omega), fun z => absurd k0 z⟩
    · have ek : nI k - 1 = nI (k - 1) := ss_s1 (by omega)
      have ek2 : nI k + (-1) = nI (k - 1) := ss_sm1 (by omega)
      have go : wr k ≤ wr (k - 1) → wX_sink_57 post (wX_sink_2 post f) (nI k) (nI sg) (nI na) (nI kp) (nI cl) f_rows f_many a_row a_from a_to a_held a_sort a_bits a_base a_least a_greatest a_words a_dictionary a_dRow a_dFrom a_dTo a_dValue wr wf wt wl a_open a_start a_changed a_change a_changes a_fresh a_gone a_column a_low a_high a_found a_value := by
        intro hle
        simp (disch := omega) only [wX_sink_57, ek, ek2, forall_eq]
        refine ss_xex (by omega) (by omega) (by omega) fun wr' wf' wt' wl' x1 x2 x3 => ?_
        have r1 : wr' (k - 1) = wr k := congrArg Prod.fst x1
        have r2 : wr' k = wr (k - 1) := congrArg Prod.fst x2
        have r3 : ∀ i, i ≠ k - 1 → i ≠ k → wr' i = wr i := fun i a b => congrArg Prod.fst (x3 i a b)
        refine ih (k - 1) wr' wf' wt' wl' (by omega) (by omega) ((ss_lsSw (i := k - 1) (j := k) (by omega) (by omega) x1 x2 (fun i _ a b => x3 i a b)).trans hP) (fun i j hij hj a b => ?_) (fun j hj hj2 => ?_)
        · by_cases e1 : i = k
          · subst e1
            rcases (by omega : i = j ∨ i < j) with rfl | h'
            · exact Int32.le_refl _
            · rw [r2, r3 j (by omega) (by omega)]
              exact hs1 (i - 1) j (by omega) hj (by omega) (by omega)
          · by_cases e2 : j = k
            · subst e2
              rw [r2, r3 i a e1]
              exact hs1 i (j - 1) (by omega) (by omega) (by omega) (by omega)
            · rw [r3 i a e1, r3 j b e2]
              exact hs1 i j hij hj e1 e2
        · rw [r1]
          by_cases e2 : j = k
          · subst e2; rw [r2]; exact hle
          · rw [r3 j (by omega) e2]
            exact hs2 j (by omega) hj2
      simp (disch := omega) only [wX_sink_2, ss_a0, ss_b0, ss_c0, ss_d0, ss_e0, ss_a1, ss_b1, ss_c1, ss_d1, ss_e1, ss_a2, ss_b2, ss_c2, ss_d2, ss_e2, ss_a3, ss_b3, ss_c3, ss_d3, ss_e3, ss_a4, ss_b4, ss_c4, ss_d4, ss_e4, ss_a5, ss_b5, ss_c5, ss_d5, ss_e5, ss_a8, ss_b8, ss_c8, ss_d8, ss_e8, ss_a32, ss_b32, ss_c32, ss_d32, ss_e32, ss_a40, ss_b40, ss_c40, ss_d40, ss_e40, ss_a48, ss_b48, ss_c48, ss_d48, ss_e48, ss_a64, ss_b64, ss_c64, ss_d64, ss_e64, ss_m2, ss_m3, ss_m4, ss_m8, ss_p2, ss_p3, ss_p4, ss_p8, ss_48p, ss_in, nI_add, nI_1, nI_clamp, nI_leI, nI_ltI, nI_eq, forall_eq, true_and, and_true, ek]
      refine ⟨fun z => absurd z k0, fun _ => ⟨by omega, by omega, fun hlt => go (Int32.le_of_lt hlt), fun hnl => ⟨by omega, by omega, fun he => ⟨by omega, by omega, fun hf2 => done (fun _ => ?_), fun hf2 => go ?_⟩, fun he => done (fun _ => Int32.not_lt.mp hnl)⟩⟩⟩
      · exact Int32.not_lt.mp hnl
      · rw [he]; exact Int32.le_refl _
theorem ss_xsk {post : SX → Prop} {n : Nat} (hn : n < 48) (hs : ss_So (ss_ve a_wRow a_wFrom a_wTo a_wValue) n)
    (h : ∀ wr wf wt wl : Nat → Int32, List.Perm (ss_ls (ss_ve wr wf wt wl) (n + 1)) (ss_ls (ss_ve a_wRow a_wFrom a_wTo a_wValue) (n + 1)) → ss_So (ss_ve wr wf wt wl) (n + 1) → post (nI sg, nI na, nI kp, nI cl, f_rows, f_many, a_row, a_from, a_to, a_held, a_sort, a_bits, a_base, a_least, a_greatest, a_words, a_dictionary, a_dRow, a_dFrom, a_dTo, a_dValue, wr, wf, wt, wl, a_open, a_start, a_changed, a_change, a_changes, a_fresh, a_gone, a_column, a_low, a_high, a_found, a_value)) : wpX_sink post (nI sg, nI na, nI kp, nI cl, f_rows, f_many, a_row, a_from, a_to, a_held, a_sort, a_bits, a_base, a_least, a_greatest, a_words, a_dictionary, a_dRow, a_dFrom, a_dTo, a_dValue, a_wRow, a_wFrom, a_wTo, a_wValue, a_open, a_start, a_changed, a_change, a_changes, a_fresh, a_gone, a_column, a_low, a_high, a_found, a_value) (nI n) := by
  refine ⟨n + 1, ss_xsk_l hn h (n + 1) n _ _ _ _ (by omega) (by omega) (List.Perm.refl _) (fun i j hij hj a b => hs i j hij (by omega)) (fun j a b => by omega)⟩
end
end
section
section
variable {f_segments f_added f_kept f_clock f_rows f_many : Int32} {a_row a_from a_to a_held a_sort a_bits a_base a_least a_greatest a_dictionary a_dRow a_dFrom a_dTo a_dValue a_wRow a_wFrom a_wTo a_wValue a_open a_start a_changed a_change a_changes a_fresh a_gone a_column a_low a_high a_found a_value : Nat → Int32} {a_words : Nat → Int64}
variable {sg na cl kp N : Nat} {wv : Nat → Int32}
/-- all columns of the segments are coded -/
def ss_Cols (sg N : Nat) (so bi ba le gr : Nat → Int32) (ws : Nat → Int64) (ds wv : Nat → Int32) : Prop :=
  ∀ g c, g < sg → c < 3 → ss_Cod so bi ba ws ds (3 * g + c) (min 8 (N - 8 * g)) (fun i => wv (3 * (8 * g + i) + c)) ∧ ∀ i, i < min 8 (N - 8 * g) → le (3 * g + c) ≤ wv (3 * (8 * g + i) + c) ∧ wv (3 * (8 * g + i) + c) ≤ gr (3 * g + c)
theorem ss_fS {g : Nat → ss_V} {p : ss_V → Bool} {n : Nat} : (ss_ls g (n + 1)).filter p = (ss_ls g n).filter p ++ (if p (g n) = true then [g n] else []) := by
  rw [ss_lsS, List.filter_append]
  congr 1
  by_cases h : p (g n) = true <;> simp [h]
theorem ss_xg17 {post : SX → Prop} {J : Int32 → Int32 → Int32 → Int32 → Int32 → Int32 → Int32 → (Nat → Int32) → (Nat → Int32) → (Nat → Int32) → (Nat → Int32) → (Nat → Int32) → (Nat → Int32) → (Nat → Int32) → (Nat → Int32) → (Nat → Int32) → (Nat → Int64) → (Nat → Int32) → (Nat → Int32) → (Nat → Int32) → (Nat → Int32) → (Nat → Int32) → (Nat → Int32) → (Nat → Int32) → (Nat → Int32) → (Nat → Int32) → (Nat → Int32) → (Nat → Int32) → (Nat → Int32) → (Nat → Int32) → (Nat → Int32) → (Nat → Int32) → (Nat → Int32) → (Nat → Int32) → (Nat → Int32) → (Nat → Int32) → (Nat → Int32) → (Nat → Int32) → Prop} {g : Nat}
    (S : ss_Seg sg N a_held a_row) (C : ss_Cols sg N a_sort a_bits a_base a_least a_greatest a_words a_dictionary wv) (hg : g < sg)
    (hJ : ∀ kp (wr wf wt wl : Nat → Int32), ss_ls (ss_ve wr wf wt wl) kp = (ss_ls (ss_ve a_row a_from a_to wv) (min (8 * g + 8) N)).filter (ss_lv (nI cl) a_open a_start (-1)) → J (nI (g + 1)) (nI sg) (nI na) (nI kp) (nI cl) f_rows f_many a_row a_from a_to a_held a_sort a_bits a_base a_least a_greatest a_words a_dictionary a_dRow a_dFrom a_dTo a_dValue wr wf wt wl a_open a_start a_changed a_change a_changes a_fresh a_gone a_column a_low a_high a_found a_value) :
    ∀ f i kp (wr wf wt wl : Nat → Int32), i ≤ min 8 (N - 8 * g) → 8 < f + i → ss_ls (ss_ve wr wf wt wl) kp = (ss_ls (ss_ve a_row a_from a_to wv) (8 * g + i)).filter (ss_lv (nI cl) a_open a_start (-1)) →
      wX_gather_17 post J (nI g) f (nI i) (nI sg) (nI na) (nI kp) (nI cl) f_rows f_many a_row a_from a_to a_held a_sort a_bits a_base a_least a_greatest a_words a_dictionary a_dRow a_dFrom a_dTo a_dValue wr wf wt wl a_open a_start a_changed a_change a_changes a_fresh a_gone a_column a_low a_high a_found a_value := by
  obtain ⟨hN, s1, s2, hh, hs⟩ := S
  intro f
  induction f with
  | zero => intro i kp wr wf wt wl h1 h2; omega
  | succ f ih =>
    intro i kp wr wf wt wl hi hf hL
    have e := hh g hg
    have hkp : kp ≤ 8 * g + i := by
      have := congrArg List.length hL
      rw [ss_lsL] at this
      have h2 := List.length_filter_le (ss_lv (nI cl) a_open a_start (-1)) (ss_ls (ss_ve a_row a_from a_to wv) (8 * g + i))
      rw [ss_lsL] at h2
      omega
    simp (disch := omega) only [wX_gather_17, ss_a0, ss_b0, ss_c0, ss_d0, ss_e0, ss_a1, ss_b1, ss_c1, ss_d1, ss_e1, ss_a2, ss_b2, ss_c2, ss_d2, ss_e2, ss_a3, ss_b3, ss_c3, ss_d3, ss_e3, ss_a4, ss_b4, ss_c4, ss_d4, ss_e4, ss_a5, ss_b5, ss_c5, ss_d5, ss_e5, ss_a8, ss_b8, ss_c8, ss_d8, ss_e8, ss_a32, ss_b32, ss_c32, ss_d32, ss_e32, ss_a40, ss_b40, ss_c40, ss_d40, ss_e40, ss_a48, ss_b48, ss_c48, ss_d48, ss_e48, ss_a64, ss_b64, ss_c64, ss_d64, ss_e64, ss_m2, ss_m3, ss_m4, ss_m8, ss_p2, ss_p3, ss_p4, ss_p8, ss_48p, ss_in, nI_add, nI_1, nI_clamp, nI_leI, nI_ltI, nI_eq, forall_eq, true_and, and_true, e]
    refine ⟨by omega, fun z => ?_, fun z => ⟨by omega, by omega, ss_xlv (ss_br (fun hb => ?_) (fun hb => ?_))⟩⟩
    · refine hJ kp wr wf wt wl ?_
      rw [hL]
      congr 2
      omega
    · refine ih (i + 1) kp wr wf wt wl (by omega) (by omega) ?_
      rw [← Nat.add_assoc, ss_fS, show ss_lv (nI cl) a_open a_start (-1) (ss_ve a_row a_from a_to wv (8 * g + i)) = false from hb, hL]
      simp
    · refine ss_xco (n := min 8 (N - 8 * g)) (wv := wv) (by omega) (by omega) (by omega) (by omega) (fun c hc => (C g c hg hc).1) fun wr' wf' wt' wl' hA => ?_
      refine ih (i + 1) (kp + 1) wr' wf' wt' wl' (by omega) (by omega) ?_
      rw [← Nat.add_assoc, ss_fS, show ss_lv (nI cl) a_open a_start (-1) (ss_ve a_row a_from a_to wv (8 * g + i)) = true from hb, ss_AppL hA, hL]
      simp
theorem ss_xg7 {post : SX → Prop} (S : ss_Seg sg N a_held a_row) (C : ss_Cols sg N a_sort a_bits a_base a_least a_greatest a_words a_dictionary wv)
    (h : ∀ kp (wr wf wt wl : Nat → Int32), ss_ls (ss_ve wr wf wt wl) kp = (ss_ls (ss_ve a_row a_from a_to wv) N).filter (ss_lv (nI cl) a_open a_start (-1)) → ∃ n77, wX_gather_77 post n77 0 (nI sg) (nI na) (nI kp) (nI cl) f_rows f_many a_row a_from a_to a_held a_sort a_bits a_base a_least a_greatest a_words a_dictionary a_dRow a_dFrom a_dTo a_dValue wr wf wt wl a_open a_start a_changed a_change a_changes a_fresh a_gone a_column a_low a_high a_found a_value) :
    ∀ f g kp (wr wf wt wl : Nat → Int32), g ≤ sg → sg < f + g → ss_ls (ss_ve wr wf wt wl) kp = (ss_ls (ss_ve a_row a_from a_to wv) (min (8 * g) N)).filter (ss_lv (nI cl) a_open a_start (-1)) →
      wX_gather_7 post f (nI g) (nI sg) (nI na) (nI kp) (nI cl) f_rows f_many a_row a_from a_to a_held a_sort a_bits a_base a_least a_greatest a_words a_dictionary a_dRow a_dFrom a_dTo a_dValue wr wf wt wl a_open a_start a_changed a_change a_changes a_fresh a_gone a_column a_low a_high a_found a_value := by
  have S' := S
  obtain ⟨hN, s1, s2, hh, hs⟩ := S'
  intro f
  induction f with
  | zero => intro g kp wr wf wt wl h1 h2; omega
  | succ f ih =>
    intro g kp wr wf wt wl hg hf hL
    simp (disch := omega) only [wX_gather_7, ss_a0, ss_b0, ss_c0, ss_d0, ss_e0, ss_a1, ss_b1, ss_c1, ss_d1, ss_e1, ss_a2, ss_b2, ss_c2, ss_d2, ss_e2, ss_a3, ss_b3, ss_c3, ss_d3, ss_e3, ss_a4, ss_b4, ss_c4, ss_d4, ss_e4, ss_a5, ss_b5, ss_c5, ss_d5, ss_e5, ss_a8, ss_b8, ss_c8, ss_d8, ss_e8, ss_a32, ss_b32, ss_c32, ss_d32, ss_e32, ss_a40, ss_b40, ss_c40, ss_d40, ss_e40, ss_a48, ss_b48, ss_c48, ss_d48, ss_e48, ss_a64, ss_b64, ss_c64, ss_d64, ss_e64, ss_m2, ss_m3, ss_m4, ss_m8, ss_p2, ss_p3, ss_p4, ss_p8, ss_48p, ss_in, nI_add, nI_1, nI_clamp, nI_leI, nI_ltI, nI_eq, forall_eq, true_and, and_true]
    refine ⟨fun z => h kp wr wf wt wl ?_, fun z => ⟨9, ?_⟩⟩
    · rw [hL]; congr 2; omega
    · refine ss_xg17 S C (by omega) (fun kp' wr' wf' wt' wl' hL' => ih (g + 1) kp' wr' wf' wt' wl' (by omega) (by omega) hL') 9 0 kp wr wf wt wl (by omega) (by omega) ?_
      rw [hL]; congr 2; omega
theorem ss_xg110 {post : SX → Prop} {J : Int32 → Int32 → Int32 → Int32 → Int32 → Int32 → Int32 → (Nat → Int32) → (Nat → Int32) → (Nat → Int32) → (Nat → Int32) → (Nat → Int32) → (Nat → Int32) → (Nat → Int32) → (Nat → Int32) → (Nat → Int32) → (Nat → Int64) → (Nat → Int32) → (Nat → Int32) → (Nat → Int32) → (Nat → Int32) → (Nat → Int32) → (Nat → Int32) → (Nat → Int32) → (Nat → Int32) → (Nat → Int32) → (Nat → Int32) → (Nat → Int32) → (Nat → Int32) → (Nat → Int32) → (Nat → Int32) → (Nat → Int32) → (Nat → Int32) → (Nat → Int32) → (Nat → Int32) → (Nat → Int32) → (Nat → Int32) → (Nat → Int32) → Prop} {d : Nat}
    (hd : d < 32) (hk : kp < 48) (hs : ss_So (ss_ve a_wRow a_wFrom a_wTo a_wValue) kp)
    (h : ∀ wr wf wt wl : Nat → Int32, List.Perm (ss_ls (ss_ve wr wf wt wl) (kp + 1)) (ss_ls (ss_ve a_wRow a_wFrom a_wTo a_wValue) kp ++ [ss_ve a_dRow a_dFrom a_dTo a_dValue d]) → ss_So (ss_ve wr wf wt wl) (kp + 1) → J (nI (d + 1)) (nI sg) (nI na) (nI (kp + 1)) (nI cl) f_rows f_many a_row a_from a_to a_held a_sort a_bits a_base a_least a_greatest a_words a_dictionary a_dRow a_dFrom a_dTo a_dValue wr wf wt wl a_open a_start a_changed a_change a_changes a_fresh a_gone a_column a_low a_high a_found a_value) :
    ∃ n110, wX_gather_110 post J (nI d) (nI sg) (nI na) (nI kp) (nI cl) f_rows f_many n110 0 a_row a_from a_to a_held a_sort a_bits a_base a_least a_greatest a_words a_dictionary a_dRow a_dFrom a_dTo a_dValue a_wRow a_wFrom a_wTo a_wValue a_open a_start a_changed a_change a_changes a_fresh a_gone a_column a_low a_high a_found a_value := by
  have l3 : ∀ f (wl : Nat → Int32), wl = upd (upd (upd a_wValue (3 * kp) (a_dValue (3 * d))) (3 * kp + 1) (a_dValue (3 * d + 1))) (3 * kp + 2) (a_dValue (3 * d + 2)) → wX_gather_110 post J (nI d) (nI sg) (nI na) (nI kp) (nI cl) f_rows f_many (f + 1) (nI 3) a_row a_from a_to a_held a_sort a_bits a_base a_least a_greatest a_words a_dictionary a_dRow a_dFrom a_dTo a_dValue a_wRow a_wFrom a_wTo wl a_open a_start a_changed a_change a_changes a_fresh a_gone a_column a_low a_high a_found a_value := by
    rintro f wl rfl
    have hA : ss_App (ss_ve a_wRow a_wFrom a_wTo a_wValue) (ss_ve (upd a_wRow kp (a_dRow d)) (upd a_wFrom kp (a_dFrom d)) (upd a_wTo kp (a_dTo d)) (upd (upd (upd a_wValue (3 * kp) (a_dValue (3 * d))) (3 * kp + 1) (a_dValue (3 * d + 1))) (3 * kp + 2) (a_dValue (3 * d + 2)))) kp (ss_ve a_dRow a_dFrom a_dTo a_dValue d) := by
      refine ⟨fun j hj => ?_, ?_⟩
      · unfold ss_ve
        rw [pk_un (by omega), pk_un (by omega), pk_un (by omega)]
        exact congrArg (fun z => (a_wRow j, a_wFrom j, a_wTo j, z)) (ss_trU (by omega))
      · unfold ss_ve
        rw [pk_us, pk_us, pk_us]
        exact congrArg (fun z => (a_dRow d, a_dFrom d, a_dTo d, z)) ss_trS
    simp (disch := omega) only [wX_gather_110, ss_a0, ss_b0, ss_c0, ss_d0, ss_e0, ss_a1, ss_b1, ss_c1, ss_d1, ss_e1, ss_a2, ss_b2, ss_c2, ss_d2, ss_e2, ss_a3, ss_b3, ss_c3, ss_d3, ss_e3, ss_a4, ss_b4, ss_c4, ss_d4, ss_e4, ss_a5, ss_b5, ss_c5, ss_d5, ss_e5, ss_a8, ss_b8, ss_c8, ss_d8, ss_e8, ss_a32, ss_b32, ss_c32, ss_d32, ss_e32, ss_a40, ss_b40, ss_c40, ss_d40, ss_e40, ss_a48, ss_b48, ss_c48, ss_d48, ss_e48, ss_a64, ss_b64, ss_c64, ss_d64, ss_e64, ss_m2, ss_m3, ss_m4, ss_m8, ss_p2, ss_p3, ss_p4, ss_p8, ss_48p, ss_in, nI_add, nI_1, nI_clamp, nI_leI, nI_ltI, nI_eq, forall_eq, true_and, and_true]
    refine ⟨fun _ => ⟨hd, hd, hd, ss_xtk hk ?_⟩, fun z => absurd (Nat.le_refl 3) z⟩
    dsimp only
    rw [nI_pred]
    refine ss_xsk (kp := kp + 1) hk (fun i j hij hj => ?_) fun wr wf wt wl hP hS => ?_
    · rw [hA.1 i (by omega), hA.1 j hj]; exact hs i j hij hj
    · refine h wr wf wt wl ?_ hS
      rw [ss_AppL hA] at hP
      exact hP
  have st : ∀ f c (wl : Nat → Int32), c < 3 → wX_gather_110 post J (nI d) (nI sg) (nI na) (nI kp) (nI cl) f_rows f_many f (nI (c + 1)) a_row a_from a_to a_held a_sort a_bits a_base a_least a_greatest a_words a_dictionary a_dRow a_dFrom a_dTo a_dValue a_wRow a_wFrom a_wTo (upd wl (3 * kp + c) (a_dValue (3 * d + c))) a_open a_start a_changed a_change a_changes a_fresh a_gone a_column a_low a_high a_found a_value → wX_gather_110 post J (nI d) (nI sg) (nI na) (nI kp) (nI cl) f_rows f_many (f + 1) (nI c) a_row a_from a_to a_held a_sort a_bits a_base a_least a_greatest a_words a_dictionary a_dRow a_dFrom a_dTo a_dValue a_wRow a_wFrom a_wTo wl a_open a_start a_changed a_change a_changes a_fresh a_gone a_column a_low a_high a_found a_value := by
    intro f c wl hc hn'
    simp (disch := omega) only [wX_gather_110, ss_a0, ss_b0, ss_c0, ss_d0, ss_e0, ss_a1, ss_b1, ss_c1, ss_d1, ss_e1, ss_a2, ss_b2, ss_c2, ss_d2, ss_e2, ss_a3, ss_b3, ss_c3, ss_d3, ss_e3, ss_a4, ss_b4, ss_c4, ss_d4, ss_e4, ss_a5, ss_b5, ss_c5, ss_d5, ss_e5, ss_a8, ss_b8, ss_c8, ss_d8, ss_e8, ss_a32, ss_b32, ss_c32, ss_d32, ss_e32, ss_a40, ss_b40, ss_c40, ss_d40, ss_e40, ss_a48, ss_b48, ss_c48, ss_d48, ss_e48, ss_a64, ss_b64, ss_c64, ss_d64, ss_e64, ss_m2, ss_m3, ss_m4, ss_m8, ss_p2, ss_p3, ss_p4, ss_p8, ss_48p, ss_in, nI_add, nI_1, nI_clamp, nI_leI, nI_ltI, nI_eq, forall_eq, true_and, and_true]
    exact ⟨fun z => absurd z (by omega), fun _ => ⟨by omega, by omega, hn'⟩⟩
  exact ⟨4, st 3 0 _ (by omega) (st 2 1 _ (by omega) (st 1 2 _ (by omega) (l3 0 _ rfl)))⟩
theorem ss_xg77 {post : SX → Prop} (hna : na ≤ 32)
    (hcap : (ss_ls (ss_ve a_row a_from a_to wv) N ++ ss_ls (ss_ve a_dRow a_dFrom a_dTo a_dValue) na).countP (ss_lv (nI cl) a_open a_start (-1)) ≤ 40)
    (h : ∀ kp (wr wf wt wl : Nat → Int32), List.Perm (ss_ls (ss_ve wr wf wt wl) kp) ((ss_ls (ss_ve a_row a_from a_to wv) N ++ ss_ls (ss_ve a_dRow a_dFrom a_dTo a_dValue) na).filter (ss_lv (nI cl) a_open a_start (-1))) → ss_So (ss_ve wr wf wt wl) kp → post (nI sg, nI na, nI kp, nI cl, f_rows, f_many, a_row, a_from, a_to, a_held, a_sort, a_bits, a_base, a_least, a_greatest, a_words, a_dictionary, a_dRow, a_dFrom, a_dTo, a_dValue, wr, wf, wt, wl, a_open, a_start, a_changed, a_change, a_changes, a_fresh, a_gone, a_column, a_low, a_high, a_found, a_value)) :
    ∀ f d kp (wr wf wt wl : Nat → Int32), d ≤ na → na < f + d → List.Perm (ss_ls (ss_ve wr wf wt wl) kp) ((ss_ls (ss_ve a_row a_from a_to wv) N ++ ss_ls (ss_ve a_dRow a_dFrom a_dTo a_dValue) d).filter (ss_lv (nI cl) a_open a_start (-1))) → ss_So (ss_ve wr wf wt wl) kp →
      wX_gather_77 post f (nI d) (nI sg) (nI na) (nI kp) (nI cl) f_rows f_many a_row a_from a_to a_held a_sort a_bits a_base a_least a_greatest a_words a_dictionary a_dRow a_dFrom a_dTo a_dValue wr wf wt wl a_open a_start a_changed a_change a_changes a_fresh a_gone a_column a_low a_high a_found a_value := by
  intro f
  induction f with
  | zero => intro d kp wr wf wt wl h1 h2; omega
  | succ f ih =>
    intro d kp wr wf wt wl hd hf hP hS
    simp (disch := omega) only [wX_gather_77, ss_a0, ss_b0, ss_c0, ss_d0, ss_e0, ss_a1, ss_b1, ss_c1, ss_d1, ss_e1, ss_a2, ss_b2, ss_c2, ss_d2, ss_e2, ss_a3, ss_b3, ss_c3, ss_d3, ss_e3, ss_a4, ss_b4, ss_c4, ss_d4, ss_e4, ss_a5, ss_b5, ss_c5, ss_d5, ss_e5, ss_a8, ss_b8, ss_c8, ss_d8, ss_e8, ss_a32, ss_b32, ss_c32, ss_d32, ss_e32, ss_a40, ss_b40, ss_c40, ss_d40, ss_e40, ss_a48, ss_b48, ss_c48, ss_d48, ss_e48, ss_a64, ss_b64, ss_c64, ss_d64, ss_e64, ss_m2, ss_m3, ss_m4, ss_m8, ss_p2, ss_p3, ss_p4, ss_p8, ss_48p, ss_in, nI_add, nI_1, nI_clamp, nI_leI, nI_ltI, nI_eq, forall_eq, true_and, and_true]
    refine ⟨fun z => h kp wr wf wt wl ?_ hS, fun z => ⟨by omega, by omega, ss_xlv (ss_br (fun hb => ?_) (fun hb => ?_))⟩⟩
    · rw [show na = d by omega]; exact hP
    · refine ih (d + 1) kp wr wf wt wl (by omega) (by omega) ?_ hS
      rw [List.filter_append, ss_fS, show ss_lv (nI cl) a_open a_start (-1) (ss_ve a_dRow a_dFrom a_dTo a_dValue d) = false from hb]
      rw [List.filter_append] at hP
      simpa using hP
    · have hb' : ss_lv (nI cl) a_open a_start (-1) (ss_ve a_dRow a_dFrom a_dTo a_dValue d) = true := hb
      have hlen : kp + 1 ≤ 40 := by
        have h1 := hP.length_eq
        rw [ss_lsL, ← List.countP_eq_length_filter, List.countP_append] at h1
        have h2 := ss_cpm (g := ss_ve a_dRow a_dFrom a_dTo a_dValue) (p := ss_lv (nI cl) a_open a_start (-1)) (d := d + 1) (n := na) (by omega)
        rw [ss_lsS, ss_cP, if_pos hb'] at h2
        rw [List.countP_append] at hcap
        omega
      refine ss_xg110 (by omega) (by omega) hS fun wr' wf' wt' wl' hP' hS' => ?_
      refine ih (d + 1) (kp + 1) wr' wf' wt' wl' (by omega) (by omega) ?_ hS'
      refine hP'.trans ?_
      rw [List.filter_append, ss_fS, if_pos hb', ← List.append_assoc, ← List.filter_append]
      exact hP.append_right _
theorem ss_xga {post : SX → Prop} (S : ss_Seg sg N a_held a_row) (C : ss_Cols sg N a_sort a_bits a_base a_least a_greatest a_words a_dictionary wv) (hna : na ≤ 32)
    (hcap : (ss_ls (ss_ve a_row a_from a_to wv) N ++ ss_ls (ss_ve a_dRow a_dFrom a_dTo a_dValue) na).countP (ss_lv (nI cl) a_open a_start (-1)) ≤ 40)
    (h : ∀ kp (wr wf wt wl : Nat → Int32), List.Perm (ss_ls (ss_ve wr wf wt wl) kp) ((ss_ls (ss_ve a_row a_from a_to wv) N ++ ss_ls (ss_ve a_dRow a_dFrom a_dTo a_dValue) na).filter (ss_lv (nI cl) a_open a_start (-1))) → ss_So (ss_ve wr wf wt wl) kp → post (nI sg, nI na, nI kp, nI cl, f_rows, f_many, a_row, a_from, a_to, a_held, a_sort, a_bits, a_base, a_least, a_greatest, a_words, a_dictionary, a_dRow, a_dFrom, a_dTo, a_dValue, wr, wf, wt, wl, a_open, a_start, a_changed, a_change, a_changes, a_fresh, a_gone, a_column, a_low, a_high, a_found, a_value)) :
    wpX_gather post (nI sg, nI na, f_kept, nI cl, f_rows, f_many, a_row, a_from, a_to, a_held, a_sort, a_bits, a_base, a_least, a_greatest, a_words, a_dictionary, a_dRow, a_dFrom, a_dTo, a_dValue, a_wRow, a_wFrom, a_wTo, a_wValue, a_open, a_start, a_changed, a_change, a_changes, a_fresh, a_gone, a_column, a_low, a_high, a_found, a_value) := by
  refine ⟨sg + 1, ss_xg7 (wv := wv) S C (fun kp wr wf wt wl hL => ⟨na + 1, ss_xg77 (wv := wv) hna hcap h (na + 1) 0 kp wr wf wt wl (by omega) (by omega) ?_ ?_⟩) (sg + 1) 0 0 a_wRow a_wFrom a_wTo a_wValue (by omega) (by omega) ?_⟩
  · rw [hL]; simp [ss_ls]
  · rw [ss_SoP, hL]
    refine List.Pairwise.filter _ (ss_SoP.mp ?_)
    exact fun i j hij hj => S.2.2.2.2 i j hij hj
  · simp [ss_ls]
end
end
section
section
variable {f_segments f_added f_kept f_clock f_rows f_many : Int32} {a_row a_from a_to a_held a_sort a_bits a_base a_least a_greatest a_dictionary a_dRow a_dFrom a_dTo a_dValue a_wRow a_wFrom a_wTo a_wValue a_open a_start a_changed a_change a_changes a_fresh a_gone a_column a_low a_high a_found a_value : Nat → Int32} {a_words : Nat → Int64}
variable {cl kp : Nat}
/-- one column coded, with its bounds -/
def ss_Col (so bi ba le gr : Nat → Int32) (ws : Nat → Int64) (ds : Nat → Int32) (k n : Nat) (val : Nat → Int32) : Prop :=
  ss_Cod so bi ba ws ds k n val ∧ ∀ i, i < n → le k ≤ val i ∧ val i ≤ gr k
theorem ss_ColF {k n k' n' : Nat} {val val' : Nat → Int32} {so bi ba le gr so' bi' ba' le' gr' : Nat → Int32} {ws ws' : Nat → Int64} {ds ds' : Nat → Int32} (hE : ss_Enc k n val so bi ba le gr so' bi' ba' le' gr' ws ws' ds ds') (hne : ¬ k' = k)
    (h : ss_Col so bi ba le gr ws ds k' n' val') : ss_Col so' bi' ba' le' gr' ws' ds' k' n' val' := by
  obtain ⟨e1, e2, e3, e4, e5, e6, e7, -, -⟩ := hE
  have w : ∀ j, j < 4 → ws' (4 * k' + j) = ws (4 * k' + j) := fun j hj => e6 _ (by omega)
  have d : ∀ j, j < 4 → ds' (4 * k' + j) = ds (4 * k' + j) := fun j hj => e7 _ (by omega)
  have w0 : ws' (4 * k') = ws (4 * k') := w 0 (by omega)
  refine ⟨?_, fun i hi => ?_⟩
  · unfold ss_Cod
    rw [e1 _ hne, e2 _ hne, e3 _ hne, w0]
    rcases h.1 with ⟨hs, b, u, hb, eb, hw, hf⟩ | ⟨hs, s1, s2, s3, h12, h23, h3n, ew, k1, k2, k3, k4⟩ | ⟨hs, u, hu, eu, hd⟩
    · refine Or.inl ⟨hs, b, u, hb, eb, fun j hj => ⟨(hw j hj).1, ?_⟩, hf⟩
      dsimp only
      rw [w j hj]; exact (hw j hj).2
    · refine Or.inr (Or.inl ⟨hs, s1, s2, s3, h12, h23, h3n, ew, ?_, ?_, ?_, ?_⟩)
      · dsimp only; rw [d 0 (by omega)]; exact k1
      · dsimp only; rw [d 1 (by omega)]; exact k2
      · dsimp only; rw [d 2 (by omega)]; exact k3
      · dsimp only; rw [d 3 (by omega)]; exact k4
    · refine Or.inr (Or.inr ⟨hs, u, hu, eu, fun i hi => ?_⟩)
      dsimp only
      rw [d _ (Nat.mod_lt _ (by decide))]; exact hd i hi
  · rw [e4 _ hne, e5 _ hne]; exact h.2 i hi
/-- columns before one -/
def ss_Cop (g c K : Nat) (so bi ba le gr : Nat → Int32) (ws : Nat → Int64) (ds wv : Nat → Int32) : Prop :=
  ∀ g' c', c' < 3 → (g' < g ∨ (g' = g ∧ c' < c)) → ss_Col so bi ba le gr ws ds (3 * g' + c') (min 8 (K - 8 * g')) (fun i => wv (3 * (8 * g' + i) + c'))
theorem ss_xr148 {post : SX → Prop} {J : Int32 → Int32 → Int32 → Int32 → Int32 → Int32 → Int32 → (Nat → Int32) → (Nat → Int32) → (Nat → Int32) → (Nat → Int32) → (Nat → Int32) → (Nat → Int32) → (Nat → Int32) → (Nat → Int32) → (Nat → Int32) → (Nat → Int64) → (Nat → Int32) → (Nat → Int32) → (Nat → Int32) → (Nat → Int32) → (Nat → Int32) → (Nat → Int32) → (Nat → Int32) → (Nat → Int32) → (Nat → Int32) → (Nat → Int32) → (Nat → Int32) → (Nat → Int32) → (Nat → Int32) → (Nat → Int32) → (Nat → Int32) → (Nat → Int32) → (Nat → Int32) → (Nat → Int32) → (Nat → Int32) → (Nat → Int32) → (Nat → Int32) → Prop} {g : Nat}
    (hk : kp ≤ 48) (hg : 8 * g < kp)
    (hJ : ∀ (so bi ba le gr : Nat → Int32) (ws : Nat → Int64) (ds : Nat → Int32), ss_Cop (g + 1) 0 kp so bi ba le gr ws ds a_wValue → J (nI (8 * g + 8)) f_segments (nI 0) (nI kp) (nI cl) f_rows f_many a_row a_from a_to a_held so bi ba le gr ws ds a_dRow a_dFrom a_dTo a_dValue a_wRow a_wFrom a_wTo a_wValue a_open a_start a_changed a_change a_changes a_fresh a_gone a_column a_low a_high a_found a_value) :
    ∀ f c (so bi ba le gr : Nat → Int32) (ws : Nat → Int64) (ds : Nat → Int32), c ≤ 3 → 3 < f + c → ss_Cop g c kp so bi ba le gr ws ds a_wValue →
      wX_repack_148 post J (nI (8 * g)) (nI (min 8 (kp - 8 * g))) (nI g) f (nI c) f_segments (nI 0) (nI kp) (nI cl) f_rows f_many a_row a_from a_to a_held so bi ba le gr ws ds a_dRow a_dFrom a_dTo a_dValue a_wRow a_wFrom a_wTo a_wValue a_open a_start a_changed a_change a_changes a_fresh a_gone a_column a_low a_high a_found a_value := by
  intro f
  induction f with
  | zero => intro c so bi ba le gr ws ds h1 h2; omega
  | succ f ih =>
    intro c so bi ba le gr ws ds hc hf hC
    simp (disch := omega) only [wX_repack_148, ss_a0, ss_b0, ss_c0, ss_d0, ss_e0, ss_a1, ss_b1, ss_c1, ss_d1, ss_e1, ss_a2, ss_b2, ss_c2, ss_d2, ss_e2, ss_a3, ss_b3, ss_c3, ss_d3, ss_e3, ss_a4, ss_b4, ss_c4, ss_d4, ss_e4, ss_a5, ss_b5, ss_c5, ss_d5, ss_e5, ss_a8, ss_b8, ss_c8, ss_d8, ss_e8, ss_a32, ss_b32, ss_c32, ss_d32, ss_e32, ss_a40, ss_b40, ss_c40, ss_d40, ss_e40, ss_a48, ss_b48, ss_c48, ss_d48, ss_e48, ss_a64, ss_b64, ss_c64, ss_d64, ss_e64, ss_m2, ss_m3, ss_m4, ss_m8, ss_p2, ss_p3, ss_p4, ss_p8, ss_48p, ss_in, nI_add, nI_1, nI_clamp, nI_leI, nI_ltI, nI_eq, forall_eq, true_and, and_true]
    refine ⟨fun z => hJ so bi ba le gr ws ds fun g' c' h1 h2 => hC g' c' h1 (by omega), fun z => ?_⟩
    refine ss_xe (val := fun i => a_wValue (3 * (8 * g + i) + c)) (by omega) (by omega) (by omega) (by omega) (by omega) (fun j hj => rfl) fun so' bi' ba' le' gr' ws' ds' hE => ?_
    refine ih (c + 1) so' bi' ba' le' gr' ws' ds' (by omega) (by omega) fun g' c' h1 h2 => ?_
    by_cases e : 3 * g' + c' = 3 * g + c
    · have eg : g' = g := by omega
      have ec : c' = c := by omega
      subst eg ec
      exact ⟨hE.2.2.2.2.2.2.2.1, hE.2.2.2.2.2.2.2.2⟩
    · exact ss_ColF hE e (hC g' c' h1 (by omega))
theorem ss_xr70 {post : SX → Prop} {J : Int32 → Int32 → Int32 → Int32 → Int32 → Int32 → Int32 → (Nat → Int32) → (Nat → Int32) → (Nat → Int32) → (Nat → Int32) → (Nat → Int32) → (Nat → Int32) → (Nat → Int32) → (Nat → Int32) → (Nat → Int32) → (Nat → Int64) → (Nat → Int32) → (Nat → Int32) → (Nat → Int32) → (Nat → Int32) → (Nat → Int32) → (Nat → Int32) → (Nat → Int32) → (Nat → Int32) → (Nat → Int32) → (Nat → Int32) → (Nat → Int32) → (Nat → Int32) → (Nat → Int32) → (Nat → Int32) → (Nat → Int32) → (Nat → Int32) → (Nat → Int32) → (Nat → Int32) → (Nat → Int32) → (Nat → Int32) → (Nat → Int32) → Prop} {g : Nat}
    (hk : kp ≤ 48) (hg : 8 * g < kp) (hC : ss_Cop g 0 kp a_sort a_bits a_base a_least a_greatest a_words a_dictionary a_wValue)
    (hJ : ∀ (ro fr to so bi ba le gr : Nat → Int32) (ws : Nat → Int64) (ds : Nat → Int32), (∀ v, v < min (8 * g + 8) kp → ro v = a_wRow v ∧ fr v = a_wFrom v ∧ to v = a_wTo v) → ss_Cop (g + 1) 0 kp so bi ba le gr ws ds a_wValue → J (nI (8 * g + 8)) f_segments (nI 0) (nI kp) (nI cl) f_rows f_many ro fr to a_held so bi ba le gr ws ds a_dRow a_dFrom a_dTo a_dValue a_wRow a_wFrom a_wTo a_wValue a_open a_start a_changed a_change a_changes a_fresh a_gone a_column a_low a_high a_found a_value) :
    ∀ f i (ro fr to : Nat → Int32), i ≤ min 8 (kp - 8 * g) → 8 < f + i → (∀ v, v < 8 * g + i → ro v = a_wRow v ∧ fr v = a_wFrom v ∧ to v = a_wTo v) →
      wX_repack_70 post J (nI (8 * g)) (nI (min 8 (kp - 8 * g))) (nI g) f_segments (nI 0) (nI kp) (nI cl) f_rows f_many f (nI i) ro fr to a_held a_sort a_bits a_base a_least a_greatest a_words a_dictionary a_dRow a_dFrom a_dTo a_dValue a_wRow a_wFrom a_wTo a_wValue a_open a_start a_changed a_change a_changes a_fresh a_gone a_column a_low a_high a_found a_value := by
  intro f
  induction f with
  | zero => intro i ro fr to h1 h2; omega
  | succ f ih =>
    intro i ro fr to hi hf hR
    simp (disch := omega) only [wX_repack_70, ss_a0, ss_b0, ss_c0, ss_d0, ss_e0, ss_a1, ss_b1, ss_c1, ss_d1, ss_e1, ss_a2, ss_b2, ss_c2, ss_d2, ss_e2, ss_a3, ss_b3, ss_c3, ss_d3, ss_e3, ss_a4, ss_b4, ss_c4, ss_d4, ss_e4, ss_a5, ss_b5, ss_c5, ss_d5, ss_e5, ss_a8, ss_b8, ss_c8, ss_d8, ss_e8, ss_a32, ss_b32, ss_c32, ss_d32, ss_e32, ss_a40, ss_b40, ss_c40, ss_d40, ss_e40, ss_a48, ss_b48, ss_c48, ss_d48, ss_e48, ss_a64, ss_b64, ss_c64, ss_d64, ss_e64, ss_m2, ss_m3, ss_m4, ss_m8, ss_p2, ss_p3, ss_p4, ss_p8, ss_48p, ss_in, nI_add, nI_1, nI_clamp, nI_leI, nI_ltI, nI_eq, forall_eq, true_and, and_true]
    refine ⟨fun z => ⟨4, ?_⟩, fun z => ⟨by omega, by omega, by omega, by omega, by omega, by omega, ?_⟩⟩
    · exact ss_xr148 hk hg (fun so bi ba le gr ws ds hC' => hJ ro fr to so bi ba le gr ws ds (fun v hv => hR v (by omega)) hC') 4 0 _ _ _ _ _ _ _ (by omega) (by omega) hC
    · refine ih (i + 1) _ _ _ (by omega) (by omega) fun v hv => ?_
      rcases (by omega : v < 8 * g + i ∨ v = 8 * g + i) with h' | rfl
      · rw [pk_un (by omega), pk_un (by omega), pk_un (by omega)]
        exact hR v h'
      · rw [pk_us, pk_us, pk_us]
        exact ⟨rfl, rfl, rfl⟩
theorem ss_xr16 {post : SX → Prop} (hk : kp ≤ 48) (hS : ss_So (ss_ve a_wRow a_wFrom a_wTo a_wValue) kp)
    (h : ∀ sg (ro fr to he so bi ba le gr : Nat → Int32) (ws : Nat → Int64) (ds : Nat → Int32), ss_Seg sg kp he ro → ss_Cols sg kp so bi ba le gr ws ds a_wValue → ss_ls (ss_ve ro fr to a_wValue) kp = ss_ls (ss_ve a_wRow a_wFrom a_wTo a_wValue) kp → post (nI sg, nI 0, nI kp, nI cl, f_rows, f_many, ro, fr, to, he, so, bi, ba, le, gr, ws, ds, a_dRow, a_dFrom, a_dTo, a_dValue, a_wRow, a_wFrom, a_wTo, a_wValue, a_open, a_start, a_changed, a_change, a_changes, a_fresh, a_gone, a_column, a_low, a_high, a_found, a_value)) :
    ∀ f g (ro fr to he so bi ba le gr : Nat → Int32) (ws : Nat → Int64) (ds : Nat → Int32), 8 * g < kp + 8 → kp + 8 ≤ f + 8 * g → (∀ v, v < min (8 * g) kp → ro v = a_wRow v ∧ fr v = a_wFrom v ∧ to v = a_wTo v) → (∀ g', g' < g → he g' = nI (min 8 (kp - 8 * g'))) → ss_Cop g 0 kp so bi ba le gr ws ds a_wValue →
      wX_repack_16 post f (nI (8 * g)) (nI g) (nI 0) (nI kp) (nI cl) f_rows f_many ro fr to he so bi ba le gr ws ds a_dRow a_dFrom a_dTo a_dValue a_wRow a_wFrom a_wTo a_wValue a_open a_start a_changed a_change a_changes a_fresh a_gone a_column a_low a_high a_found a_value := by
  intro f
  induction f with
  | zero => intro g ro fr to he so bi ba le gr ws ds h1 h2; omega
  | succ f ih =>
    intro g ro fr to he so bi ba le gr ws ds hg hf hR hH hC
    by_cases hl : kp ≤ 8 * g
    · simp (disch := omega) only [wX_repack_16, ss_a0, ss_b0, ss_c0, ss_d0, ss_e0, ss_a1, ss_b1, ss_c1, ss_d1, ss_e1, ss_a2, ss_b2, ss_c2, ss_d2, ss_e2, ss_a3, ss_b3, ss_c3, ss_d3, ss_e3, ss_a4, ss_b4, ss_c4, ss_d4, ss_e4, ss_a5, ss_b5, ss_c5, ss_d5, ss_e5, ss_a8, ss_b8, ss_c8, ss_d8, ss_e8, ss_a32, ss_b32, ss_c32, ss_d32, ss_e32, ss_a40, ss_b40, ss_c40, ss_d40, ss_e40, ss_a48, ss_b48, ss_c48, ss_d48, ss_e48, ss_a64, ss_b64, ss_c64, ss_d64, ss_e64, ss_m2, ss_m3, ss_m4, ss_m8, ss_p2, ss_p3, ss_p4, ss_p8, ss_48p, ss_in, nI_add, nI_1, nI_clamp, nI_leI, nI_ltI, nI_eq, forall_eq, true_and, and_true]
      refine ⟨fun _ => h g ro fr to he so bi ba le gr ws ds ⟨hk, hg, hl, hH, fun i j hij hj => ?_⟩ (fun g' c' a b => hC g' c' b (Or.inl a)) (ss_lsC fun i hi => ?_), fun z => absurd hl z⟩
      · rw [(hR i (by omega)).1, (hR j (by omega)).1]; exact hS i j hij hj
      · unfold ss_ve
        obtain ⟨a, b, c⟩ := hR i (by omega)
        rw [a, b, c]
    · have go : wX_repack_46 post (wX_repack_16 post f) (nI (8 * g)) (nI (min 8 (kp - 8 * g))) (nI g) (nI 0) (nI kp) (nI cl) f_rows f_many ro fr to he so bi ba le gr ws ds a_dRow a_dFrom a_dTo a_dValue a_wRow a_wFrom a_wTo a_wValue a_open a_start a_changed a_change a_changes a_fresh a_gone a_column a_low a_high a_found a_value := by
        have e8 := ss_by8 (min 8 (kp - 8 * g)) (by omega)
        simp (disch := omega) only [wX_repack_46, ss_a0, ss_b0, ss_c0, ss_d0, ss_e0, ss_a1, ss_b1, ss_c1, ss_d1, ss_e1, ss_a2, ss_b2, ss_c2, ss_d2, ss_e2, ss_a3, ss_b3, ss_c3, ss_d3, ss_e3, ss_a4, ss_b4, ss_c4, ss_d4, ss_e4, ss_a5, ss_b5, ss_c5, ss_d5, ss_e5, ss_a8, ss_b8, ss_c8, ss_d8, ss_e8, ss_a32, ss_b32, ss_c32, ss_d32, ss_e32, ss_a40, ss_b40, ss_c40, ss_d40, ss_e40, ss_a48, ss_b48, ss_c48, ss_d48, ss_e48, ss_a64, ss_b64, ss_c64, ss_d64, ss_e64, ss_m2, ss_m3, ss_m4, ss_m8, ss_p2, ss_p3, ss_p4, ss_p8, ss_48p, ss_in, nI_add, nI_1, nI_clamp, nI_leI, nI_ltI, nI_eq, forall_eq, true_and, and_true, e8]
        refine ⟨by omega, 9, ?_⟩
        refine ss_xr70 hk (by omega) hC (fun ro' fr' to' so' bi' ba' le' gr' ws' ds' hR' hC' => ih (g + 1) ro' fr' to' _ so' bi' ba' le' gr' ws' ds' (by omega) (by omega) hR' (fun g' hg' => ?_) hC') 9 0 ro fr to (by omega) (by omega) (fun v hv => hR v (by omega))
        rcases (by omega : g' < g ∨ g' = g) with h' | rfl
        · rw [pk_un (by omega)]; exact hH g' h'
        · exact pk_us
      have es : nI kp - nI (8 * g) = nI (kp - 8 * g) := pk_sub (by omega)
      simp (disch := omega) only [wX_repack_16, ss_a0, ss_b0, ss_c0, ss_d0, ss_e0, ss_a1, ss_b1, ss_c1, ss_d1, ss_e1, ss_a2, ss_b2, ss_c2, ss_d2, ss_e2, ss_a3, ss_b3, ss_c3, ss_d3, ss_e3, ss_a4, ss_b4, ss_c4, ss_d4, ss_e4, ss_a5, ss_b5, ss_c5, ss_d5, ss_e5, ss_a8, ss_b8, ss_c8, ss_d8, ss_e8, ss_a32, ss_b32, ss_c32, ss_d32, ss_e32, ss_a40, ss_b40, ss_c40, ss_d40, ss_e40, ss_a48, ss_b48, ss_c48, ss_d48, ss_e48, ss_a64, ss_b64, ss_c64, ss_d64, ss_e64, ss_m2, ss_m3, ss_m4, ss_m8, ss_p2, ss_p3, ss_p4, ss_p8, ss_48p, ss_in, nI_add, nI_1, nI_clamp, nI_leI, nI_ltI, nI_eq, forall_eq, true_and, and_true, es]
      refine ⟨fun z => absurd z hl, fun _ => ⟨fun z => ?_, fun z => ?_⟩⟩
      · rw [show min 8 (kp - 8 * g) = 8 by omega] at go
        exact go
      · rw [show min 8 (kp - 8 * g) = kp - 8 * g by omega] at go
        exact go
theorem ss_xrp {post : SX → Prop} {sg na N : Nat} {wv : Nat → Int32} (S : ss_Seg sg N a_held a_row) (C : ss_Cols sg N a_sort a_bits a_base a_least a_greatest a_words a_dictionary wv) (hna : na ≤ 32)
    (hcap : (ss_ls (ss_ve a_row a_from a_to wv) N ++ ss_ls (ss_ve a_dRow a_dFrom a_dTo a_dValue) na).countP (ss_lv (nI cl) a_open a_start (-1)) ≤ 40)
    (h : ∀ sg kp (ro fr to he so bi ba le gr wr wf wt wl : Nat → Int32) (ws : Nat → Int64) (ds : Nat → Int32), kp ≤ 40 → ss_Seg sg kp he ro → ss_Cols sg kp so bi ba le gr ws ds wl →
      List.Perm (ss_ls (ss_ve ro fr to wl) kp) ((ss_ls (ss_ve a_row a_from a_to wv) N ++ ss_ls (ss_ve a_dRow a_dFrom a_dTo a_dValue) na).filter (ss_lv (nI cl) a_open a_start (-1))) →
      post (nI sg, nI 0, nI kp, nI cl, f_rows, f_many, ro, fr, to, he, so, bi, ba, le, gr, ws, ds, a_dRow, a_dFrom, a_dTo, a_dValue, wr, wf, wt, wl, a_open, a_start, a_changed, a_change, a_changes, a_fresh, a_gone, a_column, a_low, a_high, a_found, a_value)) :
    wpX_repack post (nI sg, nI na, f_kept, nI cl, f_rows, f_many, a_row, a_from, a_to, a_held, a_sort, a_bits, a_base, a_least, a_greatest, a_words, a_dictionary, a_dRow, a_dFrom, a_dTo, a_dValue, a_wRow, a_wFrom, a_wTo, a_wValue, a_open, a_start, a_changed, a_change, a_changes, a_fresh, a_gone, a_column, a_low, a_high, a_found, a_value) := by
  refine ss_xga (f_kept := f_kept) S C hna hcap fun kp wr wf wt wl hP hS => ⟨kp + 8, ?_⟩
  have hk : kp ≤ 40 := by
    have := hP.length_eq
    rw [ss_lsL, ← List.countP_eq_length_filter] at this
    omega
  refine ss_xr16 (by omega) hS (fun sg' ro fr to he so bi ba le gr ws ds hSg hCo hL => h sg' kp ro fr to he so bi ba le gr wr wf wt wl ws ds hk hSg hCo ?_) (kp + 8) 0 _ _ _ _ _ _ _ _ _ _ _ (by omega) (by omega) (fun v hv => by omega) (fun g hg => by omega) (fun g' c' a b => by omega)
  rw [hL]; exact hP
end
end
section
/-! conditions -/
def ss_p1 (co lo hi : Nat → Int32) (k : Nat) (v : ss_T) : Bool := decide (co k < 0) || (decide (lo k ≤ ss_c v (co k).toNatClampNeg) && decide (ss_c v (co k).toNatClampNeg ≤ hi k))
def ss_ps (co lo hi : Nat → Int32) (v : ss_T) : Bool := ss_p1 co lo hi 0 v && ss_p1 co lo hi 1 v
def ss_Co (co : Nat → Int32) : Prop := ∀ k, k < 2 → co k = -1 ∨ ∃ j, j < 3 ∧ co k = nI j
theorem ss_p1n {co lo hi : Nat → Int32} {k : Nat} {v : ss_T} (h : co k = -1) : ss_p1 co lo hi k v = true := by
  unfold ss_p1; rw [h]; rfl
theorem ss_p1j {co lo hi : Nat → Int32} {k j : Nat} {v : ss_T} (hj : j < 3) (h : co k = nI j) : ss_p1 co lo hi k v = (decide (lo k ≤ ss_c v j) && decide (ss_c v j ≤ hi k)) := by
  unfold ss_p1
  rw [h, nI_clamp (by omega)]
  have : ¬ nI j < 0 := nI_pos (by omega)
  simp only [this, decide_false, Bool.false_or]
theorem ss_no (a b : Nat) : nI a ||| nI b = nI (a ||| b) := by
  apply Int32.toBitVec_inj.1
  show BitVec.ofNat 32 a ||| BitVec.ofNat 32 b = BitVec.ofNat 32 (a ||| b)
  apply BitVec.eq_of_getLsbD_eq
  intro i hi
  simp [hi]
theorem ss_1sh {i : Nat} (h : i < 8) : (1 : Int32) <<< (nI i &&& 31) = nI (2 ^ i) := by
  have : (2 : Nat) ^ i ≤ 2 ^ 8 := Nat.pow_le_pow_right (by decide) (by omega)
  have e := pk_shlN (n := 1) (nI i &&& 31) i (s_l i (by omega)) (by omega)
  rw [Nat.one_mul] at e
  exact e
theorem ss_m1x (a : Nat) : nI a ^^^ (-1) = nI (a ^^^ (2 ^ 32 - 1)) := by
  rw [show (-1 : Int32) = nI (2 ^ 32 - 1) by decide, nx_xor]
theorem ss_mshr {m i : Nat} (hm : m < 2 ^ 31) (hi : i < 32) : nI m >>> (nI i &&& 31) = nI (m / 2 ^ i) := pk_shrN hm _ i (s_l i hi)
theorem ss_an1 {m : Nat} (h : m < 2 ^ 31) : nI m &&& 1 = nI (m % 2) := pk_andN (by omega) 1 (by decide)
/-- a mask of eight -/
def ss_Mk (m : Nat) (P : Nat → Bool) : Prop := ∀ i, m.testBit i = (decide (i < 8) && P i)
theorem ss_MkL {m : Nat} {P : Nat → Bool} (h : ss_Mk m P) : m < 256 := by
  refine Nat.lt_pow_two_of_testBit (n := 8) m fun i hi => ?_
  rw [h i]
  have : ¬ i < 8 := by omega
  simp only [this, decide_false, Bool.false_and]
theorem ss_MkC {m : Nat} {P Q : Nat → Bool} (h : ss_Mk m P) (e : ∀ i, i < 8 → P i = Q i) : ss_Mk m Q := by
  intro i
  rw [h i]
  by_cases h8 : i < 8
  · rw [e i h8]
  · simp only [h8, decide_false, Bool.false_and]
theorem ss_Mk0 {P : Nat → Bool} (h : ∀ i, i < 8 → P i = false) : ss_Mk 0 P := by
  intro i
  rw [Nat.zero_testBit]
  by_cases h8 : i < 8
  · rw [h i h8, Bool.and_false]
  · simp only [h8, decide_false, Bool.false_and]
theorem ss_MkS {m i : Nat} {P : Nat → Bool} (hi : i < 8) (h : ss_Mk m P) : ss_Mk (m ||| 2 ^ i) (fun j => P j || decide (j = i)) := by
  intro j
  rw [Nat.testBit_or, h j, Nat.testBit_two_pow]
  by_cases h8 : j < 8
  · simp only [h8, decide_true, Bool.true_and]
    congr 1
    exact decide_eq_decide.mpr ⟨Eq.symm, Eq.symm⟩
  · have : ¬ i = j := by omega
    simp only [h8, this, decide_false, Bool.false_and, Bool.or_false]
theorem ss_MkU {m i : Nat} {P : Nat → Bool} (hi : i < 8) (h : ss_Mk m P) : ss_Mk (m &&& (2 ^ i ^^^ (2 ^ 32 - 1))) (fun j => P j && decide (¬ j = i)) := by
  intro j
  rw [Nat.testBit_and, h j, Nat.testBit_xor, Nat.testBit_two_pow, Nat.testBit_two_pow_sub_one]
  by_cases h8 : j < 8
  · have h32 : j < 32 := by omega
    simp only [h8, h32, decide_true, Bool.true_and, Bool.xor_true]
    congr 1
    by_cases e : j = i
    · subst e; simp
    · have : ¬ i = j := fun z => e z.symm
      simp [e, this]
  · simp only [h8, decide_false, Bool.false_and]
section
variable {f_segments f_added f_kept f_clock f_rows f_many : Int32} {a_row a_from a_to a_held a_sort a_bits a_base a_least a_greatest a_dictionary a_dRow a_dFrom a_dTo a_dValue a_wRow a_wFrom a_wTo a_wValue a_open a_start a_changed a_change a_changes a_fresh a_gone a_column a_low a_high a_found a_value : Nat → Int32} {a_words : Nat → Int64}
variable {sg na cl N : Nat} {wv : Nat → Int32}
theorem ss_xp1 {post : Int32 → Prop} {a b c : Int32} {n k : Nat} (hk : k < 2) (hc : ss_Co a_column)
    (h1 : ss_p1 a_column a_low a_high k (a, b, c) = true → wX_passes_3 post a b c (nI sg) (nI na) f_kept (nI cl) f_rows f_many a_row a_from a_to a_held a_sort a_bits a_base a_least a_greatest a_words a_dictionary a_dRow a_dFrom a_dTo a_dValue a_wRow a_wFrom a_wTo a_wValue a_open a_start a_changed a_change a_changes a_fresh a_gone a_column a_low a_high a_found a_value n (nI (k + 1))) (h0 : ss_p1 a_column a_low a_high k (a, b, c) = false → post 0) : wX_passes_3 post a b c (nI sg) (nI na) f_kept (nI cl) f_rows f_many a_row a_from a_to a_held a_sort a_bits a_base a_least a_greatest a_words a_dictionary a_dRow a_dFrom a_dTo a_dValue a_wRow a_wFrom a_wTo a_wValue a_open a_start a_changed a_change a_changes a_fresh a_gone a_column a_low a_high a_found a_value (n + 1) (nI k) := by
  rcases hc k hk with e | ⟨j, hj, e⟩
  · have t1 : ¬ (-1 : Int32) = 0 := by decide
    have t2 : ¬ (-1 : Int32) = 1 := by decide
    simp (disch := omega) only [wX_passes_3, wX_passes_39, ss_a0, ss_b0, ss_c0, ss_d0, ss_e0, ss_a1, ss_b1, ss_c1, ss_d1, ss_e1, ss_a2, ss_b2, ss_c2, ss_d2, ss_e2, ss_a3, ss_b3, ss_c3, ss_d3, ss_e3, ss_a4, ss_b4, ss_c4, ss_d4, ss_e4, ss_a5, ss_b5, ss_c5, ss_d5, ss_e5, ss_a8, ss_b8, ss_c8, ss_d8, ss_e8, ss_a32, ss_b32, ss_c32, ss_d32, ss_e32, ss_a40, ss_b40, ss_c40, ss_d40, ss_e40, ss_a48, ss_b48, ss_c48, ss_d48, ss_e48, ss_a64, ss_b64, ss_c64, ss_d64, ss_e64, ss_m2, ss_m3, ss_m4, ss_m8, ss_p2, ss_p3, ss_p4, ss_p8, ss_48p, ss_in, nI_add, nI_1, nI_clamp, nI_leI, nI_ltI, nI_eq, forall_eq, true_and, and_true, e, ss_n1lt, t1, t2]
    exact ⟨fun z => absurd z (by omega), fun _ => ⟨hk, fun z => z.elim, fun _ => ⟨hk, fun z => z.elim, fun _ => ⟨hk, fun _ => h1 (ss_p1n e), fun z => absurd trivial z⟩⟩⟩⟩
  · rw [ss_p1j hj e] at h1 h0
    have fin : ∀ z0, z0 = ss_c (a, b, c) j → wX_passes_39 post (wX_passes_3 post a b c (nI sg) (nI na) f_kept (nI cl) f_rows f_many a_row a_from a_to a_held a_sort a_bits a_base a_least a_greatest a_words a_dictionary a_dRow a_dFrom a_dTo a_dValue a_wRow a_wFrom a_wTo a_wValue a_open a_start a_changed a_change a_changes a_fresh a_gone a_column a_low a_high a_found a_value n) a b c (nI k) z0 (nI sg) (nI na) f_kept (nI cl) f_rows f_many a_row a_from a_to a_held a_sort a_bits a_base a_least a_greatest a_words a_dictionary a_dRow a_dFrom a_dTo a_dValue a_wRow a_wFrom a_wTo a_wValue a_open a_start a_changed a_change a_changes a_fresh a_gone a_column a_low a_high a_found a_value := by
      rintro z0 rfl
      simp (disch := omega) only [wX_passes_39, ss_a0, ss_b0, ss_c0, ss_d0, ss_e0, ss_a1, ss_b1, ss_c1, ss_d1, ss_e1, ss_a2, ss_b2, ss_c2, ss_d2, ss_e2, ss_a3, ss_b3, ss_c3, ss_d3, ss_e3, ss_a4, ss_b4, ss_c4, ss_d4, ss_e4, ss_a5, ss_b5, ss_c5, ss_d5, ss_e5, ss_a8, ss_b8, ss_c8, ss_d8, ss_e8, ss_a32, ss_b32, ss_c32, ss_d32, ss_e32, ss_a40, ss_b40, ss_c40, ss_d40, ss_e40, ss_a48, ss_b48, ss_c48, ss_d48, ss_e48, ss_a64, ss_b64, ss_c64, ss_d64, ss_e64, ss_m2, ss_m3, ss_m4, ss_m8, ss_p2, ss_p3, ss_p4, ss_p8, ss_48p, ss_in, nI_add, nI_1, nI_clamp, nI_leI, nI_ltI, nI_eq, forall_eq, true_and, and_true, e, ss_xw]
      refine ⟨hk, fun z => absurd z (by omega), fun _ => ⟨hk, hk, ss_br (fun hb => h0 hb) (fun hb => h1 hb)⟩⟩
    simp (disch := omega) only [wX_passes_3, ss_a0, ss_b0, ss_c0, ss_d0, ss_e0, ss_a1, ss_b1, ss_c1, ss_d1, ss_e1, ss_a2, ss_b2, ss_c2, ss_d2, ss_e2, ss_a3, ss_b3, ss_c3, ss_d3, ss_e3, ss_a4, ss_b4, ss_c4, ss_d4, ss_e4, ss_a5, ss_b5, ss_c5, ss_d5, ss_e5, ss_a8, ss_b8, ss_c8, ss_d8, ss_e8, ss_a32, ss_b32, ss_c32, ss_d32, ss_e32, ss_a40, ss_b40, ss_c40, ss_d40, ss_e40, ss_a48, ss_b48, ss_c48, ss_d48, ss_e48, ss_a64, ss_b64, ss_c64, ss_d64, ss_e64, ss_m2, ss_m3, ss_m4, ss_m8, ss_p2, ss_p3, ss_p4, ss_p8, ss_48p, ss_in, nI_add, nI_1, nI_clamp, nI_leI, nI_ltI, nI_eq, forall_eq, true_and, and_true, e]
    refine ⟨fun z => absurd z (by omega), fun _ => ⟨hk, fun z => fin _ ?_, fun z => ⟨hk, fun y => fin _ ?_, fun y => fin _ ?_⟩⟩⟩
    · subst z; rfl
    · subst y; rfl
    · rw [show j = 2 by omega]; rfl
theorem ss_xps {post : Int32 → Prop} {a b c : Int32} (hc : ss_Co a_column) (h : post (ss_bi (ss_ps a_column a_low a_high (a, b, c)))) : wpX_passes post (nI sg, nI na, f_kept, nI cl, f_rows, f_many, a_row, a_from, a_to, a_held, a_sort, a_bits, a_base, a_least, a_greatest, a_words, a_dictionary, a_dRow, a_dFrom, a_dTo, a_dValue, a_wRow, a_wFrom, a_wTo, a_wValue, a_open, a_start, a_changed, a_change, a_changes, a_fresh, a_gone, a_column, a_low, a_high, a_found, a_value) a b c := by
  refine ⟨3, ss_xp1 (k := 0) (by omega) hc (fun e0 => ss_xp1 (k := 1) (by omega) hc (fun e1 => ?_) (fun e1 => ?_)) (fun e0 => ?_)⟩
  · unfold ss_ps at h
    rw [e0, e1] at h
    simp (disch := omega) only [wX_passes_3, ss_a0, ss_b0, ss_c0, ss_d0, ss_e0, ss_a1, ss_b1, ss_c1, ss_d1, ss_e1, ss_a2, ss_b2, ss_c2, ss_d2, ss_e2, ss_a3, ss_b3, ss_c3, ss_d3, ss_e3, ss_a4, ss_b4, ss_c4, ss_d4, ss_e4, ss_a5, ss_b5, ss_c5, ss_d5, ss_e5, ss_a8, ss_b8, ss_c8, ss_d8, ss_e8, ss_a32, ss_b32, ss_c32, ss_d32, ss_e32, ss_a40, ss_b40, ss_c40, ss_d40, ss_e40, ss_a48, ss_b48, ss_c48, ss_d48, ss_e48, ss_a64, ss_b64, ss_c64, ss_d64, ss_e64, ss_m2, ss_m3, ss_m4, ss_m8, ss_p2, ss_p3, ss_p4, ss_p8, ss_48p, ss_in, nI_add, nI_1, nI_clamp, nI_leI, nI_ltI, nI_eq, forall_eq, true_and, and_true]
    exact ⟨fun _ => h, fun z => absurd (by omega) z⟩
  · unfold ss_ps at h
    rw [e0, e1] at h
    exact h
  · unfold ss_ps at h
    rw [e0] at h
    exact h
theorem ss_xap {post : Int32 → Prop} {d k : Nat} (hd : d < 18) (hk : k < 2) (h1 : (a_high k < a_least d ∨ a_greatest d < a_low k) → post 1) (h0 : ¬ (a_high k < a_least d ∨ a_greatest d < a_low k) → post 0) : wpX_apart post (nI sg, nI na, f_kept, nI cl, f_rows, f_many, a_row, a_from, a_to, a_held, a_sort, a_bits, a_base, a_least, a_greatest, a_words, a_dictionary, a_dRow, a_dFrom, a_dTo, a_dValue, a_wRow, a_wFrom, a_wTo, a_wValue, a_open, a_start, a_changed, a_change, a_changes, a_fresh, a_gone, a_column, a_low, a_high, a_found, a_value) (nI d) (nI k) := by
  simp (disch := omega) only [wpX_apart, ss_a0, ss_b0, ss_c0, ss_d0, ss_e0, ss_a1, ss_b1, ss_c1, ss_d1, ss_e1, ss_a2, ss_b2, ss_c2, ss_d2, ss_e2, ss_a3, ss_b3, ss_c3, ss_d3, ss_e3, ss_a4, ss_b4, ss_c4, ss_d4, ss_e4, ss_a5, ss_b5, ss_c5, ss_d5, ss_e5, ss_a8, ss_b8, ss_c8, ss_d8, ss_e8, ss_a32, ss_b32, ss_c32, ss_d32, ss_e32, ss_a40, ss_b40, ss_c40, ss_d40, ss_e40, ss_a48, ss_b48, ss_c48, ss_d48, ss_e48, ss_a64, ss_b64, ss_c64, ss_d64, ss_e64, ss_m2, ss_m3, ss_m4, ss_m8, ss_p2, ss_p3, ss_p4, ss_p8, ss_48p, ss_in, nI_add, nI_1, nI_clamp, nI_leI, nI_ltI, nI_eq, forall_eq, true_and, and_true]
  refine ⟨hk, hd, fun z => h1 (Or.inl z), fun z => ⟨hd, hk, fun y => h0 ?_, fun y => h1 (Or.inr (Int32.not_le.mp y))⟩⟩
  rintro (x | x)
  · exact z x
  · exact absurd y (Int32.not_le.mpr x)
/-- the values left out of the mask, one condition -/
theorem ss_xpm179 {post : Int32 → Prop} {J : Int32 → Int32 → Prop} {g k j n : Nat} {P : Nat → Bool} (hg : g < 6) (hk : k < 2) (hj : j < 3) (ej : a_column k = nI j) (hn : n ≤ 8) (eh : a_held g = nI n)
    (hC : ss_Cod a_sort a_bits a_base a_words a_dictionary (3 * g + j) n (fun i => wv (3 * (8 * g + i) + j)))
    (hJ : ∀ m, ss_Mk m (fun i => decide (i < n) && P i && ss_p1 a_column a_low a_high k (ss_tr wv (8 * g + i))) → J (nI m) (nI (k + 1))) :
    ∀ f i m, i ≤ n → n < f + i → ss_Mk m (fun i' => decide (i' < n) && P i' && (decide (i ≤ i') || ss_p1 a_column a_low a_high k (ss_tr wv (8 * g + i')))) → wX_passing_179 post J (nI g) (nI k) (nI j) (nI sg) (nI na) f_kept (nI cl) f_rows f_many a_row a_from a_to a_held a_sort a_bits a_base a_least a_greatest a_words a_dictionary a_dRow a_dFrom a_dTo a_dValue a_wRow a_wFrom a_wTo a_wValue a_open a_start a_changed a_change a_changes a_fresh a_gone a_column a_low a_high a_found a_value f (nI m) (nI i) := by
  intro f
  induction f with
  | zero => intro i m h1 h2; omega
  | succ f ih =>
    intro i m hi hf hM
    have hm := ss_MkL hM
    simp (disch := omega) only [wX_passing_179, ss_a0, ss_b0, ss_c0, ss_d0, ss_e0, ss_a1, ss_b1, ss_c1, ss_d1, ss_e1, ss_a2, ss_b2, ss_c2, ss_d2, ss_e2, ss_a3, ss_b3, ss_c3, ss_d3, ss_e3, ss_a4, ss_b4, ss_c4, ss_d4, ss_e4, ss_a5, ss_b5, ss_c5, ss_d5, ss_e5, ss_a8, ss_b8, ss_c8, ss_d8, ss_e8, ss_a32, ss_b32, ss_c32, ss_d32, ss_e32, ss_a40, ss_b40, ss_c40, ss_d40, ss_e40, ss_a48, ss_b48, ss_c48, ss_d48, ss_e48, ss_a64, ss_b64, ss_c64, ss_d64, ss_e64, ss_m2, ss_m3, ss_m4, ss_m8, ss_p2, ss_p3, ss_p4, ss_p8, ss_48p, ss_in, nI_add, nI_1, nI_clamp, nI_leI, nI_ltI, nI_eq, forall_eq, true_and, and_true, eh]
    refine ⟨hg, fun z => hJ m (ss_MkC hM fun i' h8 => ?_), fun z => ss_xde (n := n) hg hj (by omega) hn hC ⟨hk, hk, ?_⟩⟩
    · by_cases e : i' < n
      · have : ¬ i ≤ i' := by omega
        simp only [e, this, decide_true, decide_false, Bool.true_and, Bool.false_or]
      · simp only [e, decide_false, Bool.false_and]
    · rw [ss_xw]
      have ev : ss_p1 a_column a_low a_high k (ss_tr wv (8 * g + i)) = (decide (a_low k ≤ wv (3 * (8 * g + i) + j)) && decide (wv (3 * (8 * g + i) + j) ≤ a_high k)) := by
        rw [ss_p1j hj ej, ss_ctr _ _ hj]
      rw [← ev]
      refine ss_br (fun hb => ?_) (fun hb => ?_)
      · rw [ss_1sh (by omega), ss_m1x, nx_and]
        refine ih (i + 1) _ (by omega) (by omega) (ss_MkC (ss_MkU (i := i) (by omega) hM) fun i' h8 => ?_)
        by_cases e : i' = i
        · subst e; simp [hb]
        · have : (decide (i ≤ i')) = decide (i + 1 ≤ i') := decide_eq_decide.mpr (by omega)
          simp only [this, e, not_false_eq_true, decide_true, Bool.and_true]
      · refine ih (i + 1) m (by omega) (by omega) (ss_MkC hM fun i' h8 => ?_)
        by_cases e : i' = i
        · subst e; simp [hb]
        · have : (decide (i ≤ i')) = decide (i + 1 ≤ i') := decide_eq_decide.mpr (by omega)
          simp only [this]
theorem ss_xpm111 {post : Int32 → Prop} {g n f k m : Nat} {P : Nat → Bool} (hg : g < 6) (hk : k < 2) (hc : ss_Co a_column) (hn : n ≤ 8) (eh : a_held g = nI n)
    (hC : ∀ c, c < 3 → ss_Cod a_sort a_bits a_base a_words a_dictionary (3 * g + c) n (fun i => wv (3 * (8 * g + i) + c)) ∧ ∀ i, i < n → a_least (3 * g + c) ≤ wv (3 * (8 * g + i) + c) ∧ wv (3 * (8 * g + i) + c) ≤ a_greatest (3 * g + c))
    (hM : ss_Mk m (fun i => decide (i < n) && P i))
    (h : ∀ m', ss_Mk m' (fun i => decide (i < n) && P i && ss_p1 a_column a_low a_high k (ss_tr wv (8 * g + i))) → wX_passing_111 post (nI g) (nI sg) (nI na) f_kept (nI cl) f_rows f_many a_row a_from a_to a_held a_sort a_bits a_base a_least a_greatest a_words a_dictionary a_dRow a_dFrom a_dTo a_dValue a_wRow a_wFrom a_wTo a_wValue a_open a_start a_changed a_change a_changes a_fresh a_gone a_column a_low a_high a_found a_value f (nI m') (nI (k + 1))) :
    wX_passing_111 post (nI g) (nI sg) (nI na) f_kept (nI cl) f_rows f_many a_row a_from a_to a_held a_sort a_bits a_base a_least a_greatest a_words a_dictionary a_dRow a_dFrom a_dTo a_dValue a_wRow a_wFrom a_wTo a_wValue a_open a_start a_changed a_change a_changes a_fresh a_gone a_column a_low a_high a_found a_value (f + 1) (nI m) (nI k) := by
  have hm := ss_MkL hM
  rcases hc k hk with e | ⟨j, hj, e⟩
  · simp (disch := omega) only [wX_passing_111, ss_a0, ss_b0, ss_c0, ss_d0, ss_e0, ss_a1, ss_b1, ss_c1, ss_d1, ss_e1, ss_a2, ss_b2, ss_c2, ss_d2, ss_e2, ss_a3, ss_b3, ss_c3, ss_d3, ss_e3, ss_a4, ss_b4, ss_c4, ss_d4, ss_e4, ss_a5, ss_b5, ss_c5, ss_d5, ss_e5, ss_a8, ss_b8, ss_c8, ss_d8, ss_e8, ss_a32, ss_b32, ss_c32, ss_d32, ss_e32, ss_a40, ss_b40, ss_c40, ss_d40, ss_e40, ss_a48, ss_b48, ss_c48, ss_d48, ss_e48, ss_a64, ss_b64, ss_c64, ss_d64, ss_e64, ss_m2, ss_m3, ss_m4, ss_m8, ss_p2, ss_p3, ss_p4, ss_p8, ss_48p, ss_in, nI_add, nI_1, nI_clamp, nI_leI, nI_ltI, nI_eq, forall_eq, true_and, and_true, e, ss_n1lt]
    refine ⟨fun z => absurd z (by omega), fun _ => ⟨hk, fun _ => h m (ss_MkC hM fun i _ => ?_), fun z => absurd trivial z⟩⟩
    rw [ss_p1n e, Bool.and_true]
  · have out : ∃ n179, wX_passing_179 post (wX_passing_111 post (nI g) (nI sg) (nI na) f_kept (nI cl) f_rows f_many a_row a_from a_to a_held a_sort a_bits a_base a_least a_greatest a_words a_dictionary a_dRow a_dFrom a_dTo a_dValue a_wRow a_wFrom a_wTo a_wValue a_open a_start a_changed a_change a_changes a_fresh a_gone a_column a_low a_high a_found a_value f) (nI g) (nI k) (nI j) (nI sg) (nI na) f_kept (nI cl) f_rows f_many a_row a_from a_to a_held a_sort a_bits a_base a_least a_greatest a_words a_dictionary a_dRow a_dFrom a_dTo a_dValue a_wRow a_wFrom a_wTo a_wValue a_open a_start a_changed a_change a_changes a_fresh a_gone a_column a_low a_high a_found a_value n179 (nI m) 0 := by
      refine ⟨n + 1, ss_xpm179 (P := P) (wv := wv) hg hk hj e hn eh (hC j hj).1 (fun m' hM' => h m' hM') (n + 1) 0 m (by omega) (by omega) (ss_MkC hM fun i _ => ?_)⟩
      have : 0 ≤ i := Nat.zero_le _
      simp only [this, decide_true, Bool.true_or, Bool.and_true]
    simp (disch := omega) only [wX_passing_111, ss_a0, ss_b0, ss_c0, ss_d0, ss_e0, ss_a1, ss_b1, ss_c1, ss_d1, ss_e1, ss_a2, ss_b2, ss_c2, ss_d2, ss_e2, ss_a3, ss_b3, ss_c3, ss_d3, ss_e3, ss_a4, ss_b4, ss_c4, ss_d4, ss_e4, ss_a5, ss_b5, ss_c5, ss_d5, ss_e5, ss_a8, ss_b8, ss_c8, ss_d8, ss_e8, ss_a32, ss_b32, ss_c32, ss_d32, ss_e32, ss_a40, ss_b40, ss_c40, ss_d40, ss_e40, ss_a48, ss_b48, ss_c48, ss_d48, ss_e48, ss_a64, ss_b64, ss_c64, ss_d64, ss_e64, ss_m2, ss_m3, ss_m4, ss_m8, ss_p2, ss_p3, ss_p4, ss_p8, ss_48p, ss_in, nI_add, nI_1, nI_clamp, nI_leI, nI_ltI, nI_eq, forall_eq, true_and, and_true, e]
    refine ⟨fun z => absurd z (by omega), fun _ => ⟨hk, fun z => absurd z (by omega), fun _ => ⟨hk, by omega, fun _ => out, fun h1 => ⟨by omega, hk, fun _ => out, fun h2 => h m (ss_MkC hM fun i _ => ?_)⟩⟩⟩⟩
    by_cases hi : i < n
    · obtain ⟨b1, b2⟩ := (hC j hj).2 i hi
      have l1 := Int32.le_trans (Int32.not_lt.mp h1) b1
      have l2 := Int32.le_trans b2 (Int32.not_lt.mp h2)
      rw [ss_p1j hj e, ss_ctr _ _ hj]
      simp only [l1, l2, decide_true, Bool.and_self, Bool.and_true]
    · simp only [hi, decide_false, Bool.false_and]
theorem ss_xpm {post : Int32 → Prop} {g n : Nat} {time : Int32} (hg : g < 6) (hc : ss_Co a_column) (hn : n ≤ 8) (eh : a_held g = nI n)
    (hC : ∀ c, c < 3 → ss_Cod a_sort a_bits a_base a_words a_dictionary (3 * g + c) n (fun i => wv (3 * (8 * g + i) + c)) ∧ ∀ i, i < n → a_least (3 * g + c) ≤ wv (3 * (8 * g + i) + c) ∧ wv (3 * (8 * g + i) + c) ≤ a_greatest (3 * g + c))
    (h : ∀ m, ss_Mk m (fun i => decide (i < n) && ss_h (a_from (8 * g + i)) (a_to (8 * g + i)) time && ss_ps a_column a_low a_high (ss_tr wv (8 * g + i))) → post (nI m)) : wpX_passing post (nI sg, nI na, f_kept, nI cl, f_rows, f_many, a_row, a_from, a_to, a_held, a_sort, a_bits, a_base, a_least, a_greatest, a_words, a_dictionary, a_dRow, a_dFrom, a_dTo, a_dValue, a_wRow, a_wFrom, a_wTo, a_wValue, a_open, a_start, a_changed, a_change, a_changes, a_fresh, a_gone, a_column, a_low, a_high, a_found, a_value) (nI g) time := by
  -- the last part: both conditions
  have p111 : ∀ m, ss_Mk m (fun i => decide (i < n) && ss_h (a_from (8 * g + i)) (a_to (8 * g + i)) time) → wX_passing_111 post (nI g) (nI sg) (nI na) f_kept (nI cl) f_rows f_many a_row a_from a_to a_held a_sort a_bits a_base a_least a_greatest a_words a_dictionary a_dRow a_dFrom a_dTo a_dValue a_wRow a_wFrom a_wTo a_wValue a_open a_start a_changed a_change a_changes a_fresh a_gone a_column a_low a_high a_found a_value 3 (nI m) 0 := by
    intro m hM
    refine ss_xpm111 (k := 0) hg (by omega) hc hn eh hC hM fun m1 hM1 => ?_
    refine ss_xpm111 (k := 1) (P := fun i => ss_h (a_from (8 * g + i)) (a_to (8 * g + i)) time && ss_p1 a_column a_low a_high 0 (ss_tr wv (8 * g + i))) hg (by omega) hc hn eh hC (ss_MkC hM1 fun i _ => by rw [Bool.and_assoc]) fun m2 hM2 => ?_
    have hm2 := ss_MkL hM2
    simp (disch := omega) only [wX_passing_111, ss_a0, ss_b0, ss_c0, ss_d0, ss_e0, ss_a1, ss_b1, ss_c1, ss_d1, ss_e1, ss_a2, ss_b2, ss_c2, ss_d2, ss_e2, ss_a3, ss_b3, ss_c3, ss_d3, ss_e3, ss_a4, ss_b4, ss_c4, ss_d4, ss_e4, ss_a5, ss_b5, ss_c5, ss_d5, ss_e5, ss_a8, ss_b8, ss_c8, ss_d8, ss_e8, ss_a32, ss_b32, ss_c32, ss_d32, ss_e32, ss_a40, ss_b40, ss_c40, ss_d40, ss_e40, ss_a48, ss_b48, ss_c48, ss_d48, ss_e48, ss_a64, ss_b64, ss_c64, ss_d64, ss_e64, ss_m2, ss_m3, ss_m4, ss_m8, ss_p2, ss_p3, ss_p4, ss_p8, ss_48p, ss_in, nI_add, nI_1, nI_clamp, nI_leI, nI_ltI, nI_eq, forall_eq, true_and, and_true]
    refine ⟨fun _ => h m2 (ss_MkC hM2 fun i _ => ?_), fun z => absurd (by omega) z⟩
    unfold ss_ps
    simp only [Bool.and_assoc]
  have p52 : ∀ f i m, i ≤ n → n < f + i → ss_Mk m (fun i' => decide (i' < i) && ss_h (a_from (8 * g + i')) (a_to (8 * g + i')) time) → wX_passing_52 post (nI g) time (nI sg) (nI na) f_kept (nI cl) f_rows f_many a_row a_from a_to a_held a_sort a_bits a_base a_least a_greatest a_words a_dictionary a_dRow a_dFrom a_dTo a_dValue a_wRow a_wFrom a_wTo a_wValue a_open a_start a_changed a_change a_changes a_fresh a_gone a_column a_low a_high a_found a_value f (nI m) (nI i) := by
    intro f
    induction f with
    | zero => intro i m h1 h2; omega
    | succ f ih =>
      intro i m hi hf hM
      have hm := ss_MkL hM
      simp (disch := omega) only [wX_passing_52, ss_a0, ss_b0, ss_c0, ss_d0, ss_e0, ss_a1, ss_b1, ss_c1, ss_d1, ss_e1, ss_a2, ss_b2, ss_c2, ss_d2, ss_e2, ss_a3, ss_b3, ss_c3, ss_d3, ss_e3, ss_a4, ss_b4, ss_c4, ss_d4, ss_e4, ss_a5, ss_b5, ss_c5, ss_d5, ss_e5, ss_a8, ss_b8, ss_c8, ss_d8, ss_e8, ss_a32, ss_b32, ss_c32, ss_d32, ss_e32, ss_a40, ss_b40, ss_c40, ss_d40, ss_e40, ss_a48, ss_b48, ss_c48, ss_d48, ss_e48, ss_a64, ss_b64, ss_c64, ss_d64, ss_e64, ss_m2, ss_m3, ss_m4, ss_m8, ss_p2, ss_p3, ss_p4, ss_p8, ss_48p, ss_in, nI_add, nI_1, nI_clamp, nI_leI, nI_ltI, nI_eq, forall_eq, true_and, and_true, eh, ss_xh]
      refine ⟨hg, fun z => ⟨3, p111 m ?_⟩, fun z => ⟨by omega, by omega, ss_br (fun hb => ?_) (fun hb => ?_)⟩⟩
      · rw [show n = i by omega]; exact hM
      · refine ih (i + 1) m (by omega) (by omega) (ss_MkC hM fun i' _ => ?_)
        by_cases e : i' = i
        · subst e; rw [hb]; simp
        · have : decide (i' < i) = decide (i' < i + 1) := decide_eq_decide.mpr (by omega)
          rw [this]
      · rw [ss_1sh (by omega), ss_no]
        refine ih (i + 1) _ (by omega) (by omega) (ss_MkC (ss_MkS (i := i) (by omega) hM) fun i' _ => ?_)
        by_cases e : i' = i
        · subst e; rw [hb]; simp
        · have : decide (i' < i) = decide (i' < i + 1) := decide_eq_decide.mpr (by omega)
          simp only [this, e, decide_false, Bool.or_false]
  have fin : wX_passing_5 post (nI g) time 0 (nI sg) (nI na) f_kept (nI cl) f_rows f_many a_row a_from a_to a_held a_sort a_bits a_base a_least a_greatest a_words a_dictionary a_dRow a_dFrom a_dTo a_dValue a_wRow a_wFrom a_wTo a_wValue a_open a_start a_changed a_change a_changes a_fresh a_gone a_column a_low a_high a_found a_value (0 + 1) (nI 2) := by
    simp (disch := omega) only [wX_passing_5, ss_a0, ss_b0, ss_c0, ss_d0, ss_e0, ss_a1, ss_b1, ss_c1, ss_d1, ss_e1, ss_a2, ss_b2, ss_c2, ss_d2, ss_e2, ss_a3, ss_b3, ss_c3, ss_d3, ss_e3, ss_a4, ss_b4, ss_c4, ss_d4, ss_e4, ss_a5, ss_b5, ss_c5, ss_d5, ss_e5, ss_a8, ss_b8, ss_c8, ss_d8, ss_e8, ss_a32, ss_b32, ss_c32, ss_d32, ss_e32, ss_a40, ss_b40, ss_c40, ss_d40, ss_e40, ss_a48, ss_b48, ss_c48, ss_d48, ss_e48, ss_a64, ss_b64, ss_c64, ss_d64, ss_e64, ss_m2, ss_m3, ss_m4, ss_m8, ss_p2, ss_p3, ss_p4, ss_p8, ss_48p, ss_in, nI_add, nI_1, nI_clamp, nI_leI, nI_ltI, nI_eq, forall_eq, true_and, and_true]
    refine ⟨fun _ => ⟨n + 1, p52 (n + 1) 0 0 (by omega) (by omega) (ss_Mk0 fun i _ => ?_)⟩, fun z => absurd (by omega) z⟩
    have : ¬ i < 0 := by omega
    simp only [this, decide_false, Bool.false_and]
  have st : ∀ f k, k < 2 → wX_passing_5 post (nI g) time 0 (nI sg) (nI na) f_kept (nI cl) f_rows f_many a_row a_from a_to a_held a_sort a_bits a_base a_least a_greatest a_words a_dictionary a_dRow a_dFrom a_dTo a_dValue a_wRow a_wFrom a_wTo a_wValue a_open a_start a_changed a_change a_changes a_fresh a_gone a_column a_low a_high a_found a_value f (nI (k + 1)) → wX_passing_5 post (nI g) time 0 (nI sg) (nI na) f_kept (nI cl) f_rows f_many a_row a_from a_to a_held a_sort a_bits a_base a_least a_greatest a_words a_dictionary a_dRow a_dFrom a_dTo a_dValue a_wRow a_wFrom a_wTo a_wValue a_open a_start a_changed a_change a_changes a_fresh a_gone a_column a_low a_high a_found a_value (f + 1) (nI k) := by
    intro f k hk hnx
    rcases hc k hk with e | ⟨j, hj, e⟩
    · simp (disch := omega) only [wX_passing_5, ss_a0, ss_b0, ss_c0, ss_d0, ss_e0, ss_a1, ss_b1, ss_c1, ss_d1, ss_e1, ss_a2, ss_b2, ss_c2, ss_d2, ss_e2, ss_a3, ss_b3, ss_c3, ss_d3, ss_e3, ss_a4, ss_b4, ss_c4, ss_d4, ss_e4, ss_a5, ss_b5, ss_c5, ss_d5, ss_e5, ss_a8, ss_b8, ss_c8, ss_d8, ss_e8, ss_a32, ss_b32, ss_c32, ss_d32, ss_e32, ss_a40, ss_b40, ss_c40, ss_d40, ss_e40, ss_a48, ss_b48, ss_c48, ss_d48, ss_e48, ss_a64, ss_b64, ss_c64, ss_d64, ss_e64, ss_m2, ss_m3, ss_m4, ss_m8, ss_p2, ss_p3, ss_p4, ss_p8, ss_48p, ss_in, nI_add, nI_1, nI_clamp, nI_leI, nI_ltI, nI_eq, forall_eq, true_and, and_true, e, ss_n1lt]
      exact ⟨fun z => absurd z (by omega), fun _ => ⟨hk, fun _ => hnx, fun z => absurd trivial z⟩⟩
    · simp (disch := omega) only [wX_passing_5, ss_a0, ss_b0, ss_c0, ss_d0, ss_e0, ss_a1, ss_b1, ss_c1, ss_d1, ss_e1, ss_a2, ss_b2, ss_c2, ss_d2, ss_e2, ss_a3, ss_b3, ss_c3, ss_d3, ss_e3, ss_a4, ss_b4, ss_c4, ss_d4, ss_e4, ss_a5, ss_b5, ss_c5, ss_d5, ss_e5, ss_a8, ss_b8, ss_c8, ss_d8, ss_e8, ss_a32, ss_b32, ss_c32, ss_d32, ss_e32, ss_a40, ss_b40, ss_c40, ss_d40, ss_e40, ss_a48, ss_b48, ss_c48, ss_d48, ss_e48, ss_a64, ss_b64, ss_c64, ss_d64, ss_e64, ss_m2, ss_m3, ss_m4, ss_m8, ss_p2, ss_p3, ss_p4, ss_p8, ss_48p, ss_in, nI_add, nI_1, nI_clamp, nI_leI, nI_ltI, nI_eq, forall_eq, true_and, and_true, e]
      refine ⟨fun z => absurd z (by omega), fun _ => ⟨hk, fun z => absurd z (by omega), fun _ => ⟨hk, ss_xap (by omega) hk (fun hap => ⟨fun z => absurd z (by decide), fun _ => ?_⟩) (fun _ => ⟨fun _ => hnx, fun z => absurd rfl z⟩)⟩⟩⟩
      have h0 := h 0 (ss_Mk0 fun i _ => ?_)
      · exact h0
      · by_cases hi : i < n
        · obtain ⟨b1, b2⟩ := (hC j hj).2 i hi
          have hf : ss_p1 a_column a_low a_high k (ss_tr wv (8 * g + i)) = false := by
            rw [ss_p1j hj e, ss_ctr _ _ hj]
            rcases hap with z | z
            · have : ¬ wv (3 * (8 * g + i) + j) ≤ a_high k := Int32.not_le.mpr (Int32.lt_of_lt_of_le z b1)
              simp only [this, decide_false, Bool.and_false]
            · have : ¬ a_low k ≤ wv (3 * (8 * g + i) + j) := Int32.not_le.mpr (Int32.lt_of_le_of_lt b2 z)
              simp only [this, decide_false, Bool.false_and]
          have : ss_ps a_column a_low a_high (ss_tr wv (8 * g + i)) = false := by
            unfold ss_ps
            rcases (by omega : k = 0 ∨ k = 1) with rfl | rfl
            · rw [hf, Bool.false_and]
            · rw [hf, Bool.and_false]
          rw [this, Bool.and_false]
        · simp only [hi, decide_false, Bool.false_and]
  exact ⟨3, st 2 0 (by omega) (st 1 1 (by omega) fin)⟩
end
end
section
/-! the rows that somebody sees -/
abbrev ss_R : Type := Int32 × ss_T
/-- who asks: which rows he has changed himself, and what he sees of them -/
def ss_Tq (t : Int32) (cq : Int32 → Bool) (chl : List ss_R) (chs cr ch gone : Nat → Int32) (ps : ss_T → Bool) : Prop :=
  (t = -1 ∧ cq = (fun _ => false) ∧ chl = []) ∨ ∃ j c, j < 4 ∧ t = nI j ∧ chs j = nI c ∧ c ≤ 8 ∧ cq = (fun r => ss_ic cr r (8 * j) c) ∧ chl = ss_fl (fun i => decide (gone (8 * j + i) = 0) && ps (ss_tr ch (8 * j + i))) (fun i => (cr (8 * j + i), ss_tr ch (8 * j + i))) c
def ss_Q (time : Int32) (cq : Int32 → Bool) (ps : ss_T → Bool) (x : ss_V) : Bool := ss_h x.2.1 x.2.2.1 time && !cq x.1 && ps x.2.2.2
def ss_rc (x : ss_V) : ss_R := (x.1, x.2.2.2)
def ss_rv (c : Nat) (y : ss_R) : Int32 × Int32 := (y.1, ss_c y.2 c)
section
variable {f_segments f_added f_kept f_clock f_rows f_many : Int32} {a_row a_from a_to a_held a_sort a_bits a_base a_least a_greatest a_dictionary a_dRow a_dFrom a_dTo a_dValue a_wRow a_wFrom a_wTo a_wValue a_open a_start a_changed a_change a_changes a_fresh a_gone a_column a_low a_high a_found a_value : Nat → Int32} {a_words : Nat → Int64}
variable {sg na cl N mn : Nat} {wv : Nat → Int32}
theorem ss_xno {post : SX → Prop} {r v : Int32} (hm : mn < 128)
    (h : ∀ fd vl : Nat → Int32, ss_ls (fun i => (fd i, vl i)) (mn + 1) = ss_ls (fun i => (a_found i, a_value i)) mn ++ [(r, v)] → post (nI sg, nI na, f_kept, nI cl, f_rows, nI (mn + 1), a_row, a_from, a_to, a_held, a_sort, a_bits, a_base, a_least, a_greatest, a_words, a_dictionary, a_dRow, a_dFrom, a_dTo, a_dValue, a_wRow, a_wFrom, a_wTo, a_wValue, a_open, a_start, a_changed, a_change, a_changes, a_fresh, a_gone, a_column, a_low, a_high, fd, vl)) : wpX_note post (nI sg, nI na, f_kept, nI cl, f_rows, nI mn, a_row, a_from, a_to, a_held, a_sort, a_bits, a_base, a_least, a_greatest, a_words, a_dictionary, a_dRow, a_dFrom, a_dTo, a_dValue, a_wRow, a_wFrom, a_wTo, a_wValue, a_open, a_start, a_changed, a_change, a_changes, a_fresh, a_gone, a_column, a_low, a_high, a_found, a_value) r v := by
  simp (disch := omega) only [wpX_note, ss_a0, ss_b0, ss_c0, ss_d0, ss_e0, ss_a1, ss_b1, ss_c1, ss_d1, ss_e1, ss_a2, ss_b2, ss_c2, ss_d2, ss_e2, ss_a3, ss_b3, ss_c3, ss_d3, ss_e3, ss_a4, ss_b4, ss_c4, ss_d4, ss_e4, ss_a5, ss_b5, ss_c5, ss_d5, ss_e5, ss_a8, ss_b8, ss_c8, ss_d8, ss_e8, ss_a32, ss_b32, ss_c32, ss_d32, ss_e32, ss_a40, ss_b40, ss_c40, ss_d40, ss_e40, ss_a48, ss_b48, ss_c48, ss_d48, ss_e48, ss_a64, ss_b64, ss_c64, ss_d64, ss_e64, ss_m2, ss_m3, ss_m4, ss_m8, ss_p2, ss_p3, ss_p4, ss_p8, ss_48p, ss_in, nI_add, nI_1, nI_clamp, nI_leI, nI_ltI, nI_eq, forall_eq, true_and, and_true]
  refine ⟨hm, hm, h _ _ ?_⟩
  rw [ss_lsS, pk_us, pk_us]
  congr 1
  refine ss_lsC fun i hi => ?_
  rw [pk_un (by omega), pk_un (by omega)]
theorem ss_xcqA {A B P : Prop} {t r : Int32} {cq : Int32 → Bool} {chl : List ss_R} {ps : ss_T → Bool} (T : ss_Tq t cq chl a_changes a_changed a_change a_gone ps) (h0 : cq r = false → A) (h1 : cq r = true → B) (hP : P) : (t < 0 → A) ∧ (¬ t < 0 → P ∧ wpX_changeOf (fun z => (z < 0 → A) ∧ (¬ z < 0 → B)) (nI sg, nI na, f_kept, nI cl, f_rows, nI mn, a_row, a_from, a_to, a_held, a_sort, a_bits, a_base, a_least, a_greatest, a_words, a_dictionary, a_dRow, a_dFrom, a_dTo, a_dValue, a_wRow, a_wFrom, a_wTo, a_wValue, a_open, a_start, a_changed, a_change, a_changes, a_fresh, a_gone, a_column, a_low, a_high, a_found, a_value) t r) := by
  rcases T with ⟨rfl, rfl, -⟩ | ⟨j, c, hj, rfl, hc, hc8, rfl, -⟩
  · exact ⟨fun _ => h0 rfl, fun z => absurd (by decide) z⟩
  · refine ⟨fun z => absurd z (nI_pos (by omega)), fun _ => ⟨hP, ss_xcf hj hc hc8 ⟨fun z => h0 (ss_icN.mp z), fun z => h1 ?_⟩⟩⟩
    rw [ss_icN, Bool.not_eq_false] at z; exact z
theorem ss_xcqB {A B P : Prop} {t r : Int32} {cq : Int32 → Bool} {chl : List ss_R} {ps : ss_T → Bool} (T : ss_Tq t cq chl a_changes a_changed a_change a_gone ps) (h0 : cq r = false → A) (h1 : cq r = true → B) (hP : P) : (t < 0 → A) ∧ (¬ t < 0 → P ∧ wpX_changeOf (fun z => (0 ≤ z → B) ∧ (¬ 0 ≤ z → A)) (nI sg, nI na, f_kept, nI cl, f_rows, nI mn, a_row, a_from, a_to, a_held, a_sort, a_bits, a_base, a_least, a_greatest, a_words, a_dictionary, a_dRow, a_dFrom, a_dTo, a_dValue, a_wRow, a_wFrom, a_wTo, a_wValue, a_open, a_start, a_changed, a_change, a_changes, a_fresh, a_gone, a_column, a_low, a_high, a_found, a_value) t r) := by
  rcases T with ⟨rfl, rfl, -⟩ | ⟨j, c, hj, rfl, hc, hc8, rfl, -⟩
  · exact ⟨fun _ => h0 rfl, fun z => absurd (by decide) z⟩
  · refine ⟨fun z => absurd z (nI_pos (by omega)), fun _ => ⟨hP, ss_xcf hj hc hc8 ⟨fun z => h1 (ss_icL.mp z), fun z => h0 ?_⟩⟩⟩
    rw [ss_icL, Bool.not_eq_true] at z; exact z
/-- the changes of who asks -/
theorem ss_xs265 {post : SX → Prop} {t c k : Nat} {L0 : List (Int32 × Int32)} (ht : t < 4) (hc3 : c < 3) (hk : a_changes t = nI k) (hk8 : k ≤ 8) (hco : ss_Co a_column) (hL0 : L0.length ≤ 100)
    (h : ∀ mn (fd vl : Nat → Int32), ss_ls (fun i => (fd i, vl i)) mn = L0 ++ (ss_fl (fun i => decide (a_gone (8 * t + i) = 0) && ss_ps a_column a_low a_high (ss_tr a_change (8 * t + i))) (fun i => (a_changed (8 * t + i), ss_tr a_change (8 * t + i))) k).map (ss_rv c) → post (nI sg, nI na, f_kept, nI cl, f_rows, nI mn, a_row, a_from, a_to, a_held, a_sort, a_bits, a_base, a_least, a_greatest, a_words, a_dictionary, a_dRow, a_dFrom, a_dTo, a_dValue, a_wRow, a_wFrom, a_wTo, a_wValue, a_open, a_start, a_changed, a_change, a_changes, a_fresh, a_gone, a_column, a_low, a_high, fd, vl)) :
    ∀ f i mn (fd vl : Nat → Int32), i ≤ k → k < f + i → ss_ls (fun i => (fd i, vl i)) mn = L0 ++ (ss_fl (fun i => decide (a_gone (8 * t + i) = 0) && ss_ps a_column a_low a_high (ss_tr a_change (8 * t + i))) (fun i => (a_changed (8 * t + i), ss_tr a_change (8 * t + i))) i).map (ss_rv c) →
      wX_search_265 post (nI t) (nI c) f (nI (8 * t + i)) (nI sg) (nI na) f_kept (nI cl) f_rows (nI mn) a_row a_from a_to a_held a_sort a_bits a_base a_least a_greatest a_words a_dictionary a_dRow a_dFrom a_dTo a_dValue a_wRow a_wFrom a_wTo a_wValue a_open a_start a_changed a_change a_changes a_fresh a_gone a_column a_low a_high fd vl := by
  intro f
  induction f with
  | zero => intro i mn fd vl h1 h2; omega
  | succ f ih =>
    intro i mn fd vl hi hf hL
    have hmn : mn ≤ 100 + i := by
      have h1 := congrArg List.length hL
      rw [ss_lsL, List.length_append, List.length_map] at h1
      have := ss_flL (p := (fun i => decide (a_gone (8 * t + i) = 0) && ss_ps a_column a_low a_high (ss_tr a_change (8 * t + i)))) (g := (fun i => (a_changed (8 * t + i), ss_tr a_change (8 * t + i)))) (n := i)
      omega
    simp (disch := omega) only [wX_search_265, ss_a0, ss_b0, ss_c0, ss_d0, ss_e0, ss_a1, ss_b1, ss_c1, ss_d1, ss_e1, ss_a2, ss_b2, ss_c2, ss_d2, ss_e2, ss_a3, ss_b3, ss_c3, ss_d3, ss_e3, ss_a4, ss_b4, ss_c4, ss_d4, ss_e4, ss_a5, ss_b5, ss_c5, ss_d5, ss_e5, ss_a8, ss_b8, ss_c8, ss_d8, ss_e8, ss_a32, ss_b32, ss_c32, ss_d32, ss_e32, ss_a40, ss_b40, ss_c40, ss_d40, ss_e40, ss_a48, ss_b48, ss_c48, ss_d48, ss_e48, ss_a64, ss_b64, ss_c64, ss_d64, ss_e64, ss_m2, ss_m3, ss_m4, ss_m8, ss_p2, ss_p3, ss_p4, ss_p8, ss_48p, ss_in, nI_add, nI_1, nI_clamp, nI_leI, nI_ltI, nI_eq, forall_eq, true_and, and_true, hk]
    refine ⟨ht, fun z => h mn fd vl ?_, fun z => ⟨by omega, fun hg => ⟨by omega, by omega, by omega, ss_xps hco (ss_br (fun hb => ?_) (fun hb => ⟨by omega, by omega, ?_⟩))⟩, fun hg => ?_⟩⟩
    · rw [show k = i by omega]; exact hL
    · refine ih (i + 1) mn fd vl (by omega) (by omega) ?_
      rw [hL, ss_flS, if_neg, List.append_nil]
      rw [show ss_ps a_column a_low a_high (ss_tr a_change (8 * t + i)) = false from hb, Bool.and_false]; decide
    · refine ss_xno (by omega) fun fd' vl' hA => ?_
      refine ih (i + 1) (mn + 1) fd' vl' (by omega) (by omega) ?_
      rw [hA, hL, ss_flS, if_pos, List.map_append, List.append_assoc]
      · rw [List.map_singleton, ss_rv, ss_ctr _ _ hc3]
      · rw [show ss_ps a_column a_low a_high (ss_tr a_change (8 * t + i)) = true from hb, hg]; rfl
    · refine ih (i + 1) mn fd vl (by omega) (by omega) ?_
      rw [hL, ss_flS, if_neg, List.append_nil]
      simp [hg]
/-- the delta -/
theorem ss_xs126 {post : SX → Prop} {t time : Int32} {c : Nat} {cq : Int32 → Bool} {chl : List ss_R} (T : ss_Tq t cq chl a_changes a_changed a_change a_gone (ss_ps a_column a_low a_high)) (hc3 : c < 3) (hco : ss_Co a_column) (hN : N ≤ 48) (hna : na ≤ 32)
    (h : ∀ mn (fd vl : Nat → Int32), ss_ls (fun i => (fd i, vl i)) mn = ((((ss_ls (ss_ve a_row a_from a_to wv) N ++ ss_ls (ss_ve a_dRow a_dFrom a_dTo a_dValue) na).filter (ss_Q time cq (ss_ps a_column a_low a_high))).map ss_rc) ++ chl).map (ss_rv c) → post (nI sg, nI na, f_kept, nI cl, f_rows, nI mn, a_row, a_from, a_to, a_held, a_sort, a_bits, a_base, a_least, a_greatest, a_words, a_dictionary, a_dRow, a_dFrom, a_dTo, a_dValue, a_wRow, a_wFrom, a_wTo, a_wValue, a_open, a_start, a_changed, a_change, a_changes, a_fresh, a_gone, a_column, a_low, a_high, fd, vl)) :
    ∀ f d mn (fd vl : Nat → Int32), d ≤ na → na < f + d → ss_ls (fun i => (fd i, vl i)) mn = (((ss_ls (ss_ve a_row a_from a_to wv) N ++ ss_ls (ss_ve a_dRow a_dFrom a_dTo a_dValue) d).filter (ss_Q time cq (ss_ps a_column a_low a_high))).map ss_rc).map (ss_rv c) →
      wX_search_126 post t (nI c) time f (nI d) (nI sg) (nI na) f_kept (nI cl) f_rows (nI mn) a_row a_from a_to a_held a_sort a_bits a_base a_least a_greatest a_words a_dictionary a_dRow a_dFrom a_dTo a_dValue a_wRow a_wFrom a_wTo a_wValue a_open a_start a_changed a_change a_changes a_fresh a_gone a_column a_low a_high fd vl := by
  intro f
  induction f with
  | zero => intro d mn fd vl h1 h2; omega
  | succ f ih =>
    intro d mn fd vl hd hf hL
    have hmn : mn ≤ N + d := by
      have h1 := congrArg List.length hL
      rw [ss_lsL, List.length_map, List.length_map] at h1
      have := List.length_filter_le (ss_Q time cq (ss_ps a_column a_low a_high)) (ss_ls (ss_ve a_row a_from a_to wv) N ++ ss_ls (ss_ve a_dRow a_dFrom a_dTo a_dValue) d)
      rw [List.length_append, ss_lsL, ss_lsL] at this
      omega
    have keep : d < na → ss_Q time cq (ss_ps a_column a_low a_high) (ss_ve a_dRow a_dFrom a_dTo a_dValue d) = false → wX_search_126 post t (nI c) time f (nI (d + 1)) (nI sg) (nI na) f_kept (nI cl) f_rows (nI mn) a_row a_from a_to a_held a_sort a_bits a_base a_least a_greatest a_words a_dictionary a_dRow a_dFrom a_dTo a_dValue a_wRow a_wFrom a_wTo a_wValue a_open a_start a_changed a_change a_changes a_fresh a_gone a_column a_low a_high fd vl := by
      intro h1 h2
      refine ih (d + 1) mn fd vl (by omega) (by omega) ?_
      rw [hL, List.filter_append, List.filter_append, ss_fS, if_neg (by rw [h2]; decide), List.append_nil]
    have s181 : d < na → ss_h (a_dFrom d) (a_dTo d) time = true → cq (a_dRow d) = false → wX_search_181 post (wX_search_126 post t (nI c) time f) t (nI c) time (nI d) 1 (nI sg) (nI na) f_kept (nI cl) f_rows (nI mn) a_row a_from a_to a_held a_sort a_bits a_base a_least a_greatest a_words a_dictionary a_dRow a_dFrom a_dTo a_dValue a_wRow a_wFrom a_wTo a_wValue a_open a_start a_changed a_change a_changes a_fresh a_gone a_column a_low a_high fd vl := by
      intro hdn e1 e2
      simp (disch := omega) only [wX_search_181, ss_a0, ss_b0, ss_c0, ss_d0, ss_e0, ss_a1, ss_b1, ss_c1, ss_d1, ss_e1, ss_a2, ss_b2, ss_c2, ss_d2, ss_e2, ss_a3, ss_b3, ss_c3, ss_d3, ss_e3, ss_a4, ss_b4, ss_c4, ss_d4, ss_e4, ss_a5, ss_b5, ss_c5, ss_d5, ss_e5, ss_a8, ss_b8, ss_c8, ss_d8, ss_e8, ss_a32, ss_b32, ss_c32, ss_d32, ss_e32, ss_a40, ss_b40, ss_c40, ss_d40, ss_e40, ss_a48, ss_b48, ss_c48, ss_d48, ss_e48, ss_a64, ss_b64, ss_c64, ss_d64, ss_e64, ss_m2, ss_m3, ss_m4, ss_m8, ss_p2, ss_p3, ss_p4, ss_p8, ss_48p, ss_in, nI_add, nI_1, nI_clamp, nI_leI, nI_ltI, nI_eq, forall_eq, true_and, and_true]
      refine ⟨fun z => absurd z (by decide), fun _ => ⟨by omega, by omega, by omega, ss_xps hco (ss_br (fun hb => keep hdn ?_) (fun hb => ⟨by omega, by omega, ?_⟩))⟩⟩
      · unfold ss_Q
        rw [show ss_ps a_column a_low a_high (ss_ve a_dRow a_dFrom a_dTo a_dValue d).2.2.2 = false from hb, Bool.and_false]
      · have hQ : ss_Q time cq (ss_ps a_column a_low a_high) (ss_ve a_dRow a_dFrom a_dTo a_dValue d) = true := by
          unfold ss_Q
          rw [show ss_ps a_column a_low a_high (ss_ve a_dRow a_dFrom a_dTo a_dValue d).2.2.2 = true from hb, show ss_h (ss_ve a_dRow a_dFrom a_dTo a_dValue d).2.1 (ss_ve a_dRow a_dFrom a_dTo a_dValue d).2.2.1 time = true from e1, show cq (ss_ve a_dRow a_dFrom a_dTo a_dValue d).1 = false from e2]
          rfl
        refine ss_xno (by omega) fun fd' vl' hA => ?_
        refine ih (d + 1) (mn + 1) fd' vl' (by omega) (by omega) ?_
        have e3 : ss_rv c (ss_rc (ss_ve a_dRow a_dFrom a_dTo a_dValue d)) = (a_dRow d, a_dValue (3 * d + c)) := by
          show (a_dRow d, ss_c (ss_tr a_dValue d) c) = _
          rw [ss_ctr _ _ hc3]
        rw [hA, hL, List.filter_append, List.filter_append, ss_fS, if_pos hQ]
        simp only [List.map_append, List.map_cons, List.map_nil, e3, List.append_assoc]
    have s180 : d < na → (ss_h (a_dFrom d) (a_dTo d) time = false ∨ cq (a_dRow d) = true) → wX_search_180 post (wX_search_126 post t (nI c) time f) t (nI c) time (nI d) (nI sg) (nI na) f_kept (nI cl) f_rows (nI mn) a_row a_from a_to a_held a_sort a_bits a_base a_least a_greatest a_words a_dictionary a_dRow a_dFrom a_dTo a_dValue a_wRow a_wFrom a_wTo a_wValue a_open a_start a_changed a_change a_changes a_fresh a_gone a_column a_low a_high fd vl := by
      intro hdn e
      simp (disch := omega) only [wX_search_180, wX_search_181, ss_a0, ss_b0, ss_c0, ss_d0, ss_e0, ss_a1, ss_b1, ss_c1, ss_d1, ss_e1, ss_a2, ss_b2, ss_c2, ss_d2, ss_e2, ss_a3, ss_b3, ss_c3, ss_d3, ss_e3, ss_a4, ss_b4, ss_c4, ss_d4, ss_e4, ss_a5, ss_b5, ss_c5, ss_d5, ss_e5, ss_a8, ss_b8, ss_c8, ss_d8, ss_e8, ss_a32, ss_b32, ss_c32, ss_d32, ss_e32, ss_a40, ss_b40, ss_c40, ss_d40, ss_e40, ss_a48, ss_b48, ss_c48, ss_d48, ss_e48, ss_a64, ss_b64, ss_c64, ss_d64, ss_e64, ss_m2, ss_m3, ss_m4, ss_m8, ss_p2, ss_p3, ss_p4, ss_p8, ss_48p, ss_in, nI_add, nI_1, nI_clamp, nI_leI, nI_ltI, nI_eq, forall_eq, true_and, and_true]
      refine ⟨fun _ => keep hdn ?_, fun z => absurd trivial z⟩
      unfold ss_Q
      rcases e with e | e
      · rw [show ss_h (ss_ve a_dRow a_dFrom a_dTo a_dValue d).2.1 (ss_ve a_dRow a_dFrom a_dTo a_dValue d).2.2.1 time = false from e]; rfl
      · rw [show cq (ss_ve a_dRow a_dFrom a_dTo a_dValue d).1 = true from e, Bool.not_true, Bool.and_false, Bool.false_and]
    simp (disch := omega) only [wX_search_126, ss_a0, ss_b0, ss_c0, ss_d0, ss_e0, ss_a1, ss_b1, ss_c1, ss_d1, ss_e1, ss_a2, ss_b2, ss_c2, ss_d2, ss_e2, ss_a3, ss_b3, ss_c3, ss_d3, ss_e3, ss_a4, ss_b4, ss_c4, ss_d4, ss_e4, ss_a5, ss_b5, ss_c5, ss_d5, ss_e5, ss_a8, ss_b8, ss_c8, ss_d8, ss_e8, ss_a32, ss_b32, ss_c32, ss_d32, ss_e32, ss_a40, ss_b40, ss_c40, ss_d40, ss_e40, ss_a48, ss_b48, ss_c48, ss_d48, ss_e48, ss_a64, ss_b64, ss_c64, ss_d64, ss_e64, ss_m2, ss_m3, ss_m4, ss_m8, ss_p2, ss_p3, ss_p4, ss_p8, ss_48p, ss_in, nI_add, nI_1, nI_clamp, nI_leI, nI_ltI, nI_eq, forall_eq, true_and, and_true, ss_xh]
    refine ⟨fun z => ?_, fun z => ⟨by omega, by omega, ss_br (fun hb => s180 (by omega) (Or.inl hb)) (fun hb => ?_)⟩⟩
    · have e : na = d := by omega
      rcases T with ⟨rfl, hq, hl⟩ | ⟨j, k, hj, rfl, hk, hk8, hq, hl⟩
      · refine ⟨fun z => absurd z (by decide), fun _ => h mn fd vl ?_⟩
        rw [hL, hl, List.append_nil, e]
      · rw [hl] at h
        simp (disch := omega) only [ss_a0, ss_b0, ss_c0, ss_d0, ss_e0, ss_a1, ss_b1, ss_c1, ss_d1, ss_e1, ss_a2, ss_b2, ss_c2, ss_d2, ss_e2, ss_a3, ss_b3, ss_c3, ss_d3, ss_e3, ss_a4, ss_b4, ss_c4, ss_d4, ss_e4, ss_a5, ss_b5, ss_c5, ss_d5, ss_e5, ss_a8, ss_b8, ss_c8, ss_d8, ss_e8, ss_a32, ss_b32, ss_c32, ss_d32, ss_e32, ss_a40, ss_b40, ss_c40, ss_d40, ss_e40, ss_a48, ss_b48, ss_c48, ss_d48, ss_e48, ss_a64, ss_b64, ss_c64, ss_d64, ss_e64, ss_m2, ss_m3, ss_m4, ss_m8, ss_p2, ss_p3, ss_p4, ss_p8, ss_48p, ss_in, nI_add, nI_1, nI_clamp, nI_leI, nI_ltI, nI_eq, forall_eq, true_and, and_true]
        refine ⟨fun _ => ⟨k + 1, ?_⟩, fun z => absurd (Nat.zero_le _) z⟩
        refine ss_xs265 (L0 := (((ss_ls (ss_ve a_row a_from a_to wv) N ++ ss_ls (ss_ve a_dRow a_dFrom a_dTo a_dValue) na).filter (ss_Q time cq (ss_ps a_column a_low a_high))).map ss_rc).map (ss_rv c)) hj hc3 hk hk8 hco ?_ (fun mn' fd' vl' hL' => h mn' fd' vl' ?_) (k + 1) 0 mn fd vl (by omega) (by omega) ?_
        · have h1 := congrArg List.length hL
          rw [ss_lsL] at h1
          rw [e, ← h1]; omega
        · rw [hL', List.map_append (l₂ := ss_fl _ _ _)]
        · rw [hL, e, ss_fl0]; simp
    · exact ss_xcqB T (fun hq => s181 (by omega) hb hq) (fun hq => s180 (by omega) (Or.inr hq)) (by omega)
/-- a segment -/
theorem ss_xs35 {post : SX → Prop} {J : Int32 → Int32 → Int32 → Int32 → Int32 → Int32 → Int32 → (Nat → Int32) → (Nat → Int32) → (Nat → Int32) → (Nat → Int32) → (Nat → Int32) → (Nat → Int32) → (Nat → Int32) → (Nat → Int32) → (Nat → Int32) → (Nat → Int64) → (Nat → Int32) → (Nat → Int32) → (Nat → Int32) → (Nat → Int32) → (Nat → Int32) → (Nat → Int32) → (Nat → Int32) → (Nat → Int32) → (Nat → Int32) → (Nat → Int32) → (Nat → Int32) → (Nat → Int32) → (Nat → Int32) → (Nat → Int32) → (Nat → Int32) → (Nat → Int32) → (Nat → Int32) → (Nat → Int32) → (Nat → Int32) → (Nat → Int32) → (Nat → Int32) → Prop}
    {t time : Int32} {c g n m : Nat} {cq : Int32 → Bool} {chl : List ss_R} (T : ss_Tq t cq chl a_changes a_changed a_change a_gone (ss_ps a_column a_low a_high)) (hc3 : c < 3) (hg : g < 6) (hn : n ≤ 8) (hgn : 8 * g + n ≤ 48)
    (hC : ss_Cod a_sort a_bits a_base a_words a_dictionary (3 * g + c) n (fun i => wv (3 * (8 * g + i) + c)))
    (hM : ss_Mk m (fun i => decide (i < n) && ss_h (a_from (8 * g + i)) (a_to (8 * g + i)) time && ss_ps a_column a_low a_high (ss_tr wv (8 * g + i))))
    (hJ : ∀ mn (fd vl : Nat → Int32), ss_ls (fun i => (fd i, vl i)) mn = (((ss_ls (ss_ve a_row a_from a_to wv) (8 * g + n)).filter (ss_Q time cq (ss_ps a_column a_low a_high))).map ss_rc).map (ss_rv c) → J (nI (g + 1)) (nI sg) (nI na) f_kept (nI cl) f_rows (nI mn) a_row a_from a_to a_held a_sort a_bits a_base a_least a_greatest a_words a_dictionary a_dRow a_dFrom a_dTo a_dValue a_wRow a_wFrom a_wTo a_wValue a_open a_start a_changed a_change a_changes a_fresh a_gone a_column a_low a_high fd vl) :
    ∀ f i mn (fd vl : Nat → Int32), i ≤ 8 → 8 < f + i → ss_ls (fun i => (fd i, vl i)) mn = (((ss_ls (ss_ve a_row a_from a_to wv) (8 * g + min i n)).filter (ss_Q time cq (ss_ps a_column a_low a_high))).map ss_rc).map (ss_rv c) →
      wX_search_35 post J t (nI c) time (nI g) (nI m) f (nI i) (nI sg) (nI na) f_kept (nI cl) f_rows (nI mn) a_row a_from a_to a_held a_sort a_bits a_base a_least a_greatest a_words a_dictionary a_dRow a_dFrom a_dTo a_dValue a_wRow a_wFrom a_wTo a_wValue a_open a_start a_changed a_change a_changes a_fresh a_gone a_column a_low a_high fd vl := by
  have hm := ss_MkL hM
  intro f
  induction f with
  | zero => intro i mn fd vl h1 h2; omega
  | succ f ih =>
    intro i mn fd vl hi hf hL
    have hmn : mn ≤ 8 * g + min i n := by
      have h1 := congrArg List.length hL
      rw [ss_lsL, List.length_map, List.length_map] at h1
      have := List.length_filter_le (ss_Q time cq (ss_ps a_column a_low a_high)) (ss_ls (ss_ve a_row a_from a_to wv) (8 * g + min i n))
      rw [ss_lsL] at this
      omega
    have hd : m / 2 ^ i ≤ m := Nat.div_le_self _ _
    have e1 : nI m >>> (nI i &&& 31) = nI (m / 2 ^ i) := ss_mshr (by omega) (by omega)
    have e2 : nI (m / 2 ^ i) &&& 1 = nI (m / 2 ^ i % 2) := ss_an1 (by omega)
    have tb : m.testBit i = decide (m / 2 ^ i % 2 = 1) := Nat.testBit_eq_decide_div_mod_eq
    have keep : i < 8 → (i < n → ss_Q time cq (ss_ps a_column a_low a_high) (ss_ve a_row a_from a_to wv (8 * g + i)) = false) → wX_search_35 post J t (nI c) time (nI g) (nI m) f (nI (i + 1)) (nI sg) (nI na) f_kept (nI cl) f_rows (nI mn) a_row a_from a_to a_held a_sort a_bits a_base a_least a_greatest a_words a_dictionary a_dRow a_dFrom a_dTo a_dValue a_wRow a_wFrom a_wTo a_wValue a_open a_start a_changed a_change a_changes a_fresh a_gone a_column a_low a_high fd vl := by
      intro h8 hq
      refine ih (i + 1) mn fd vl (by omega) (by omega) ?_
      rw [hL]
      by_cases hin : i < n
      · rw [show min (i + 1) n = min i n + 1 by omega, ← Nat.add_assoc, ss_fS, show min i n = i by omega, if_neg (by rw [hq hin]; decide), List.append_nil]
      · rw [show min (i + 1) n = min i n by omega]
    simp (disch := omega) only [wX_search_35, ss_a0, ss_b0, ss_c0, ss_d0, ss_e0, ss_a1, ss_b1, ss_c1, ss_d1, ss_e1, ss_a2, ss_b2, ss_c2, ss_d2, ss_e2, ss_a3, ss_b3, ss_c3, ss_d3, ss_e3, ss_a4, ss_b4, ss_c4, ss_d4, ss_e4, ss_a5, ss_b5, ss_c5, ss_d5, ss_e5, ss_a8, ss_b8, ss_c8, ss_d8, ss_e8, ss_a32, ss_b32, ss_c32, ss_d32, ss_e32, ss_a40, ss_b40, ss_c40, ss_d40, ss_e40, ss_a48, ss_b48, ss_c48, ss_d48, ss_e48, ss_a64, ss_b64, ss_c64, ss_d64, ss_e64, ss_m2, ss_m3, ss_m4, ss_m8, ss_p2, ss_p3, ss_p4, ss_p8, ss_48p, ss_in, nI_add, nI_1, nI_clamp, nI_leI, nI_ltI, nI_eq, forall_eq, true_and, and_true, e1, e2]
    refine ⟨fun z => hJ mn fd vl ?_, fun z => ⟨fun z2 => keep ?_ ?_, fun z2 => ?_⟩⟩
    · -- no further bits
      rw [hL]
      obtain ⟨d, ed⟩ : ∃ d, 8 * g + n = 8 * g + min i n + d := ⟨n - min i n, by omega⟩
      rw [ed, ss_lsA (n := 8 * g + min i n) (m := d), List.filter_append]
      have : (ss_ls (fun j => ss_ve a_row a_from a_to wv (8 * g + min i n + j)) d).filter (ss_Q time cq (ss_ps a_column a_low a_high)) = [] := by
        rw [List.filter_eq_nil_iff]
        intro x hx
        obtain ⟨j, hj, rfl⟩ := ss_lsM.mp hx
        have hb := hM (min i n + j)
        have hi8 : min i n + j < 8 := by omega
        have hin : min i n + j < n := by omega
        have him : min i n = i := by omega
        have h0 : m.testBit (min i n + j) = false := by
          rw [him, Nat.add_comm, ← Nat.testBit_div_two_pow, z, Nat.zero_testBit]
        rw [h0] at hb
        simp only [hi8, hin, decide_true, Bool.true_and] at hb
        rw [Bool.not_eq_true]
        unfold ss_Q
        show (ss_h (a_from (8 * g + min i n + j)) (a_to (8 * g + min i n + j)) time && !cq _ && ss_ps a_column a_low a_high (ss_tr wv (8 * g + min i n + j))) = false
        rw [Nat.add_assoc]
        cases hh : ss_h (a_from (8 * g + (min i n + j))) (a_to (8 * g + (min i n + j))) time with
        | false => rfl
        | true =>
          rw [hh, Bool.true_and] at hb
          rw [← hb, Bool.and_false]
      rw [this, List.append_nil]
    · rcases (by omega : i < 8 ∨ i = 8) with h' | rfl
      · exact h'
      · exact absurd (Nat.div_eq_of_lt hm) z
    · intro hin
      have hb := hM i
      have hi8 : i < 8 := by omega
      have n1 : ¬ m / 2 ^ i % 2 = 1 := by omega
      rw [tb] at hb
      simp only [hi8, hin, n1, decide_true, decide_false, Bool.true_and] at hb
      unfold ss_Q
      show (ss_h (a_from (8 * g + i)) (a_to (8 * g + i)) time && !cq _ && ss_ps a_column a_low a_high (ss_tr wv (8 * g + i))) = false
      cases hh : ss_h (a_from (8 * g + i)) (a_to (8 * g + i)) time with
      | false => rfl
      | true =>
        rw [hh, Bool.true_and] at hb
        rw [← hb, Bool.and_false]
    · have hb := hM i
      have n1 : m / 2 ^ i % 2 = 1 := by omega
      rw [tb] at hb
      simp only [n1, decide_true] at hb
      have hb' := hb.symm
      rw [Bool.and_eq_true, Bool.and_eq_true, Bool.and_eq_true, decide_eq_true_eq, decide_eq_true_eq] at hb'
      obtain ⟨hi8, ⟨hin, hh⟩, hps⟩ := hb'
      have s81 : cq (a_row (8 * g + i)) = false → wX_search_81 post J (wX_search_35 post J t (nI c) time (nI g) (nI m) f) t (nI c) time (nI g) (nI m) (nI i) (nI sg) (nI na) f_kept (nI cl) f_rows (nI mn) a_row a_from a_to a_held a_sort a_bits a_base a_least a_greatest a_words a_dictionary a_dRow a_dFrom a_dTo a_dValue a_wRow a_wFrom a_wTo a_wValue a_open a_start a_changed a_change a_changes a_fresh a_gone a_column a_low a_high fd vl := by
        intro hq
        have hQ : ss_Q time cq (ss_ps a_column a_low a_high) (ss_ve a_row a_from a_to wv (8 * g + i)) = true := by
          unfold ss_Q
          show (ss_h (a_from (8 * g + i)) (a_to (8 * g + i)) time && !cq (a_row (8 * g + i)) && ss_ps a_column a_low a_high (ss_tr wv (8 * g + i))) = true
          rw [hh, hq, hps]; rfl
        simp (disch := omega) only [wX_search_81, ss_a0, ss_b0, ss_c0, ss_d0, ss_e0, ss_a1, ss_b1, ss_c1, ss_d1, ss_e1, ss_a2, ss_b2, ss_c2, ss_d2, ss_e2, ss_a3, ss_b3, ss_c3, ss_d3, ss_e3, ss_a4, ss_b4, ss_c4, ss_d4, ss_e4, ss_a5, ss_b5, ss_c5, ss_d5, ss_e5, ss_a8, ss_b8, ss_c8, ss_d8, ss_e8, ss_a32, ss_b32, ss_c32, ss_d32, ss_e32, ss_a40, ss_b40, ss_c40, ss_d40, ss_e40, ss_a48, ss_b48, ss_c48, ss_d48, ss_e48, ss_a64, ss_b64, ss_c64, ss_d64, ss_e64, ss_m2, ss_m3, ss_m4, ss_m8, ss_p2, ss_p3, ss_p4, ss_p8, ss_48p, ss_in, nI_add, nI_1, nI_clamp, nI_leI, nI_ltI, nI_eq, forall_eq, true_and, and_true]
        refine ss_xde (n := n) hg hc3 hin hn hC ⟨by omega, ?_⟩
        refine ss_xno (by omega) fun fd' vl' hA => ?_
        refine ih (i + 1) (mn + 1) fd' vl' (by omega) (by omega) ?_
        have e3 : ss_rv c (ss_rc (ss_ve a_row a_from a_to wv (8 * g + i))) = (a_row (8 * g + i), wv (3 * (8 * g + i) + c)) := by
          show (a_row (8 * g + i), ss_c (ss_tr wv (8 * g + i)) c) = _
          rw [ss_ctr _ _ hc3]
        rw [hA, hL, show min (i + 1) n = min i n + 1 by omega, ← Nat.add_assoc, ss_fS, show min i n = i by omega, if_pos hQ]
        simp only [List.map_append, List.map_cons, List.map_nil, e3]
      exact ss_xcqA T s81 (fun hq => keep hi8 fun _ => by
        unfold ss_Q
        show (ss_h (a_from (8 * g + i)) (a_to (8 * g + i)) time && !cq (a_row (8 * g + i)) && ss_ps a_column a_low a_high (ss_tr wv (8 * g + i))) = false
        rw [hq, Bool.not_true, Bool.and_false, Bool.false_and]) (by omega)
theorem ss_xs14 {post : SX → Prop} {t time : Int32} {c : Nat} {cq : Int32 → Bool} {chl : List ss_R} (T : ss_Tq t cq chl a_changes a_changed a_change a_gone (ss_ps a_column a_low a_high)) (hc3 : c < 3) (hco : ss_Co a_column)
    (S : ss_Seg sg N a_held a_row) (C : ss_Cols sg N a_sort a_bits a_base a_least a_greatest a_words a_dictionary wv) (hna : na ≤ 32)
    (h : ∀ mn (fd vl : Nat → Int32), ss_ls (fun i => (fd i, vl i)) mn = ((((ss_ls (ss_ve a_row a_from a_to wv) N ++ ss_ls (ss_ve a_dRow a_dFrom a_dTo a_dValue) na).filter (ss_Q time cq (ss_ps a_column a_low a_high))).map ss_rc) ++ chl).map (ss_rv c) → post (nI sg, nI na, f_kept, nI cl, f_rows, nI mn, a_row, a_from, a_to, a_held, a_sort, a_bits, a_base, a_least, a_greatest, a_words, a_dictionary, a_dRow, a_dFrom, a_dTo, a_dValue, a_wRow, a_wFrom, a_wTo, a_wValue, a_open, a_start, a_changed, a_change, a_changes, a_fresh, a_gone, a_column, a_low, a_high, fd, vl)) :
    ∀ f g mn (fd vl : Nat → Int32), g ≤ sg → sg < f + g → ss_ls (fun i => (fd i, vl i)) mn = (((ss_ls (ss_ve a_row a_from a_to wv) (min (8 * g) N)).filter (ss_Q time cq (ss_ps a_column a_low a_high))).map ss_rc).map (ss_rv c) →
      wX_search_14 post t (nI c) time f (nI g) (nI sg) (nI na) f_kept (nI cl) f_rows (nI mn) a_row a_from a_to a_held a_sort a_bits a_base a_least a_greatest a_words a_dictionary a_dRow a_dFrom a_dTo a_dValue a_wRow a_wFrom a_wTo a_wValue a_open a_start a_changed a_change a_changes a_fresh a_gone a_column a_low a_high fd vl := by
  have S' := S
  obtain ⟨hN, s1, s2, hh, hs⟩ := S'
  intro f
  induction f with
  | zero => intro g mn fd vl h1 h2; omega
  | succ f ih =>
    intro g mn fd vl hg hf hL
    simp (disch := omega) only [wX_search_14, ss_a0, ss_b0, ss_c0, ss_d0, ss_e0, ss_a1, ss_b1, ss_c1, ss_d1, ss_e1, ss_a2, ss_b2, ss_c2, ss_d2, ss_e2, ss_a3, ss_b3, ss_c3, ss_d3, ss_e3, ss_a4, ss_b4, ss_c4, ss_d4, ss_e4, ss_a5, ss_b5, ss_c5, ss_d5, ss_e5, ss_a8, ss_b8, ss_c8, ss_d8, ss_e8, ss_a32, ss_b32, ss_c32, ss_d32, ss_e32, ss_a40, ss_b40, ss_c40, ss_d40, ss_e40, ss_a48, ss_b48, ss_c48, ss_d48, ss_e48, ss_a64, ss_b64, ss_c64, ss_d64, ss_e64, ss_m2, ss_m3, ss_m4, ss_m8, ss_p2, ss_p3, ss_p4, ss_p8, ss_48p, ss_in, nI_add, nI_1, nI_clamp, nI_leI, nI_ltI, nI_eq, forall_eq, true_and, and_true]
    refine ⟨fun z => ⟨na + 1, ss_xs126 (wv := wv) T hc3 hco hN hna h (na + 1) 0 mn fd vl (by omega) (by omega) ?_⟩, fun z => ?_⟩
    · rw [hL, show min (8 * g) N = N by omega]
      simp [ss_ls]
    · refine ss_xpm (wv := wv) (n := min 8 (N - 8 * g)) (by omega) hco (by omega) (hh g (by omega)) (fun c hc => C g c (by omega) hc) fun m hM => ⟨9, ?_⟩
      refine ss_xs35 (wv := wv) T hc3 (by omega) (by omega) (by omega) (C g c (by omega) hc3).1 hM (fun mn' fd' vl' hL' => ih (g + 1) mn' fd' vl' (by omega) (by omega) ?_) 9 0 mn fd vl (by omega) (by omega) ?_
      · rw [hL', show min (8 * (g + 1)) N = 8 * g + min 8 (N - 8 * g) by omega]
      · rw [hL, show min (8 * g) N = 8 * g + min 0 (min 8 (N - 8 * g)) by omega]
theorem ss_xse {post : SX → Prop} {t time : Int32} {c : Nat} {cq : Int32 → Bool} {chl : List ss_R} (T : ss_Tq t cq chl a_changes a_changed a_change a_gone (ss_ps a_column a_low a_high)) (ht : (t = -1 ∧ time = nI cl) ∨ ∃ j, j < 4 ∧ t = nI j ∧ time = a_start j) (hc3 : c < 3) (hco : ss_Co a_column)
    (S : ss_Seg sg N a_held a_row) (C : ss_Cols sg N a_sort a_bits a_base a_least a_greatest a_words a_dictionary wv) (hna : na ≤ 32)
    (h : ∀ mn (fd vl : Nat → Int32), ss_ls (fun i => (fd i, vl i)) mn = ((((ss_ls (ss_ve a_row a_from a_to wv) N ++ ss_ls (ss_ve a_dRow a_dFrom a_dTo a_dValue) na).filter (ss_Q time cq (ss_ps a_column a_low a_high))).map ss_rc) ++ chl).map (ss_rv c) → post (nI sg, nI na, f_kept, nI cl, f_rows, nI mn, a_row, a_from, a_to, a_held, a_sort, a_bits, a_base, a_least, a_greatest, a_words, a_dictionary, a_dRow, a_dFrom, a_dTo, a_dValue, a_wRow, a_wFrom, a_wTo, a_wValue, a_open, a_start, a_changed, a_change, a_changes, a_fresh, a_gone, a_column, a_low, a_high, fd, vl)) : wpX_search post (nI sg, nI na, f_kept, nI cl, f_rows, f_many, a_row, a_from, a_to, a_held, a_sort, a_bits, a_base, a_least, a_greatest, a_words, a_dictionary, a_dRow, a_dFrom, a_dTo, a_dValue, a_wRow, a_wFrom, a_wTo, a_wValue, a_open, a_start, a_changed, a_change, a_changes, a_fresh, a_gone, a_column, a_low, a_high, a_found, a_value) t (nI c) := by
  have key : ∃ n14, wX_search_14 post t (nI c) time n14 0 (nI sg) (nI na) f_kept (nI cl) f_rows 0 a_row a_from a_to a_held a_sort a_bits a_base a_least a_greatest a_words a_dictionary a_dRow a_dFrom a_dTo a_dValue a_wRow a_wFrom a_wTo a_wValue a_open a_start a_changed a_change a_changes a_fresh a_gone a_column a_low a_high a_found a_value := by
    refine ⟨sg + 1, ss_xs14 (wv := wv) T hc3 hco S C hna h (sg + 1) 0 0 a_found a_value (by omega) (by omega) ?_⟩
    simp [ss_ls]
  unfold wpX_search
  refine ss_xti ?_
  rcases ht with ⟨e, rfl⟩ | ⟨j, hj, e, rfl⟩
  · exact Or.inr ⟨e, key⟩
  · exact Or.inl ⟨j, hj, e, key⟩
end
end
section
/-! sorting what was found -/
abbrev ss_P : Type := Int32 × Int32
def ss_le (x y : ss_P) : Prop := x.2 < y.2 ∨ (x.2 = y.2 ∧ x.1 ≤ y.1)
theorem ss_ler (x : ss_P) : ss_le x x := Or.inr ⟨rfl, Int32.le_refl _⟩
theorem ss_let {x y z : ss_P} (h1 : ss_le x y) (h2 : ss_le y z) : ss_le x z := by
  rcases h1 with h1 | ⟨h1, h1'⟩
  · rcases h2 with h2 | ⟨h2, -⟩
    · exact Or.inl (Int32.lt_trans h1 h2)
    · exact Or.inl (h2 ▸ h1)
  · rcases h2 with h2 | ⟨h2, h2'⟩
    · exact Or.inl (h1 ▸ h2)
    · exact Or.inr ⟨h1.trans h2, Int32.le_trans h1' h2'⟩
theorem ss_leT {x y : ss_P} (h : ¬ ss_le x y) : ss_le y x := by
  by_cases h1 : y.2 < x.2
  · exact Or.inl h1
  · by_cases h2 : x.2 = y.2
    · refine Or.inr ⟨h2.symm, ?_⟩
      rcases Int32.le_total y.1 x.1 with h3 | h3
      · exact h3
      · exact absurd (Or.inr ⟨h2, h3⟩) h
    · refine absurd (Or.inl ?_) h
      rcases Int32.lt_or_eq_of_le (Int32.not_lt.mp h1) with h3 | h3
      · exact h3
      · exact absurd h3 h2
theorem ss_lea {x y : ss_P} (h1 : ss_le x y) (h2 : ss_le y x) : x = y := by
  rcases h1 with h1 | ⟨h1, h1'⟩
  · rcases h2 with h2 | ⟨h2, -⟩
    · exact absurd (Int32.lt_trans h1 h2) Int32.lt_irrefl
    · rw [h2] at h1; exact absurd h1 Int32.lt_irrefl
  · rcases h2 with h2 | ⟨-, h2'⟩
    · rw [h1] at h2; exact absurd h2 Int32.lt_irrefl
    · exact Prod.ext (Int32.le_antisymm h1' h2') h1
section
variable {f_segments f_added f_kept f_clock f_rows f_many : Int32} {a_row a_from a_to a_held a_sort a_bits a_base a_least a_greatest a_dictionary a_dRow a_dFrom a_dTo a_dValue a_wRow a_wFrom a_wTo a_wValue a_open a_start a_changed a_change a_changes a_fresh a_gone a_column a_low a_high a_found a_value : Nat → Int32} {a_words : Nat → Int64}
variable {mn : Nat}
theorem ss_xsl {post : SX → Prop} {fr gap : Nat} (hf : fr < 128) (hg : 0 < gap) (hg2 : gap < 100) (I : Nat → (Nat → Int32) → (Nat → Int32) → Prop) (h0 : I fr a_found a_value)
    (hs : ∀ k (fd vl : Nat → Int32), I k fd vl → gap ≤ k → k ≤ fr → ¬ ss_le (fd (k - gap), vl (k - gap)) (a_found fr, a_value fr) → I (k - gap) (upd fd k (fd (k - gap))) (upd vl k (vl (k - gap))))
    (hx : ∀ k (fd vl : Nat → Int32), I k fd vl → k ≤ fr → (gap ≤ k → ss_le (fd (k - gap), vl (k - gap)) (a_found fr, a_value fr)) → post (f_segments, f_added, f_kept, f_clock, f_rows, nI mn, a_row, a_from, a_to, a_held, a_sort, a_bits, a_base, a_least, a_greatest, a_words, a_dictionary, a_dRow, a_dFrom, a_dTo, a_dValue, a_wRow, a_wFrom, a_wTo, a_wValue, a_open, a_start, a_changed, a_change, a_changes, a_fresh, a_gone, a_column, a_low, a_high, upd fd k (a_found fr), upd vl k (a_value fr))) :
    wpX_slide post (f_segments, f_added, f_kept, f_clock, f_rows, nI mn, a_row, a_from, a_to, a_held, a_sort, a_bits, a_base, a_least, a_greatest, a_words, a_dictionary, a_dRow, a_dFrom, a_dTo, a_dValue, a_wRow, a_wFrom, a_wTo, a_wValue, a_open, a_start, a_changed, a_change, a_changes, a_fresh, a_gone, a_column, a_low, a_high, a_found, a_value) (nI fr) (nI gap) := by
  have key : ∀ f k (fd vl : Nat → Int32), k ≤ fr → k < f → I k fd vl → wX_slide_18 post (nI gap) (a_found fr) (a_value fr) f_segments f_added f_kept f_clock f_rows (nI mn) f (nI k) a_row a_from a_to a_held a_sort a_bits a_base a_least a_greatest a_words a_dictionary a_dRow a_dFrom a_dTo a_dValue a_wRow a_wFrom a_wTo a_wValue a_open a_start a_changed a_change a_changes a_fresh a_gone a_column a_low a_high fd vl := by
    intro f
    induction f with
    | zero => intro k fd vl h1 h2; omega
    | succ f ih =>
      intro k fd vl hk hf hI
      have out : (gap ≤ k → ss_le (fd (k - gap), vl (k - gap)) (a_found fr, a_value fr)) → wX_slide_106 post (a_found fr) (a_value fr) (nI k) f_segments f_added f_kept f_clock f_rows (nI mn) a_row a_from a_to a_held a_sort a_bits a_base a_least a_greatest a_words a_dictionary a_dRow a_dFrom a_dTo a_dValue a_wRow a_wFrom a_wTo a_wValue a_open a_start a_changed a_change a_changes a_fresh a_gone a_column a_low a_high fd vl := by
        intro hl
        simp (disch := omega) only [wX_slide_106, ss_a0, ss_b0, ss_c0, ss_d0, ss_e0, ss_a1, ss_b1, ss_c1, ss_d1, ss_e1, ss_a2, ss_b2, ss_c2, ss_d2, ss_e2, ss_a3, ss_b3, ss_c3, ss_d3, ss_e3, ss_a4, ss_b4, ss_c4, ss_d4, ss_e4, ss_a5, ss_b5, ss_c5, ss_d5, ss_e5, ss_a8, ss_b8, ss_c8, ss_d8, ss_e8, ss_a32, ss_b32, ss_c32, ss_d32, ss_e32, ss_a40, ss_b40, ss_c40, ss_d40, ss_e40, ss_a48, ss_b48, ss_c48, ss_d48, ss_e48, ss_a64, ss_b64, ss_c64, ss_d64, ss_e64, ss_m2, ss_m3, ss_m4, ss_m8, ss_p2, ss_p3, ss_p4, ss_p8, ss_48p, ss_in, nI_add, nI_1, nI_clamp, nI_leI, nI_ltI, nI_eq, forall_eq, true_and, and_true]
        exact ⟨by omega, by omega, hx k fd vl hI hk hl⟩
      by_cases hl : k < gap
      · simp (disch := omega) only [wX_slide_18, ss_a0, ss_b0, ss_c0, ss_d0, ss_e0, ss_a1, ss_b1, ss_c1, ss_d1, ss_e1, ss_a2, ss_b2, ss_c2, ss_d2, ss_e2, ss_a3, ss_b3, ss_c3, ss_d3, ss_e3, ss_a4, ss_b4, ss_c4, ss_d4, ss_e4, ss_a5, ss_b5, ss_c5, ss_d5, ss_e5, ss_a8, ss_b8, ss_c8, ss_d8, ss_e8, ss_a32, ss_b32, ss_c32, ss_d32, ss_e32, ss_a40, ss_b40, ss_c40, ss_d40, ss_e40, ss_a48, ss_b48, ss_c48, ss_d48, ss_e48, ss_a64, ss_b64, ss_c64, ss_d64, ss_e64, ss_m2, ss_m3, ss_m4, ss_m8, ss_p2, ss_p3, ss_p4, ss_p8, ss_48p, ss_in, nI_add, nI_1, nI_clamp, nI_leI, nI_ltI, nI_eq, forall_eq, true_and, and_true]
        exact ⟨fun _ => out (fun z => by omega), fun z => absurd hl z⟩
      · have es : nI k - nI gap = nI (k - gap) := pk_sub (by omega)
        have go : ¬ ss_le (fd (k - gap), vl (k - gap)) (a_found fr, a_value fr) → wX_slide_65 post (wX_slide_18 post (nI gap) (a_found fr) (a_value fr) f_segments f_added f_kept f_clock f_rows (nI mn) f) (nI gap) (a_found fr) (a_value fr) (nI k) f_segments f_added f_kept f_clock f_rows (nI mn) a_row a_from a_to a_held a_sort a_bits a_base a_least a_greatest a_words a_dictionary a_dRow a_dFrom a_dTo a_dValue a_wRow a_wFrom a_wTo a_wValue a_open a_start a_changed a_change a_changes a_fresh a_gone a_column a_low a_high fd vl := by
          intro hn
          simp (disch := omega) only [wX_slide_65, ss_a0, ss_b0, ss_c0, ss_d0, ss_e0, ss_a1, ss_b1, ss_c1, ss_d1, ss_e1, ss_a2, ss_b2, ss_c2, ss_d2, ss_e2, ss_a3, ss_b3, ss_c3, ss_d3, ss_e3, ss_a4, ss_b4, ss_c4, ss_d4, ss_e4, ss_a5, ss_b5, ss_c5, ss_d5, ss_e5, ss_a8, ss_b8, ss_c8, ss_d8, ss_e8, ss_a32, ss_b32, ss_c32, ss_d32, ss_e32, ss_a40, ss_b40, ss_c40, ss_d40, ss_e40, ss_a48, ss_b48, ss_c48, ss_d48, ss_e48, ss_a64, ss_b64, ss_c64, ss_d64, ss_e64, ss_m2, ss_m3, ss_m4, ss_m8, ss_p2, ss_p3, ss_p4, ss_p8, ss_48p, ss_in, nI_add, nI_1, nI_clamp, nI_leI, nI_ltI, nI_eq, forall_eq, true_and, and_true, es]
          exact ⟨by omega, by omega, by omega, by omega, ih (k - gap) _ _ (by omega) (by omega) (hs k fd vl hI (by omega) hk hn)⟩
        simp (disch := omega) only [wX_slide_18, ss_a0, ss_b0, ss_c0, ss_d0, ss_e0, ss_a1, ss_b1, ss_c1, ss_d1, ss_e1, ss_a2, ss_b2, ss_c2, ss_d2, ss_e2, ss_a3, ss_b3, ss_c3, ss_d3, ss_e3, ss_a4, ss_b4, ss_c4, ss_d4, ss_e4, ss_a5, ss_b5, ss_c5, ss_d5, ss_e5, ss_a8, ss_b8, ss_c8, ss_d8, ss_e8, ss_a32, ss_b32, ss_c32, ss_d32, ss_e32, ss_a40, ss_b40, ss_c40, ss_d40, ss_e40, ss_a48, ss_b48, ss_c48, ss_d48, ss_e48, ss_a64, ss_b64, ss_c64, ss_d64, ss_e64, ss_m2, ss_m3, ss_m4, ss_m8, ss_p2, ss_p3, ss_p4, ss_p8, ss_48p, ss_in, nI_add, nI_1, nI_clamp, nI_leI, nI_ltI, nI_eq, forall_eq, true_and, and_true, es]
        refine ⟨fun z => absurd z hl, fun _ => ⟨by omega, fun h1 => go ?_, fun h1 => ⟨by omega, fun h2 => ⟨by omega, fun h3 => out fun _ => Or.inr ⟨h2, h3⟩, fun h3 => go ?_⟩, fun h2 => out fun _ => Or.inl ?_⟩⟩⟩
        · rintro (h | ⟨h, -⟩)
          · exact absurd (Int32.lt_trans h1 h) Int32.lt_irrefl
          · rw [show vl (k - gap) = a_value fr from h] at h1; exact absurd h1 Int32.lt_irrefl
        · rintro (h | ⟨-, h⟩)
          · rw [show vl (k - gap) = a_value fr from h2] at h; exact absurd h Int32.lt_irrefl
          · exact h3 h
        · rcases Int32.lt_or_eq_of_le (Int32.not_lt.mp h1) with h3 | h3
          · exact h3
          · exact absurd h3 h2
  simp (disch := omega) only [wpX_slide, ss_a0, ss_b0, ss_c0, ss_d0, ss_e0, ss_a1, ss_b1, ss_c1, ss_d1, ss_e1, ss_a2, ss_b2, ss_c2, ss_d2, ss_e2, ss_a3, ss_b3, ss_c3, ss_d3, ss_e3, ss_a4, ss_b4, ss_c4, ss_d4, ss_e4, ss_a5, ss_b5, ss_c5, ss_d5, ss_e5, ss_a8, ss_b8, ss_c8, ss_d8, ss_e8, ss_a32, ss_b32, ss_c32, ss_d32, ss_e32, ss_a40, ss_b40, ss_c40, ss_d40, ss_e40, ss_a48, ss_b48, ss_c48, ss_d48, ss_e48, ss_a64, ss_b64, ss_c64, ss_d64, ss_e64, ss_m2, ss_m3, ss_m4, ss_m8, ss_p2, ss_p3, ss_p4, ss_p8, ss_48p, ss_in, nI_add, nI_1, nI_clamp, nI_leI, nI_ltI, nI_eq, forall_eq, true_and, and_true]
  exact ⟨hf, hf, fr + 1, key (fr + 1) fr _ _ (Nat.le_refl _) (by omega) h0⟩
/-- with the one that slides put in -/
def ss_pu (fd vl : Nat → Int32) (k : Nat) (x : ss_P) (i : Nat) : ss_P := if i = k then x else (fd i, vl i)
theorem ss_puU {fd vl : Nat → Int32} {k : Nat} {x : ss_P} : (fun i => (upd fd k x.1 i, upd vl k x.2 i)) = ss_pu fd vl k x := by
  funext i
  unfold ss_pu upd
  by_cases e : i = k
  · rw [if_pos e, if_pos e, if_pos e]
  · rw [if_neg e, if_neg e, if_neg e]
theorem ss_puS {fd vl : Nat → Int32} {k gap : Nat} {x : ss_P} (hk : k < mn) (hg : 0 < gap) (h : gap ≤ k) : List.Perm (ss_ls (ss_pu (upd fd k (fd (k - gap))) (upd vl k (vl (k - gap))) (k - gap) x) mn) (ss_ls (ss_pu fd vl k x) mn) := by
  refine ss_lsSw (i := k - gap) (j := k) (by omega) hk ?_ ?_ fun j hj h1 h2 => ?_
  · unfold ss_pu; rw [if_pos rfl, if_pos rfl]
  · unfold ss_pu
    rw [if_neg (by omega), if_neg (by omega), pk_us, pk_us]
  · unfold ss_pu
    rw [if_neg h1, if_neg h2, pk_un h2, pk_un h2]
theorem ss_xslP {post : SX → Prop} {fr gap : Nat} (hf : fr < mn) (hm : mn ≤ 128) (hg : 0 < gap) (hg2 : gap < 100)
    (h : ∀ fd vl : Nat → Int32, List.Perm (ss_ls (fun i => (fd i, vl i)) mn) (ss_ls (fun i => (a_found i, a_value i)) mn) → post (f_segments, f_added, f_kept, f_clock, f_rows, nI mn, a_row, a_from, a_to, a_held, a_sort, a_bits, a_base, a_least, a_greatest, a_words, a_dictionary, a_dRow, a_dFrom, a_dTo, a_dValue, a_wRow, a_wFrom, a_wTo, a_wValue, a_open, a_start, a_changed, a_change, a_changes, a_fresh, a_gone, a_column, a_low, a_high, fd, vl)) : wpX_slide post (f_segments, f_added, f_kept, f_clock, f_rows, nI mn, a_row, a_from, a_to, a_held, a_sort, a_bits, a_base, a_least, a_greatest, a_words, a_dictionary, a_dRow, a_dFrom, a_dTo, a_dValue, a_wRow, a_wFrom, a_wTo, a_wValue, a_open, a_start, a_changed, a_change, a_changes, a_fresh, a_gone, a_column, a_low, a_high, a_found, a_value) (nI fr) (nI gap) := by
  refine ss_xsl (by omega) hg hg2 (fun k fd vl => List.Perm (ss_ls (ss_pu fd vl k (a_found fr, a_value fr)) mn) (ss_ls (fun i => (a_found i, a_value i)) mn)) ?_ (fun k fd vl hI h1 h2 _ => ?_) (fun k fd vl hI h1 _ => ?_)
  · refine List.Perm.of_eq (ss_lsC fun i _ => ?_)
    unfold ss_pu
    by_cases e : i = fr
    · rw [if_pos e, e]
    · rw [if_neg e]
  · exact (ss_puS (by omega) hg h1).trans hI
  · refine h _ _ ?_
    rw [ss_puU (x := (a_found fr, a_value fr))]
    exact hI
/-- in order up to n -/
def ss_Or (fd vl : Nat → Int32) (n : Nat) : Prop := ∀ i j, i ≤ j → j < n → ss_le (fd i, vl i) (fd j, vl j)
theorem ss_xsl1 {post : SX → Prop} {fr : Nat} (hf : fr < mn) (hm : mn ≤ 128) (hO : ss_Or a_found a_value fr)
    (h : ∀ fd vl : Nat → Int32, List.Perm (ss_ls (fun i => (fd i, vl i)) mn) (ss_ls (fun i => (a_found i, a_value i)) mn) → ss_Or fd vl (fr + 1) → post (f_segments, f_added, f_kept, f_clock, f_rows, nI mn, a_row, a_from, a_to, a_held, a_sort, a_bits, a_base, a_least, a_greatest, a_words, a_dictionary, a_dRow, a_dFrom, a_dTo, a_dValue, a_wRow, a_wFrom, a_wTo, a_wValue, a_open, a_start, a_changed, a_change, a_changes, a_fresh, a_gone, a_column, a_low, a_high, fd, vl)) : wpX_slide post (f_segments, f_added, f_kept, f_clock, f_rows, nI mn, a_row, a_from, a_to, a_held, a_sort, a_bits, a_base, a_least, a_greatest, a_words, a_dictionary, a_dRow, a_dFrom, a_dTo, a_dValue, a_wRow, a_wFrom, a_wTo, a_wValue, a_open, a_start, a_changed, a_change, a_changes, a_fresh, a_gone, a_column, a_low, a_high, a_found, a_value) (nI fr) (nI 1) := by
  refine ss_xsl (gap := 1) (by omega) (by omega) (by omega) (fun k fd vl => List.Perm (ss_ls (ss_pu fd vl k (a_found fr, a_value fr)) mn) (ss_ls (fun i => (a_found i, a_value i)) mn) ∧ (∀ i j, i ≤ j → j ≤ fr → i ≠ k → j ≠ k → ss_le (fd i, vl i) (fd j, vl j)) ∧ ∀ j, k < j → j ≤ fr → ss_le (a_found fr, a_value fr) (fd j, vl j)) ?_ (fun k fd vl hI h1 h2 hn => ?_) (fun k fd vl hI h1 hl => ?_)
  · refine ⟨List.Perm.of_eq (ss_lsC fun i _ => ?_), fun i j hij hj hi hj' => hO i j hij (by omega), fun j h1 h2 => by omega⟩
    unfold ss_pu
    by_cases e : i = fr
    · rw [if_pos e, e]
    · rw [if_neg e]
  · obtain ⟨i1, i2, i3⟩ := hI
    refine ⟨(ss_puS (by omega) (by omega) h1).trans i1, fun i j hij hj hi hj' => ?_, fun j hj hj2 => ?_⟩
    · by_cases e1 : i = k
      · subst e1
        rcases (by omega : i = j ∨ i < j) with rfl | hlt
        · exact ss_ler _
        · rw [pk_us, pk_us, pk_un (by omega), pk_un (by omega)]
          exact i2 (i - 1) j (by omega) hj (by omega) (by omega)
      · by_cases e2 : j = k
        · subst e2
          rw [pk_us, pk_us, pk_un e1, pk_un e1]
          exact i2 i (j - 1) (by omega) (by omega) (by omega) (by omega)
        · rw [pk_un e1, pk_un e1, pk_un e2, pk_un e2]
          exact i2 i j hij hj e1 e2
    · by_cases e2 : j = k
      · subst e2
        rw [pk_us, pk_us]
        exact ss_leT hn
      · rw [pk_un e2, pk_un e2]
        exact i3 j (by omega) hj2
  · obtain ⟨i1, i2, i3⟩ := hI
    refine h _ _ ?_ fun i j hij hj => ?_
    · rw [ss_puU (x := (a_found fr, a_value fr))]
      exact i1
    · by_cases e1 : i = k
      · subst e1
        rcases (by omega : i = j ∨ i < j) with rfl | hlt
        · exact ss_ler _
        · rw [pk_us, pk_us, pk_un (by omega), pk_un (by omega)]
          exact i3 j hlt (by omega)
      · by_cases e2 : j = k
        · subst e2
          rw [pk_us, pk_us, pk_un e1, pk_un e1]
          have hl' := hl (by omega)
          rcases (by omega : i = j - 1 ∨ i < j - 1) with rfl | hlt
          · exact hl'
          · exact ss_let (i2 i (j - 1) (by omega) (by omega) e1 (by omega)) hl'
        · rw [pk_un e1, pk_un e1, pk_un e2, pk_un e2]
          exact i2 i j hij (by omega) e1 e2
theorem ss_xso9 {post : SX → Prop} {J : Int32 → Int32 → Int32 → Int32 → Int32 → Int32 → Int32 → (Nat → Int32) → (Nat → Int32) → (Nat → Int32) → (Nat → Int32) → (Nat → Int32) → (Nat → Int32) → (Nat → Int32) → (Nat → Int32) → (Nat → Int32) → (Nat → Int64) → (Nat → Int32) → (Nat → Int32) → (Nat → Int32) → (Nat → Int32) → (Nat → Int32) → (Nat → Int32) → (Nat → Int32) → (Nat → Int32) → (Nat → Int32) → (Nat → Int32) → (Nat → Int32) → (Nat → Int32) → (Nat → Int32) → (Nat → Int32) → (Nat → Int32) → (Nat → Int32) → (Nat → Int32) → (Nat → Int32) → (Nat → Int32) → (Nat → Int32) → (Nat → Int32) → Prop} {gap : Nat} (hm : mn ≤ 128) (hg : 0 < gap) (hg2 : gap < 100)
    (hJ : ∀ fd vl : Nat → Int32, List.Perm (ss_ls (fun i => (fd i, vl i)) mn) (ss_ls (fun i => (a_found i, a_value i)) mn) → (gap = 1 → ss_Or fd vl mn) → J (nI gap / 3) f_segments f_added f_kept f_clock f_rows (nI mn) a_row a_from a_to a_held a_sort a_bits a_base a_least a_greatest a_words a_dictionary a_dRow a_dFrom a_dTo a_dValue a_wRow a_wFrom a_wTo a_wValue a_open a_start a_changed a_change a_changes a_fresh a_gone a_column a_low a_high fd vl) :
    ∀ f k (fd vl : Nat → Int32), 0 < f → 0 < k → mn < f + k → k < 1000 → List.Perm (ss_ls (fun i => (fd i, vl i)) mn) (ss_ls (fun i => (a_found i, a_value i)) mn) → (gap = 1 → ss_Or fd vl k ∧ (k ≤ mn ∨ k = 1)) → wX_sortFound_9 post J (nI gap) f (nI k) f_segments f_added f_kept f_clock f_rows (nI mn) a_row a_from a_to a_held a_sort a_bits a_base a_least a_greatest a_words a_dictionary a_dRow a_dFrom a_dTo a_dValue a_wRow a_wFrom a_wTo a_wValue a_open a_start a_changed a_change a_changes a_fresh a_gone a_column a_low a_high fd vl := by
  have n3 : ¬ (3 : Int32) = 0 := by decide
  intro f
  induction f with
  | zero =>
    intro k fd vl h0; omega
  | succ f ih =>
    intro k fd vl h0 h1 h2 h3 hP hO
    simp (disch := omega) only [wX_sortFound_9, ss_a0, ss_b0, ss_c0, ss_d0, ss_e0, ss_a1, ss_b1, ss_c1, ss_d1, ss_e1, ss_a2, ss_b2, ss_c2, ss_d2, ss_e2, ss_a3, ss_b3, ss_c3, ss_d3, ss_e3, ss_a4, ss_b4, ss_c4, ss_d4, ss_e4, ss_a5, ss_b5, ss_c5, ss_d5, ss_e5, ss_a8, ss_b8, ss_c8, ss_d8, ss_e8, ss_a32, ss_b32, ss_c32, ss_d32, ss_e32, ss_a40, ss_b40, ss_c40, ss_d40, ss_e40, ss_a48, ss_b48, ss_c48, ss_d48, ss_e48, ss_a64, ss_b64, ss_c64, ss_d64, ss_e64, ss_m2, ss_m3, ss_m4, ss_m8, ss_p2, ss_p3, ss_p4, ss_p8, ss_48p, ss_in, nI_add, nI_1, nI_clamp, nI_leI, nI_ltI, nI_eq, forall_eq, true_and, and_true]
    refine ⟨fun z => ⟨n3, hJ fd vl hP fun e i j hij hj => (hO e).1 i j hij (by omega)⟩, fun z => ?_⟩
    by_cases e : gap = 1
    · subst e
      refine ss_xsl1 (by omega) hm (hO rfl).1 fun fd' vl' hP' hO' => ?_
      exact ih (k + 1) fd' vl' (by omega) (by omega) (by omega) (by omega) (hP'.trans hP) fun _ => ⟨hO', Or.inl (by omega)⟩
    · refine ss_xslP (by omega) hm hg hg2 fun fd' vl' hP' => ?_
      exact ih (k + 1) fd' vl' (by omega) (by omega) (by omega) (by omega) (hP'.trans hP) fun z => absurd z e
theorem ss_xsr {post : SX → Prop} (hm : mn ≤ 128)
    (h : ∀ fd vl : Nat → Int32, List.Perm (ss_ls (fun i => (fd i, vl i)) mn) (ss_ls (fun i => (a_found i, a_value i)) mn) → ss_Or fd vl mn → post (f_segments, f_added, f_kept, f_clock, f_rows, nI mn, a_row, a_from, a_to, a_held, a_sort, a_bits, a_base, a_least, a_greatest, a_words, a_dictionary, a_dRow, a_dFrom, a_dTo, a_dValue, a_wRow, a_wFrom, a_wTo, a_wValue, a_open, a_start, a_changed, a_change, a_changes, a_fresh, a_gone, a_column, a_low, a_high, fd, vl)) : wpX_sortFound post (f_segments, f_added, f_kept, f_clock, f_rows, nI mn, a_row, a_from, a_to, a_held, a_sort, a_bits, a_base, a_least, a_greatest, a_words, a_dictionary, a_dRow, a_dFrom, a_dTo, a_dValue, a_wRow, a_wFrom, a_wTo, a_wValue, a_open, a_start, a_changed, a_change, a_changes, a_fresh, a_gone, a_column, a_low, a_high, a_found, a_value) := by
  have n13 : ¬ (13 : Int32) ≤ 0 := by decide
  have n4 : ¬ (4 : Int32) ≤ 0 := by decide
  have n1 : ¬ (1 : Int32) ≤ 0 := by decide
  have d13 : nI 13 / 3 = 4 := by decide
  have d4 : nI 4 / 3 = 1 := by decide
  have d1 : nI 1 / 3 = 0 := by decide
  refine ⟨4, ⟨fun z => absurd z n13, fun _ => ⟨mn + 1, ?_⟩⟩⟩
  refine ss_xso9 (gap := 13) hm (by omega) (by omega) (fun fd vl hP _ => ?_) (mn + 1) 13 a_found a_value (by omega) (by omega) (by omega) (by omega) (List.Perm.refl _) (fun z => absurd z (by omega))
  rw [d13]
  refine ⟨fun z => absurd z n4, fun _ => ⟨mn + 1, ?_⟩⟩
  refine ss_xso9 (gap := 4) hm (by omega) (by omega) (fun fd' vl' hP' _ => ?_) (mn + 1) 4 fd vl (by omega) (by omega) (by omega) (by omega) (List.Perm.refl _) (fun z => absurd z (by omega))
  rw [d4]
  refine ⟨fun z => absurd z n1, fun _ => ⟨mn + 1, ?_⟩⟩
  refine ss_xso9 (gap := 1) hm (by omega) (by omega) (fun fd2 vl2 hP2 hO2 => ?_) (mn + 1) 1 fd' vl' (by omega) (by omega) (by omega) (by omega) (List.Perm.refl _) (fun _ => ⟨fun i j hij hj => ?_, Or.inr rfl⟩)
  · rw [d1]
    exact ⟨fun _ => h fd2 vl2 (hP2.trans (hP'.trans hP)) (hO2 rfl), fun z => absurd (Int32.le_refl _) z⟩
  · rw [show i = j by omega]; exact ss_ler _
end
end
section
section
variable {f_segments f_added f_kept f_clock f_rows f_many : Int32} {a_row a_from a_to a_held a_sort a_bits a_base a_least a_greatest a_dictionary a_dRow a_dFrom a_dTo a_dValue a_wRow a_wFrom a_wTo a_wValue a_open a_start a_changed a_change a_changes a_fresh a_gone a_column a_low a_high a_found a_value : Nat → Int32} {a_words : Nat → Int64}
variable {f_versions f_seen : Int32} {a_vRow a_vFrom a_vTo a_vInt a_sRow a_sInt a_kept : Nat → Int32}
variable {nv cl sn : Nat}
theorem ss_y74 {post : SY → Prop} {v : ss_T} (hs : sn < 64) (hco : ss_Co a_column) (hv : ss_tr a_sInt sn = v)
    (h1 : ss_ps a_column a_low a_high v = true → post (nI nv, nI cl, f_rows, nI (sn + 1), a_vRow, a_vFrom, a_vTo, a_vInt, a_open, a_start, a_changes, a_changed, a_fresh, a_gone, a_change, a_column, a_low, a_high, a_sRow, a_sInt, a_kept)) (h0 : ss_ps a_column a_low a_high v = false → post (nI nv, nI cl, f_rows, nI sn, a_vRow, a_vFrom, a_vTo, a_vInt, a_open, a_start, a_changes, a_changed, a_fresh, a_gone, a_change, a_column, a_low, a_high, a_sRow, a_sInt, a_kept)) : ∃ n74, wY_add_74 post (nI nv) (nI cl) f_rows (nI sn) a_vRow a_vFrom a_vTo a_vInt a_open a_start a_changes a_changed a_fresh a_gone a_change a_column a_low a_high a_sRow a_sInt a_kept n74 1 0 := by
  have st : ∀ f k b, k < 2 → wY_add_74 post (nI nv) (nI cl) f_rows (nI sn) a_vRow a_vFrom a_vTo a_vInt a_open a_start a_changes a_changed a_fresh a_gone a_change a_column a_low a_high a_sRow a_sInt a_kept f (ss_bi (b && ss_p1 a_column a_low a_high k v)) (nI (k + 1)) → wY_add_74 post (nI nv) (nI cl) f_rows (nI sn) a_vRow a_vFrom a_vTo a_vInt a_open a_start a_changes a_changed a_fresh a_gone a_change a_column a_low a_high a_sRow a_sInt a_kept (f + 1) (ss_bi b) (nI k) := by
    intro f k b hk hn
    rcases hco k hk with e | ⟨j, hj, e⟩
    · rw [ss_p1n e, Bool.and_true] at hn
      simp (disch := omega) only [wY_add_74, ss_a0, ss_b0, ss_c0, ss_d0, ss_e0, ss_a1, ss_b1, ss_c1, ss_d1, ss_e1, ss_a2, ss_b2, ss_c2, ss_d2, ss_e2, ss_a3, ss_b3, ss_c3, ss_d3, ss_e3, ss_a4, ss_b4, ss_c4, ss_d4, ss_e4, ss_a5, ss_b5, ss_c5, ss_d5, ss_e5, ss_a8, ss_b8, ss_c8, ss_d8, ss_e8, ss_a32, ss_b32, ss_c32, ss_d32, ss_e32, ss_a40, ss_b40, ss_c40, ss_d40, ss_e40, ss_a48, ss_b48, ss_c48, ss_d48, ss_e48, ss_a64, ss_b64, ss_c64, ss_d64, ss_e64, ss_m2, ss_m3, ss_m4, ss_m8, ss_p2, ss_p3, ss_p4, ss_p8, ss_48p, ss_in, nI_add, nI_1, nI_clamp, nI_leI, nI_ltI, nI_eq, forall_eq, true_and, and_true, e, ss_n1lt]
      exact ⟨fun z => absurd z (by omega), fun _ => ⟨hk, fun _ => hn, fun z => absurd trivial z⟩⟩
    · have ev : ss_c v j = a_sInt (3 * sn + j) := by rw [← hv, ss_ctr _ _ hj]
      rw [ss_p1j hj e, ev] at hn
      simp (disch := omega) only [wY_add_74, ss_a0, ss_b0, ss_c0, ss_d0, ss_e0, ss_a1, ss_b1, ss_c1, ss_d1, ss_e1, ss_a2, ss_b2, ss_c2, ss_d2, ss_e2, ss_a3, ss_b3, ss_c3, ss_d3, ss_e3, ss_a4, ss_b4, ss_c4, ss_d4, ss_e4, ss_a5, ss_b5, ss_c5, ss_d5, ss_e5, ss_a8, ss_b8, ss_c8, ss_d8, ss_e8, ss_a32, ss_b32, ss_c32, ss_d32, ss_e32, ss_a40, ss_b40, ss_c40, ss_d40, ss_e40, ss_a48, ss_b48, ss_c48, ss_d48, ss_e48, ss_a64, ss_b64, ss_c64, ss_d64, ss_e64, ss_m2, ss_m3, ss_m4, ss_m8, ss_p2, ss_p3, ss_p4, ss_p8, ss_48p, ss_in, nI_add, nI_1, nI_clamp, nI_leI, nI_ltI, nI_eq, forall_eq, true_and, and_true, e]
      refine ⟨fun z => absurd z (by omega), fun _ => ⟨hk, fun z => absurd z (by omega), fun _ => ⟨by omega, hk, fun h2 => ?_, fun h2 => ⟨by omega, hk, fun h3 => ?_, fun h3 => ?_⟩⟩⟩⟩
      · have : ¬ a_low k ≤ a_sInt (3 * sn + j) := Int32.not_le.mpr h2
        simp only [this, decide_false, Bool.false_and, Bool.and_false] at hn
        exact hn
      · have h2' := Int32.not_lt.mp h2
        simp only [h2', h3, decide_true, Bool.and_true] at hn
        exact hn
      · simp only [h3, decide_false, Bool.and_false] at hn
        exact hn
  refine ⟨3, st 2 0 true (by omega) (st 1 1 _ (by omega) ?_)⟩
  have e : (true && ss_p1 a_column a_low a_high 0 v && ss_p1 a_column a_low a_high 1 v) = ss_ps a_column a_low a_high v := by
    rw [Bool.true_and]; rfl
  rw [e]
  simp (disch := omega) only [wY_add_74, ss_a0, ss_b0, ss_c0, ss_d0, ss_e0, ss_a1, ss_b1, ss_c1, ss_d1, ss_e1, ss_a2, ss_b2, ss_c2, ss_d2, ss_e2, ss_a3, ss_b3, ss_c3, ss_d3, ss_e3, ss_a4, ss_b4, ss_c4, ss_d4, ss_e4, ss_a5, ss_b5, ss_c5, ss_d5, ss_e5, ss_a8, ss_b8, ss_c8, ss_d8, ss_e8, ss_a32, ss_b32, ss_c32, ss_d32, ss_e32, ss_a40, ss_b40, ss_c40, ss_d40, ss_e40, ss_a48, ss_b48, ss_c48, ss_d48, ss_e48, ss_a64, ss_b64, ss_c64, ss_d64, ss_e64, ss_m2, ss_m3, ss_m4, ss_m8, ss_p2, ss_p3, ss_p4, ss_p8, ss_48p, ss_in, nI_add, nI_1, nI_clamp, nI_leI, nI_ltI, nI_eq, forall_eq, true_and, and_true]
  exact ⟨fun _ => ss_br h0 h1, fun z => absurd (by omega) z⟩
theorem ss_y16 {post : SY → Prop} {z : Bool} {a : Nat} {src : Nat → Int32} (ha : a < 56) (ha2 : z = true → a < 32) (hsrc : src = if z then a_change else a_vInt) (hs : sn < 64) (hco : ss_Co a_column)
    (h1 : ss_ps a_column a_low a_high (ss_tr src a) = true → ∀ si : Nat → Int32, ss_tr si sn = ss_tr src a → (∀ i, i ≠ sn → ss_tr si i = ss_tr a_sInt i) → post (nI nv, nI cl, f_rows, nI (sn + 1), a_vRow, a_vFrom, a_vTo, a_vInt, a_open, a_start, a_changes, a_changed, a_fresh, a_gone, a_change, a_column, a_low, a_high, a_sRow, si, a_kept))
    (h0 : ss_ps a_column a_low a_high (ss_tr src a) = false → ∀ si : Nat → Int32, (∀ i, i ≠ sn → ss_tr si i = ss_tr a_sInt i) → post (nI nv, nI cl, f_rows, nI sn, a_vRow, a_vFrom, a_vTo, a_vInt, a_open, a_start, a_changes, a_changed, a_fresh, a_gone, a_change, a_column, a_low, a_high, a_sRow, si, a_kept)) :
    ∃ n16, wY_add_16 post (ss_bi z) (nI a) 1 (nI nv) (nI cl) f_rows (nI sn) n16 0 a_vRow a_vFrom a_vTo a_vInt a_open a_start a_changes a_changed a_fresh a_gone a_change a_column a_low a_high a_sRow a_sInt a_kept := by
  have st : ∀ f c (si : Nat → Int32), c < 3 → wY_add_16 post (ss_bi z) (nI a) 1 (nI nv) (nI cl) f_rows (nI sn) f (nI (c + 1)) a_vRow a_vFrom a_vTo a_vInt a_open a_start a_changes a_changed a_fresh a_gone a_change a_column a_low a_high a_sRow (upd si (3 * sn + c) (src (3 * a + c))) a_kept → wY_add_16 post (ss_bi z) (nI a) 1 (nI nv) (nI cl) f_rows (nI sn) (f + 1) (nI c) a_vRow a_vFrom a_vTo a_vInt a_open a_start a_changes a_changed a_fresh a_gone a_change a_column a_low a_high a_sRow si a_kept := by
    intro f c si hc hn
    cases z with
    | false =>
      have hsr : src = a_vInt := hsrc
      rw [hsr] at hn
      simp (disch := omega) only [wY_add_16, ss_a0, ss_b0, ss_c0, ss_d0, ss_e0, ss_a1, ss_b1, ss_c1, ss_d1, ss_e1, ss_a2, ss_b2, ss_c2, ss_d2, ss_e2, ss_a3, ss_b3, ss_c3, ss_d3, ss_e3, ss_a4, ss_b4, ss_c4, ss_d4, ss_e4, ss_a5, ss_b5, ss_c5, ss_d5, ss_e5, ss_a8, ss_b8, ss_c8, ss_d8, ss_e8, ss_a32, ss_b32, ss_c32, ss_d32, ss_e32, ss_a40, ss_b40, ss_c40, ss_d40, ss_e40, ss_a48, ss_b48, ss_c48, ss_d48, ss_e48, ss_a64, ss_b64, ss_c64, ss_d64, ss_e64, ss_m2, ss_m3, ss_m4, ss_m8, ss_p2, ss_p3, ss_p4, ss_p8, ss_48p, ss_in, nI_add, nI_1, nI_clamp, nI_leI, nI_ltI, nI_eq, forall_eq, true_and, and_true, ss_bf]
      exact ⟨fun z => absurd z (by omega), fun _ => ⟨fun _ => ⟨by omega, by omega, hn⟩, fun z => absurd trivial z⟩⟩
    | true =>
      have hsr : src = a_change := hsrc
      have := ha2 rfl
      rw [hsr] at hn
      simp (disch := omega) only [wY_add_16, ss_a0, ss_b0, ss_c0, ss_d0, ss_e0, ss_a1, ss_b1, ss_c1, ss_d1, ss_e1, ss_a2, ss_b2, ss_c2, ss_d2, ss_e2, ss_a3, ss_b3, ss_c3, ss_d3, ss_e3, ss_a4, ss_b4, ss_c4, ss_d4, ss_e4, ss_a5, ss_b5, ss_c5, ss_d5, ss_e5, ss_a8, ss_b8, ss_c8, ss_d8, ss_e8, ss_a32, ss_b32, ss_c32, ss_d32, ss_e32, ss_a40, ss_b40, ss_c40, ss_d40, ss_e40, ss_a48, ss_b48, ss_c48, ss_d48, ss_e48, ss_a64, ss_b64, ss_c64, ss_d64, ss_e64, ss_m2, ss_m3, ss_m4, ss_m8, ss_p2, ss_p3, ss_p4, ss_p8, ss_48p, ss_in, nI_add, nI_1, nI_clamp, nI_leI, nI_ltI, nI_eq, forall_eq, true_and, and_true, ss_bt]
      exact ⟨fun z => absurd z (by omega), fun _ => ⟨fun z => absurd z (by decide), fun _ => ⟨by omega, by omega, hn⟩⟩⟩
  refine ⟨4, st 3 0 _ (by omega) (st 2 1 _ (by omega) (st 1 2 _ (by omega) ?_))⟩
  have l3 : ∀ f, wY_add_16 post (ss_bi z) (nI a) 1 (nI nv) (nI cl) f_rows (nI sn) (f + 1) (nI 3) a_vRow a_vFrom a_vTo a_vInt a_open a_start a_changes a_changed a_fresh a_gone a_change a_column a_low a_high a_sRow (upd (upd (upd a_sInt (3 * sn) (src (3 * a))) (3 * sn + 1) (src (3 * a + 1))) (3 * sn + 2) (src (3 * a + 2))) a_kept := by
    intro f
    simp (disch := omega) only [wY_add_16, ss_a0, ss_b0, ss_c0, ss_d0, ss_e0, ss_a1, ss_b1, ss_c1, ss_d1, ss_e1, ss_a2, ss_b2, ss_c2, ss_d2, ss_e2, ss_a3, ss_b3, ss_c3, ss_d3, ss_e3, ss_a4, ss_b4, ss_c4, ss_d4, ss_e4, ss_a5, ss_b5, ss_c5, ss_d5, ss_e5, ss_a8, ss_b8, ss_c8, ss_d8, ss_e8, ss_a32, ss_b32, ss_c32, ss_d32, ss_e32, ss_a40, ss_b40, ss_c40, ss_d40, ss_e40, ss_a48, ss_b48, ss_c48, ss_d48, ss_e48, ss_a64, ss_b64, ss_c64, ss_d64, ss_e64, ss_m2, ss_m3, ss_m4, ss_m8, ss_p2, ss_p3, ss_p4, ss_p8, ss_48p, ss_in, nI_add, nI_1, nI_clamp, nI_leI, nI_ltI, nI_eq, forall_eq, true_and, and_true]
    refine ⟨fun _ => ss_y74 (v := ss_tr src a) hs hco ss_trS (fun hp => h1 hp _ ss_trS fun i hi => ss_trU hi) (fun hp => h0 hp _ fun i hi => ss_trU hi), fun z => absurd (Nat.le_refl 3) z⟩
  exact l3 0
theorem ss_yad {post : SY → Prop} {z : Bool} {a : Nat} {r : Int32} {src : Nat → Int32} (ha : a < 56) (ha2 : z = true → a < 32) (hsrc : src = if z then a_change else a_vInt) (hs : sn < 64) (hco : ss_Co a_column)
    (h1 : ss_ps a_column a_low a_high (ss_tr src a) = true → ∀ sr si : Nat → Int32, ss_ls (fun i => (sr i, ss_tr si i)) (sn + 1) = ss_ls (fun i => (a_sRow i, ss_tr a_sInt i)) sn ++ [(r, ss_tr src a)] → post (nI nv, nI cl, f_rows, nI (sn + 1), a_vRow, a_vFrom, a_vTo, a_vInt, a_open, a_start, a_changes, a_changed, a_fresh, a_gone, a_change, a_column, a_low, a_high, sr, si, a_kept))
    (h0 : ss_ps a_column a_low a_high (ss_tr src a) = false → ∀ sr si : Nat → Int32, ss_ls (fun i => (sr i, ss_tr si i)) sn = ss_ls (fun i => (a_sRow i, ss_tr a_sInt i)) sn → post (nI nv, nI cl, f_rows, nI sn, a_vRow, a_vFrom, a_vTo, a_vInt, a_open, a_start, a_changes, a_changed, a_fresh, a_gone, a_change, a_column, a_low, a_high, sr, si, a_kept)) : wpY_add post (nI nv, nI cl, f_rows, nI sn, a_vRow, a_vFrom, a_vTo, a_vInt, a_open, a_start, a_changes, a_changed, a_fresh, a_gone, a_change, a_column, a_low, a_high, a_sRow, a_sInt, a_kept) r (ss_bi z) (nI a) := by
  simp (disch := omega) only [wpY_add, ss_a0, ss_b0, ss_c0, ss_d0, ss_e0, ss_a1, ss_b1, ss_c1, ss_d1, ss_e1, ss_a2, ss_b2, ss_c2, ss_d2, ss_e2, ss_a3, ss_b3, ss_c3, ss_d3, ss_e3, ss_a4, ss_b4, ss_c4, ss_d4, ss_e4, ss_a5, ss_b5, ss_c5, ss_d5, ss_e5, ss_a8, ss_b8, ss_c8, ss_d8, ss_e8, ss_a32, ss_b32, ss_c32, ss_d32, ss_e32, ss_a40, ss_b40, ss_c40, ss_d40, ss_e40, ss_a48, ss_b48, ss_c48, ss_d48, ss_e48, ss_a64, ss_b64, ss_c64, ss_d64, ss_e64, ss_m2, ss_m3, ss_m4, ss_m8, ss_p2, ss_p3, ss_p4, ss_p8, ss_48p, ss_in, nI_add, nI_1, nI_clamp, nI_leI, nI_ltI, nI_eq, forall_eq, true_and, and_true]
  refine ⟨hs, ss_y16 ha ha2 hsrc hs hco (fun hp si e1 e2 => h1 hp _ si ?_) (fun hp si e2 => h0 hp _ si ?_)⟩
  · rw [ss_lsS, pk_us, e1]
    congr 1
    refine ss_lsC fun i hi => ?_
    rw [pk_un (by omega), e2 i (by omega)]
  · refine ss_lsC fun i hi => ?_
    rw [pk_un (by omega), e2 i (by omega)]
theorem ss_ycqB {A B P : Prop} {t r : Int32} {cq : Int32 → Bool} {chl : List ss_R} {ps : ss_T → Bool} (T : ss_Tq t cq chl a_changes a_changed a_change a_gone ps) (h0 : cq r = false → A) (h1 : cq r = true → B) (hP : P) : (t < 0 → A) ∧ (¬ t < 0 → P ∧ wpY_changeOf (fun z => (0 ≤ z → B) ∧ (¬ 0 ≤ z → A)) (nI nv, nI cl, f_rows, nI sn, a_vRow, a_vFrom, a_vTo, a_vInt, a_open, a_start, a_changes, a_changed, a_fresh, a_gone, a_change, a_column, a_low, a_high, a_sRow, a_sInt, a_kept) t r) := by
  rcases T with ⟨rfl, rfl, -⟩ | ⟨j, c, hj, rfl, hc, hc8, rfl, -⟩
  · exact ⟨fun _ => h0 rfl, fun z => absurd (by decide) z⟩
  · refine ⟨fun z => absurd z (nI_pos (by omega)), fun _ => ⟨hP, ss_ycf hj hc hc8 ⟨fun z => h1 (ss_icL.mp z), fun z => h0 ?_⟩⟩⟩
    rw [ss_icL, Bool.not_eq_true] at z; exact z
theorem ss_y96 {post : Int32 → SY → Prop} {t k : Nat} {L0 : List ss_R} (ht : t < 4) (hk : a_changes t = nI k) (hk8 : k ≤ 8) (hco : ss_Co a_column) (hL0 : L0.length ≤ 56)
    (h : ∀ sn (sr si : Nat → Int32), ss_ls (fun i => (sr i, ss_tr si i)) sn = L0 ++ (ss_fl (fun i => decide (a_gone (8 * t + i) = 0) && ss_ps a_column a_low a_high (ss_tr a_change (8 * t + i))) (fun i => (a_changed (8 * t + i), ss_tr a_change (8 * t + i))) k) → post 1 (nI nv, nI cl, f_rows, nI sn, a_vRow, a_vFrom, a_vTo, a_vInt, a_open, a_start, a_changes, a_changed, a_fresh, a_gone, a_change, a_column, a_low, a_high, sr, si, a_kept)) :
    ∀ f i sn (sr si : Nat → Int32), i ≤ k → k < f + i → ss_ls (fun i => (sr i, ss_tr si i)) sn = L0 ++ (ss_fl (fun i => decide (a_gone (8 * t + i) = 0) && ss_ps a_column a_low a_high (ss_tr a_change (8 * t + i))) (fun i => (a_changed (8 * t + i), ss_tr a_change (8 * t + i))) i) →
      wY_look_96 post (nI t) f (nI (8 * t + i)) (nI nv) (nI cl) f_rows (nI sn) a_vRow a_vFrom a_vTo a_vInt a_open a_start a_changes a_changed a_fresh a_gone a_change a_column a_low a_high sr si a_kept := by
  intro f
  induction f with
  | zero => intro i sn sr si h1 h2; omega
  | succ f ih =>
    intro i sn sr si hi hf hL
    have hsn : sn ≤ 56 + i := by
      have h1 := congrArg List.length hL
      rw [ss_lsL, List.length_append] at h1
      have := ss_flL (p := (fun i => decide (a_gone (8 * t + i) = 0) && ss_ps a_column a_low a_high (ss_tr a_change (8 * t + i)))) (g := (fun i => (a_changed (8 * t + i), ss_tr a_change (8 * t + i)))) (n := i)
      omega
    simp (disch := omega) only [wY_look_96, ss_a0, ss_b0, ss_c0, ss_d0, ss_e0, ss_a1, ss_b1, ss_c1, ss_d1, ss_e1, ss_a2, ss_b2, ss_c2, ss_d2, ss_e2, ss_a3, ss_b3, ss_c3, ss_d3, ss_e3, ss_a4, ss_b4, ss_c4, ss_d4, ss_e4, ss_a5, ss_b5, ss_c5, ss_d5, ss_e5, ss_a8, ss_b8, ss_c8, ss_d8, ss_e8, ss_a32, ss_b32, ss_c32, ss_d32, ss_e32, ss_a40, ss_b40, ss_c40, ss_d40, ss_e40, ss_a48, ss_b48, ss_c48, ss_d48, ss_e48, ss_a64, ss_b64, ss_c64, ss_d64, ss_e64, ss_m2, ss_m3, ss_m4, ss_m8, ss_p2, ss_p3, ss_p4, ss_p8, ss_48p, ss_in, nI_add, nI_1, nI_clamp, nI_leI, nI_ltI, nI_eq, forall_eq, true_and, and_true, hk]
    refine ⟨fun z => absurd z (by omega), fun _ => ⟨ht, fun z => h sn sr si ?_, fun z => ⟨by omega, fun hg => ⟨by omega, ?_⟩, fun hg => ?_⟩⟩⟩
    · rw [show k = i by omega]; exact hL
    · refine ss_yad (z := true) (src := a_change) (by omega) (fun _ => by omega) rfl (by omega) hco (fun hp sr' si' hA => ih (i + 1) (sn + 1) sr' si' (by omega) (by omega) ?_) (fun hp sr' si' hA => ih (i + 1) sn sr' si' (by omega) (by omega) ?_)
      · rw [hA, hL, ss_flS, if_pos (by rw [hp, hg]; rfl), List.append_assoc]
      · rw [hA, hL, ss_flS, if_neg (by rw [hp, Bool.and_false]; decide), List.append_nil]
    · refine ih (i + 1) sn sr si (by omega) (by omega) ?_
      rw [hL, ss_flS, if_neg (by simp [hg]), List.append_nil]
theorem ss_y22 {post : Int32 → SY → Prop} {t time : Int32} {cq : Int32 → Bool} {chl : List ss_R} (T : ss_Tq t cq chl a_changes a_changed a_change a_gone (ss_ps a_column a_low a_high)) (ht : (t = -1 ∧ time = nI cl) ∨ ∃ j, j < 4 ∧ t = nI j ∧ time = a_start j) (hco : ss_Co a_column) (hnv : nv ≤ 56)
    (h : ∀ sn (sr si : Nat → Int32), ss_ls (fun i => (sr i, ss_tr si i)) sn = ((ss_ls (ss_ve a_vRow a_vFrom a_vTo a_vInt) nv).filter (ss_Q time cq (ss_ps a_column a_low a_high))).map ss_rc ++ chl → post 1 (nI nv, nI cl, f_rows, nI sn, a_vRow, a_vFrom, a_vTo, a_vInt, a_open, a_start, a_changes, a_changed, a_fresh, a_gone, a_change, a_column, a_low, a_high, sr, si, a_kept)) :
    ∀ f v sn (sr si : Nat → Int32), v ≤ nv → nv < f + v → ss_ls (fun i => (sr i, ss_tr si i)) sn = ((ss_ls (ss_ve a_vRow a_vFrom a_vTo a_vInt) v).filter (ss_Q time cq (ss_ps a_column a_low a_high))).map ss_rc →
      wY_look_22 post t f (nI v) (nI nv) (nI cl) f_rows (nI sn) a_vRow a_vFrom a_vTo a_vInt a_open a_start a_changes a_changed a_fresh a_gone a_change a_column a_low a_high sr si a_kept := by
  intro f
  induction f with
  | zero => intro i sn sr si h1 h2; omega
  | succ f ih =>
    intro v sn sr si hv hf hL
    have hsn : sn ≤ v := by
      have h1 := congrArg List.length hL
      rw [ss_lsL, List.length_map] at h1
      have := List.length_filter_le (ss_Q time cq (ss_ps a_column a_low a_high)) (ss_ls (ss_ve a_vRow a_vFrom a_vTo a_vInt) v)
      rw [ss_lsL] at this
      omega
    by_cases hl : nv ≤ v
    · have e : nv = v := by omega
      simp (disch := omega) only [wY_look_22, ss_a0, ss_b0, ss_c0, ss_d0, ss_e0, ss_a1, ss_b1, ss_c1, ss_d1, ss_e1, ss_a2, ss_b2, ss_c2, ss_d2, ss_e2, ss_a3, ss_b3, ss_c3, ss_d3, ss_e3, ss_a4, ss_b4, ss_c4, ss_d4, ss_e4, ss_a5, ss_b5, ss_c5, ss_d5, ss_e5, ss_a8, ss_b8, ss_c8, ss_d8, ss_e8, ss_a32, ss_b32, ss_c32, ss_d32, ss_e32, ss_a40, ss_b40, ss_c40, ss_d40, ss_e40, ss_a48, ss_b48, ss_c48, ss_d48, ss_e48, ss_a64, ss_b64, ss_c64, ss_d64, ss_e64, ss_m2, ss_m3, ss_m4, ss_m8, ss_p2, ss_p3, ss_p4, ss_p8, ss_48p, ss_in, nI_add, nI_1, nI_clamp, nI_leI, nI_ltI, nI_eq, forall_eq, true_and, and_true]
      refine ⟨fun _ => ?_, fun z => absurd hl z⟩
      rcases T with ⟨rfl, hq, hcl⟩ | ⟨j, k, hj, rfl, hk, hk8, hq, hcl⟩
      · refine ⟨1, ⟨fun _ => h sn sr si ?_, fun z => absurd (by decide) z⟩⟩
        rw [hL, hcl, List.append_nil, e]
      · simp (disch := omega) only [ss_a0, ss_b0, ss_c0, ss_d0, ss_e0, ss_a1, ss_b1, ss_c1, ss_d1, ss_e1, ss_a2, ss_b2, ss_c2, ss_d2, ss_e2, ss_a3, ss_b3, ss_c3, ss_d3, ss_e3, ss_a4, ss_b4, ss_c4, ss_d4, ss_e4, ss_a5, ss_b5, ss_c5, ss_d5, ss_e5, ss_a8, ss_b8, ss_c8, ss_d8, ss_e8, ss_a32, ss_b32, ss_c32, ss_d32, ss_e32, ss_a40, ss_b40, ss_c40, ss_d40, ss_e40, ss_a48, ss_b48, ss_c48, ss_d48, ss_e48, ss_a64, ss_b64, ss_c64, ss_d64, ss_e64, ss_m2, ss_m3, ss_m4, ss_m8, ss_p2, ss_p3, ss_p4, ss_p8, ss_48p, ss_in, nI_add, nI_1, nI_clamp, nI_leI, nI_ltI, nI_eq, forall_eq, true_and, and_true]
        refine ⟨k + 1, ss_y96 (L0 := ((ss_ls (ss_ve a_vRow a_vFrom a_vTo a_vInt) nv).filter (ss_Q time cq (ss_ps a_column a_low a_high))).map ss_rc) hj hk hk8 hco ?_ (fun sn' sr' si' hL' => h sn' sr' si' ?_) (k + 1) 0 sn sr si (by omega) (by omega) ?_⟩
        · rw [e, ← hL, ss_lsL]; omega
        · rw [hL', hcl]
        · rw [hL, ss_fl0, List.append_nil, e]
    · have keep : ss_Q time cq (ss_ps a_column a_low a_high) (ss_ve a_vRow a_vFrom a_vTo a_vInt v) = false → ∀ sr' si' : Nat → Int32, ss_ls (fun i => (sr' i, ss_tr si' i)) sn = ss_ls (fun i => (sr i, ss_tr si i)) sn → wY_look_22 post t f (nI (v + 1)) (nI nv) (nI cl) f_rows (nI sn) a_vRow a_vFrom a_vTo a_vInt a_open a_start a_changes a_changed a_fresh a_gone a_change a_column a_low a_high sr' si' a_kept := by
        intro hq sr' si' hA
        refine ih (v + 1) sn sr' si' (by omega) (by omega) ?_
        rw [hA, hL, ss_fS, if_neg (by rw [hq]; decide), List.append_nil]
      have s73 : ss_h (a_vFrom v) (a_vTo v) time = true → cq (a_vRow v) = false → wY_look_73 post (wY_look_22 post t f) t (nI v) (nI nv) (nI cl) f_rows (nI sn) a_vRow a_vFrom a_vTo a_vInt a_open a_start a_changes a_changed a_fresh a_gone a_change a_column a_low a_high sr si a_kept := by
        intro hh hq
        simp (disch := omega) only [wY_look_73, ss_a0, ss_b0, ss_c0, ss_d0, ss_e0, ss_a1, ss_b1, ss_c1, ss_d1, ss_e1, ss_a2, ss_b2, ss_c2, ss_d2, ss_e2, ss_a3, ss_b3, ss_c3, ss_d3, ss_e3, ss_a4, ss_b4, ss_c4, ss_d4, ss_e4, ss_a5, ss_b5, ss_c5, ss_d5, ss_e5, ss_a8, ss_b8, ss_c8, ss_d8, ss_e8, ss_a32, ss_b32, ss_c32, ss_d32, ss_e32, ss_a40, ss_b40, ss_c40, ss_d40, ss_e40, ss_a48, ss_b48, ss_c48, ss_d48, ss_e48, ss_a64, ss_b64, ss_c64, ss_d64, ss_e64, ss_m2, ss_m3, ss_m4, ss_m8, ss_p2, ss_p3, ss_p4, ss_p8, ss_48p, ss_in, nI_add, nI_1, nI_clamp, nI_leI, nI_ltI, nI_eq, forall_eq, true_and, and_true]
        refine ⟨by omega, ss_yad (z := false) (src := a_vInt) (by omega) (fun z => nomatch z) rfl (by omega) hco (fun hp sr' si' hA => ih (v + 1) (sn + 1) sr' si' (by omega) (by omega) ?_) (fun hp sr' si' hA => keep ?_ sr' si' hA)⟩
        · have hQ : ss_Q time cq (ss_ps a_column a_low a_high) (ss_ve a_vRow a_vFrom a_vTo a_vInt v) = true := by
            unfold ss_Q
            show (ss_h (a_vFrom v) (a_vTo v) time && !cq (a_vRow v) && ss_ps a_column a_low a_high (ss_tr a_vInt v)) = true
            rw [hh, hq, hp]; rfl
          rw [hA, hL, ss_fS, if_pos hQ, List.map_append]
          rfl
        · unfold ss_Q
          show (ss_h (a_vFrom v) (a_vTo v) time && !cq (a_vRow v) && ss_ps a_column a_low a_high (ss_tr a_vInt v)) = false
          rw [hp, Bool.and_false]
      have s49 : wY_look_49 post (wY_look_22 post t f) t (nI v) time (nI v) (nI nv) (nI cl) f_rows (nI sn) a_vRow a_vFrom a_vTo a_vInt a_open a_start a_changes a_changed a_fresh a_gone a_change a_column a_low a_high sr si a_kept := by
        have h56 : v < 56 := by omega
        simp (disch := omega) only [wY_look_49, ss_a0, ss_b0, ss_c0, ss_d0, ss_e0, ss_a1, ss_b1, ss_c1, ss_d1, ss_e1, ss_a2, ss_b2, ss_c2, ss_d2, ss_e2, ss_a3, ss_b3, ss_c3, ss_d3, ss_e3, ss_a4, ss_b4, ss_c4, ss_d4, ss_e4, ss_a5, ss_b5, ss_c5, ss_d5, ss_e5, ss_a8, ss_b8, ss_c8, ss_d8, ss_e8, ss_a32, ss_b32, ss_c32, ss_d32, ss_e32, ss_a40, ss_b40, ss_c40, ss_d40, ss_e40, ss_a48, ss_b48, ss_c48, ss_d48, ss_e48, ss_a64, ss_b64, ss_c64, ss_d64, ss_e64, ss_m2, ss_m3, ss_m4, ss_m8, ss_p2, ss_p3, ss_p4, ss_p8, ss_48p, ss_in, nI_add, nI_1, nI_clamp, nI_leI, nI_ltI, nI_eq, forall_eq, true_and, and_true, ss_yh h56]
        refine ss_br (fun hb => keep ?_ sr si rfl) (fun hb => ss_ycqB T (fun hq => s73 hb hq) (fun hq => keep ?_ sr si rfl) h56)
        · unfold ss_Q
          show (ss_h (a_vFrom v) (a_vTo v) time && !cq (a_vRow v) && ss_ps a_column a_low a_high (ss_tr a_vInt v)) = false
          rw [hb]; rfl
        · unfold ss_Q
          show (ss_h (a_vFrom v) (a_vTo v) time && !cq (a_vRow v) && ss_ps a_column a_low a_high (ss_tr a_vInt v)) = false
          rw [hq, Bool.not_true, Bool.and_false, Bool.false_and]
      rcases ht with ⟨rfl, rfl⟩ | ⟨j, hj, rfl, rfl⟩
      · simp (disch := omega) only [wY_look_22, ss_a0, ss_b0, ss_c0, ss_d0, ss_e0, ss_a1, ss_b1, ss_c1, ss_d1, ss_e1, ss_a2, ss_b2, ss_c2, ss_d2, ss_e2, ss_a3, ss_b3, ss_c3, ss_d3, ss_e3, ss_a4, ss_b4, ss_c4, ss_d4, ss_e4, ss_a5, ss_b5, ss_c5, ss_d5, ss_e5, ss_a8, ss_b8, ss_c8, ss_d8, ss_e8, ss_a32, ss_b32, ss_c32, ss_d32, ss_e32, ss_a40, ss_b40, ss_c40, ss_d40, ss_e40, ss_a48, ss_b48, ss_c48, ss_d48, ss_e48, ss_a64, ss_b64, ss_c64, ss_d64, ss_e64, ss_m2, ss_m3, ss_m4, ss_m8, ss_p2, ss_p3, ss_p4, ss_p8, ss_48p, ss_in, nI_add, nI_1, nI_clamp, nI_leI, nI_ltI, nI_eq, forall_eq, true_and, and_true, ss_n1le]
        exact ⟨fun z => absurd z hl, fun _ => ⟨fun z => z.elim, fun _ => s49⟩⟩
      · simp (disch := omega) only [wY_look_22, ss_a0, ss_b0, ss_c0, ss_d0, ss_e0, ss_a1, ss_b1, ss_c1, ss_d1, ss_e1, ss_a2, ss_b2, ss_c2, ss_d2, ss_e2, ss_a3, ss_b3, ss_c3, ss_d3, ss_e3, ss_a4, ss_b4, ss_c4, ss_d4, ss_e4, ss_a5, ss_b5, ss_c5, ss_d5, ss_e5, ss_a8, ss_b8, ss_c8, ss_d8, ss_e8, ss_a32, ss_b32, ss_c32, ss_d32, ss_e32, ss_a40, ss_b40, ss_c40, ss_d40, ss_e40, ss_a48, ss_b48, ss_c48, ss_d48, ss_e48, ss_a64, ss_b64, ss_c64, ss_d64, ss_e64, ss_m2, ss_m3, ss_m4, ss_m8, ss_p2, ss_p3, ss_p4, ss_p8, ss_48p, ss_in, nI_add, nI_1, nI_clamp, nI_leI, nI_ltI, nI_eq, forall_eq, true_and, and_true]
        exact ⟨fun z => absurd z hl, fun _ => ⟨fun _ => ⟨hj, s49⟩, fun z => absurd (Nat.zero_le _) z⟩⟩
theorem ss_ylk {post : Int32 → SY → Prop} {t time : Int32} {cq : Int32 → Bool} {chl : List ss_R} (T : ss_Tq t cq chl a_changes a_changed a_change a_gone (ss_ps a_column a_low a_high)) (ht : (t = -1 ∧ time = nI cl) ∨ ∃ j, j < 4 ∧ t = nI j ∧ time = a_start j ∧ ¬ a_open j = 0) (hco : ss_Co a_column) (hnv : nv ≤ 56)
    (h : ∀ sn (sr si : Nat → Int32), ss_ls (fun i => (sr i, ss_tr si i)) sn = ((ss_ls (ss_ve a_vRow a_vFrom a_vTo a_vInt) nv).filter (ss_Q time cq (ss_ps a_column a_low a_high))).map ss_rc ++ chl → post 1 (nI nv, nI cl, f_rows, nI sn, a_vRow, a_vFrom, a_vTo, a_vInt, a_open, a_start, a_changes, a_changed, a_fresh, a_gone, a_change, a_column, a_low, a_high, sr, si, a_kept)) : wpY_look post (nI nv, nI cl, f_rows, f_seen, a_vRow, a_vFrom, a_vTo, a_vInt, a_open, a_start, a_changes, a_changed, a_fresh, a_gone, a_change, a_column, a_low, a_high, a_sRow, a_sInt, a_kept) t := by
  have key : ∃ n22, wY_look_22 post t n22 0 (nI nv) (nI cl) f_rows 0 a_vRow a_vFrom a_vTo a_vInt a_open a_start a_changes a_changed a_fresh a_gone a_change a_column a_low a_high a_sRow a_sInt a_kept := by
    refine ⟨nv + 1, ss_y22 T ?_ hco hnv h (nv + 1) 0 0 a_sRow a_sInt (by omega) (by omega) ?_⟩
    · rcases ht with a | ⟨j, a, b, c, -⟩
      · exact Or.inl a
      · exact Or.inr ⟨j, a, b, c⟩
    · simp [ss_ls]
  rcases ht with ⟨rfl, rfl⟩ | ⟨j, hj, rfl, rfl, ho⟩
  · exact ⟨fun _ => key, fun z => absurd rfl z⟩
  · refine ⟨fun z => absurd z ?_, fun _ => ss_yo1 hj ho ⟨fun z => absurd z (by decide), fun _ => key⟩⟩
    rw [ss_n1e (by omega)]; exact id
theorem ss_ylk0 {post : Int32 → SY → Prop} {t : Int32} (hc : ss_cls a_open t) (hn : ¬ t = -1) (h : post 0 (nI nv, nI cl, f_rows, 0, a_vRow, a_vFrom, a_vTo, a_vInt, a_open, a_start, a_changes, a_changed, a_fresh, a_gone, a_change, a_column, a_low, a_high, a_sRow, a_sInt, a_kept)) : wpY_look post (nI nv, nI cl, f_rows, f_seen, a_vRow, a_vFrom, a_vTo, a_vInt, a_open, a_start, a_changes, a_changed, a_fresh, a_gone, a_change, a_column, a_low, a_high, a_sRow, a_sInt, a_kept) t :=
  ⟨fun z => absurd z hn, fun _ => ss_yo0 hc ⟨fun _ => h, fun z => absurd rfl z⟩⟩
end
end
section
/-! the relation -/
def ss_RR (k : Nat) (sg : Nat) (na : Nat) (N : Nat) (cl : Nat) (rw : Nat) (nv : Nat) (wv : Nat → Int32) (a_row : Nat → Int32) (a_from : Nat → Int32) (a_to : Nat → Int32) (a_held : Nat → Int32) (a_sort : Nat → Int32) (a_bits : Nat → Int32) (a_base : Nat → Int32) (a_least : Nat → Int32) (a_greatest : Nat → Int32) (a_words : Nat → Int64) (a_dictionary : Nat → Int32) (a_dRow : Nat → Int32) (a_dFrom : Nat → Int32) (a_dTo : Nat → Int32) (a_dValue : Nat → Int32) (a_open : Nat → Int32) (a_start : Nat → Int32) (a_changed : Nat → Int32) (a_change : Nat → Int32) (a_changes : Nat → Int32) (a_fresh : Nat → Int32) (a_gone : Nat → Int32) (a_column : Nat → Int32) (a_low : Nat → Int32) (a_high : Nat → Int32) (a_vRow : Nat → Int32) (a_vFrom : Nat → Int32) (a_vTo : Nat → Int32) (a_vInt : Nat → Int32) : Prop :=
  cl ≤ k ∧ rw ≤ k ∧ ss_Seg sg N a_held a_row ∧ ss_Cols sg N a_sort a_bits a_base a_least a_greatest a_words a_dictionary wv ∧ na ≤ 32 ∧ nv ≤ 48 ∧ ss_Co a_column ∧
  ss_Wf cl rw (ss_ls (ss_ve a_row a_from a_to wv) N ++ ss_ls (ss_ve a_dRow a_dFrom a_dTo a_dValue) na) ∧ ss_Wf cl rw (ss_ls (ss_ve a_vRow a_vFrom a_vTo a_vInt) nv) ∧
  ss_Tb cl rw a_open a_start a_changes a_changed a_fresh ∧
  ss_Tl a_open a_start a_changes a_changed a_fresh (ss_ls (ss_ve a_row a_from a_to wv) N ++ ss_ls (ss_ve a_dRow a_dFrom a_dTo a_dValue) na) ∧ ss_Tl a_open a_start a_changes a_changed a_fresh (ss_ls (ss_ve a_vRow a_vFrom a_vTo a_vInt) nv) ∧
  List.Perm ((ss_ls (ss_ve a_row a_from a_to wv) N ++ ss_ls (ss_ve a_dRow a_dFrom a_dTo a_dValue) na).filter (ss_lv (nI cl) a_open a_start (-1))) ((ss_ls (ss_ve a_vRow a_vFrom a_vTo a_vInt) nv).filter (ss_lv (nI cl) a_open a_start (-1))) ∧
  (ss_ls (ss_ve a_row a_from a_to wv) N ++ ss_ls (ss_ve a_dRow a_dFrom a_dTo a_dValue) na).countP (ss_lv (nI cl) a_open a_start (-1)) ≤ 40
/-- the relation at the head of a turn whose first cell is k -/
def i_Rel (k : Nat) (u : SX) (v : SY) : Prop := ∃ sg : Nat, ∃ na : Nat, ∃ N : Nat, ∃ cl : Nat, ∃ rw : Nat, ∃ nv : Nat, ∃ wv : Nat → Int32, ∃ f_kept : Int32, ∃ f_many : Int32, ∃ f_seen : Int32, ∃ a_row : Nat → Int32, ∃ a_from : Nat → Int32, ∃ a_to : Nat → Int32, ∃ a_held : Nat → Int32, ∃ a_sort : Nat → Int32, ∃ a_bits : Nat → Int32, ∃ a_base : Nat → Int32, ∃ a_least : Nat → Int32, ∃ a_greatest : Nat → Int32, ∃ a_words : Nat → Int64, ∃ a_dictionary : Nat → Int32, ∃ a_dRow : Nat → Int32, ∃ a_dFrom : Nat → Int32, ∃ a_dTo : Nat → Int32, ∃ a_dValue : Nat → Int32, ∃ a_wRow : Nat → Int32, ∃ a_wFrom : Nat → Int32, ∃ a_wTo : Nat → Int32, ∃ a_wValue : Nat → Int32, ∃ a_open : Nat → Int32, ∃ a_start : Nat → Int32, ∃ a_changed : Nat → Int32, ∃ a_change : Nat → Int32, ∃ a_changes : Nat → Int32, ∃ a_fresh : Nat → Int32, ∃ a_gone : Nat → Int32, ∃ a_column : Nat → Int32, ∃ a_low : Nat → Int32, ∃ a_high : Nat → Int32, ∃ a_found : Nat → Int32, ∃ a_value : Nat → Int32, ∃ a_vRow : Nat → Int32, ∃ a_vFrom : Nat → Int32, ∃ a_vTo : Nat → Int32, ∃ a_vInt : Nat → Int32, ∃ a_sRow : Nat → Int32, ∃ a_sInt : Nat → Int32, ∃ a_kept : Nat → Int32, u = (nI sg, nI na, f_kept, nI cl, nI rw, f_many, a_row, a_from, a_to, a_held, a_sort, a_bits, a_base, a_least, a_greatest, a_words, a_dictionary, a_dRow, a_dFrom, a_dTo, a_dValue, a_wRow, a_wFrom, a_wTo, a_wValue, a_open, a_start, a_changed, a_change, a_changes, a_fresh, a_gone, a_column, a_low, a_high, a_found, a_value) ∧ v = (nI nv, nI cl, nI rw, f_seen, a_vRow, a_vFrom, a_vTo, a_vInt, a_open, a_start, a_changes, a_changed, a_fresh, a_gone, a_change, a_column, a_low, a_high, a_sRow, a_sInt, a_kept) ∧ ss_RR k sg na N cl rw nv wv a_row a_from a_to a_held a_sort a_bits a_base a_least a_greatest a_words a_dictionary a_dRow a_dFrom a_dTo a_dValue a_open a_start a_changed a_change a_changes a_fresh a_gone a_column a_low a_high a_vRow a_vFrom a_vTo a_vInt
theorem ss_ri {k : Nat} (sg : Nat) (na : Nat) (N : Nat) (cl : Nat) (rw : Nat) (nv : Nat) (wv : Nat → Int32) (f_kept : Int32) (f_many : Int32) (f_seen : Int32) (a_row : Nat → Int32) (a_from : Nat → Int32) (a_to : Nat → Int32) (a_held : Nat → Int32) (a_sort : Nat → Int32) (a_bits : Nat → Int32) (a_base : Nat → Int32) (a_least : Nat → Int32) (a_greatest : Nat → Int32) (a_words : Nat → Int64) (a_dictionary : Nat → Int32) (a_dRow : Nat → Int32) (a_dFrom : Nat → Int32) (a_dTo : Nat → Int32) (a_dValue : Nat → Int32) (a_wRow : Nat → Int32) (a_wFrom : Nat → Int32) (a_wTo : Nat → Int32) (a_wValue : Nat → Int32) (a_open : Nat → Int32) (a_start : Nat → Int32) (a_changed : Nat → Int32) (a_change : Nat → Int32) (a_changes : Nat → Int32) (a_fresh : Nat → Int32) (a_gone : Nat → Int32) (a_column : Nat → Int32) (a_low : Nat → Int32) (a_high : Nat → Int32) (a_found : Nat → Int32) (a_value : Nat → Int32) (a_vRow : Nat → Int32) (a_vFrom : Nat → Int32) (a_vTo : Nat → Int32) (a_vInt : Nat → Int32) (a_sRow : Nat → Int32) (a_sInt : Nat → Int32) (a_kept : Nat → Int32) (R : ss_RR k sg na N cl rw nv wv a_row a_from a_to a_held a_sort a_bits a_base a_least a_greatest a_words a_dictionary a_dRow a_dFrom a_dTo a_dValue a_open a_start a_changed a_change a_changes a_fresh a_gone a_column a_low a_high a_vRow a_vFrom a_vTo a_vInt) : i_Rel k (nI sg, nI na, f_kept, nI cl, nI rw, f_many, a_row, a_from, a_to, a_held, a_sort, a_bits, a_base, a_least, a_greatest, a_words, a_dictionary, a_dRow, a_dFrom, a_dTo, a_dValue, a_wRow, a_wFrom, a_wTo, a_wValue, a_open, a_start, a_changed, a_change, a_changes, a_fresh, a_gone, a_column, a_low, a_high, a_found, a_value) (nI nv, nI cl, nI rw, f_seen, a_vRow, a_vFrom, a_vTo, a_vInt, a_open, a_start, a_changes, a_changed, a_fresh, a_gone, a_change, a_column, a_low, a_high, a_sRow, a_sInt, a_kept) := ⟨sg, na, N, cl, rw, nv, wv, f_kept, f_many, f_seen, a_row, a_from, a_to, a_held, a_sort, a_bits, a_base, a_least, a_greatest, a_words, a_dictionary, a_dRow, a_dFrom, a_dTo, a_dValue, a_wRow, a_wFrom, a_wTo, a_wValue, a_open, a_start, a_changed, a_change, a_changes, a_fresh, a_gone, a_column, a_low, a_high, a_found, a_value, a_vRow, a_vFrom, a_vTo, a_vInt, a_sRow, a_sInt, a_kept, rfl, rfl, R⟩
theorem ss_rj {k : Nat} {sg : Nat} {na : Nat} {N : Nat} {cl : Nat} {rw : Nat} {nv : Nat} {wv : Nat → Int32} {f_kept : Int32} {f_many : Int32} {f_seen : Int32} {a_row : Nat → Int32} {a_from : Nat → Int32} {a_to : Nat → Int32} {a_held : Nat → Int32} {a_sort : Nat → Int32} {a_bits : Nat → Int32} {a_base : Nat → Int32} {a_least : Nat → Int32} {a_greatest : Nat → Int32} {a_words : Nat → Int64} {a_dictionary : Nat → Int32} {a_dRow : Nat → Int32} {a_dFrom : Nat → Int32} {a_dTo : Nat → Int32} {a_dValue : Nat → Int32} {a_wRow : Nat → Int32} {a_wFrom : Nat → Int32} {a_wTo : Nat → Int32} {a_wValue : Nat → Int32} {a_open : Nat → Int32} {a_start : Nat → Int32} {a_changed : Nat → Int32} {a_change : Nat → Int32} {a_changes : Nat → Int32} {a_fresh : Nat → Int32} {a_gone : Nat → Int32} {a_column : Nat → Int32} {a_low : Nat → Int32} {a_high : Nat → Int32} {a_found : Nat → Int32} {a_value : Nat → Int32} {a_vRow : Nat → Int32} {a_vFrom : Nat → Int32} {a_vTo : Nat → Int32} {a_vInt : Nat → Int32} {a_sRow : Nat → Int32} {a_sInt : Nat → Int32} {a_kept : Nat → Int32} (R : ss_RR k sg na N cl rw nv wv a_row a_from a_to a_held a_sort a_bits a_base a_least a_greatest a_words a_dictionary a_dRow a_dFrom a_dTo a_dValue a_open a_start a_changed a_change a_changes a_fresh a_gone a_column a_low a_high a_vRow a_vFrom a_vTo a_vInt) : i_Rel k (nI sg, nI na, f_kept, nI cl, nI rw, f_many, a_row, a_from, a_to, a_held, a_sort, a_bits, a_base, a_least, a_greatest, a_words, a_dictionary, a_dRow, a_dFrom, a_dTo, a_dValue, a_wRow, a_wFrom, a_wTo, a_wValue, a_open, a_start, a_changed, a_change, a_changes, a_fresh, a_gone, a_column, a_low, a_high, a_found, a_value) (nI nv, nI cl, nI rw, f_seen, a_vRow, a_vFrom, a_vTo, a_vInt, a_open, a_start, a_changes, a_changed, a_fresh, a_gone, a_change, a_column, a_low, a_high, a_sRow, a_sInt, a_kept) := ss_ri sg na N cl rw nv wv f_kept f_many f_seen a_row a_from a_to a_held a_sort a_bits a_base a_least a_greatest a_words a_dictionary a_dRow a_dFrom a_dTo a_dValue a_wRow a_wFrom a_wTo a_wValue a_open a_start a_changed a_change a_changes a_fresh a_gone a_column a_low a_high a_found a_value a_vRow a_vFrom a_vTo a_vInt a_sRow a_sInt a_kept R
theorem ss_re {k : Nat} {u : SX} {v : SY} {P : SX → SY → Prop} (H : ∀ (sg : Nat) (na : Nat) (N : Nat) (cl : Nat) (rw : Nat) (nv : Nat) (wv : Nat → Int32) (f_kept : Int32) (f_many : Int32) (f_seen : Int32) (a_row : Nat → Int32) (a_from : Nat → Int32) (a_to : Nat → Int32) (a_held : Nat → Int32) (a_sort : Nat → Int32) (a_bits : Nat → Int32) (a_base : Nat → Int32) (a_least : Nat → Int32) (a_greatest : Nat → Int32) (a_words : Nat → Int64) (a_dictionary : Nat → Int32) (a_dRow : Nat → Int32) (a_dFrom : Nat → Int32) (a_dTo : Nat → Int32) (a_dValue : Nat → Int32) (a_wRow : Nat → Int32) (a_wFrom : Nat → Int32) (a_wTo : Nat → Int32) (a_wValue : Nat → Int32) (a_open : Nat → Int32) (a_start : Nat → Int32) (a_changed : Nat → Int32) (a_change : Nat → Int32) (a_changes : Nat → Int32) (a_fresh : Nat → Int32) (a_gone : Nat → Int32) (a_column : Nat → Int32) (a_low : Nat → Int32) (a_high : Nat → Int32) (a_found : Nat → Int32) (a_value : Nat → Int32) (a_vRow : Nat → Int32) (a_vFrom : Nat → Int32) (a_vTo : Nat → Int32) (a_vInt : Nat → Int32) (a_sRow : Nat → Int32) (a_sInt : Nat → Int32) (a_kept : Nat → Int32), ss_RR k sg na N cl rw nv wv a_row a_from a_to a_held a_sort a_bits a_base a_least a_greatest a_words a_dictionary a_dRow a_dFrom a_dTo a_dValue a_open a_start a_changed a_change a_changes a_fresh a_gone a_column a_low a_high a_vRow a_vFrom a_vTo a_vInt → P (nI sg, nI na, f_kept, nI cl, nI rw, f_many, a_row, a_from, a_to, a_held, a_sort, a_bits, a_base, a_least, a_greatest, a_words, a_dictionary, a_dRow, a_dFrom, a_dTo, a_dValue, a_wRow, a_wFrom, a_wTo, a_wValue, a_open, a_start, a_changed, a_change, a_changes, a_fresh, a_gone, a_column, a_low, a_high, a_found, a_value) (nI nv, nI cl, nI rw, f_seen, a_vRow, a_vFrom, a_vTo, a_vInt, a_open, a_start, a_changes, a_changed, a_fresh, a_gone, a_change, a_column, a_low, a_high, a_sRow, a_sInt, a_kept)) (I : i_Rel k u v) : P u v :=
  I.elim fun sg I => I.elim fun na I => I.elim fun N I => I.elim fun cl I => I.elim fun rw I => I.elim fun nv I => I.elim fun wv I => I.elim fun f_kept I => I.elim fun f_many I => I.elim fun f_seen I => I.elim fun a_row I => I.elim fun a_from I => I.elim fun a_to I => I.elim fun a_held I => I.elim fun a_sort I => I.elim fun a_bits I => I.elim fun a_base I => I.elim fun a_least I => I.elim fun a_greatest I => I.elim fun a_words I => I.elim fun a_dictionary I => I.elim fun a_dRow I => I.elim fun a_dFrom I => I.elim fun a_dTo I => I.elim fun a_dValue I => I.elim fun a_wRow I => I.elim fun a_wFrom I => I.elim fun a_wTo I => I.elim fun a_wValue I => I.elim fun a_open I => I.elim fun a_start I => I.elim fun a_changed I => I.elim fun a_change I => I.elim fun a_changes I => I.elim fun a_fresh I => I.elim fun a_gone I => I.elim fun a_column I => I.elim fun a_low I => I.elim fun a_high I => I.elim fun a_found I => I.elim fun a_value I => I.elim fun a_vRow I => I.elim fun a_vFrom I => I.elim fun a_vTo I => I.elim fun a_vInt I => I.elim fun a_sRow I => I.elim fun a_sInt I => I.elim fun a_kept I =>  by
    rw [I.1, I.2.1]
    exact H sg na N cl rw nv wv f_kept f_many f_seen a_row a_from a_to a_held a_sort a_bits a_base a_least a_greatest a_words a_dictionary a_dRow a_dFrom a_dTo a_dValue a_wRow a_wFrom a_wTo a_wValue a_open a_start a_changed a_change a_changes a_fresh a_gone a_column a_low a_high a_found a_value a_vRow a_vFrom a_vTo a_vInt a_sRow a_sInt a_kept I.2.2
theorem ss_rup {k k' : Nat} (sg : Nat) (na : Nat) (N : Nat) (cl : Nat) (rw : Nat) (nv : Nat) (wv : Nat → Int32) (f_kept : Int32) (f_many : Int32) (f_seen : Int32) (a_row : Nat → Int32) (a_from : Nat → Int32) (a_to : Nat → Int32) (a_held : Nat → Int32) (a_sort : Nat → Int32) (a_bits : Nat → Int32) (a_base : Nat → Int32) (a_least : Nat → Int32) (a_greatest : Nat → Int32) (a_words : Nat → Int64) (a_dictionary : Nat → Int32) (a_dRow : Nat → Int32) (a_dFrom : Nat → Int32) (a_dTo : Nat → Int32) (a_dValue : Nat → Int32) (a_wRow : Nat → Int32) (a_wFrom : Nat → Int32) (a_wTo : Nat → Int32) (a_wValue : Nat → Int32) (a_open : Nat → Int32) (a_start : Nat → Int32) (a_changed : Nat → Int32) (a_change : Nat → Int32) (a_changes : Nat → Int32) (a_fresh : Nat → Int32) (a_gone : Nat → Int32) (a_column : Nat → Int32) (a_low : Nat → Int32) (a_high : Nat → Int32) (a_found : Nat → Int32) (a_value : Nat → Int32) (a_vRow : Nat → Int32) (a_vFrom : Nat → Int32) (a_vTo : Nat → Int32) (a_vInt : Nat → Int32) (a_sRow : Nat → Int32) (a_sInt : Nat → Int32) (a_kept : Nat → Int32) (h : k ≤ k') (R : ss_RR k sg na N cl rw nv wv a_row a_from a_to a_held a_sort a_bits a_base a_least a_greatest a_words a_dictionary a_dRow a_dFrom a_dTo a_dValue a_open a_start a_changed a_change a_changes a_fresh a_gone a_column a_low a_high a_vRow a_vFrom a_vTo a_vInt) : ss_RR k' sg na N cl rw nv wv a_row a_from a_to a_held a_sort a_bits a_base a_least a_greatest a_words a_dictionary a_dRow a_dFrom a_dTo a_dValue a_open a_start a_changed a_change a_changes a_fresh a_gone a_column a_low a_high a_vRow a_vFrom a_vTo a_vInt := by
  obtain ⟨h1, h2, h3⟩ := R
  exact ⟨by omega, by omega, h3⟩
theorem i_up {k : Nat} {u : SX} {v : SY} (h : i_Rel k u v) : i_Rel (k + 6) u v := by
  refine ss_re (P := fun u v => i_Rel (k + 6) u v) ?_ h
  intro sg na N cl rw nv wv f_kept f_many f_seen a_row a_from a_to a_held a_sort a_bits a_base a_least a_greatest a_words a_dictionary a_dRow a_dFrom a_dTo a_dValue a_wRow a_wFrom a_wTo a_wValue a_open a_start a_changed a_change a_changes a_fresh a_gone a_column a_low a_high a_found a_value a_vRow a_vFrom a_vTo a_vInt a_sRow a_sInt a_kept R
  exact ss_ri sg na N cl rw nv wv f_kept f_many f_seen a_row a_from a_to a_held a_sort a_bits a_base a_least a_greatest a_words a_dictionary a_dRow a_dFrom a_dTo a_dValue a_wRow a_wFrom a_wTo a_wValue a_open a_start a_changed a_change a_changes a_fresh a_gone a_column a_low a_high a_found a_value a_vRow a_vFrom a_vTo a_vInt a_sRow a_sInt a_kept (ss_rup sg na N cl rw nv wv f_kept f_many f_seen a_row a_from a_to a_held a_sort a_bits a_base a_least a_greatest a_words a_dictionary a_dRow a_dFrom a_dTo a_dValue a_wRow a_wFrom a_wTo a_wValue a_open a_start a_changed a_change a_changes a_fresh a_gone a_column a_low a_high a_found a_value a_vRow a_vFrom a_vTo a_vInt a_sRow a_sInt a_kept (by omega) R)
theorem ss_bm1 : vp_nar .byte (-1) = -1 := by rw [vp_nar_byte]; decide
theorem i_vc0 : wpX_init (fun u => wpY_init (fun v => i_Rel 0 u v)) := by
  unfold wpX_init wpY_init
  simp only [forall_eq, ss_bm1]
  refine ss_ri 0 0 0 0 0 0 (fun _ => 0) 0 0 0 _ _ _ _ _ _ _ _ _ _ _ _ _ _ _ _ _ _ _ _ _ _ _ _ _ _ _ _ _ _ _ _ _ _ _ _ _ _ ?_
  refine ⟨Nat.le_refl _, Nat.le_refl _, ⟨by omega, by omega, by omega, fun g hg => by omega, fun i j _ hj => by omega⟩, fun g c hg => by omega, by omega, by omega, fun k hk => Or.inl ?_, ⟨fun x hx => ?_, ?_⟩, ⟨fun x hx => ?_, ?_⟩, fun t ht ho => absurd rfl ho, fun t c ht ho => absurd rfl ho, fun t c ht ho => absurd rfl ho, ?_, ?_⟩
  · rcases (by omega : k = 0 ∨ k = 1) with rfl | rfl
    · rw [pk_un (by omega), pk_us]
    · rw [pk_us]
  · simp [ss_ls] at hx
  · simp [ss_ls]
  · simp [ss_ls] at hx
  · simp [ss_ls]
  · simp [ss_ls]
  · simp [ss_ls]
end
section
section
variable {f_segments f_added f_kept f_clock f_rows f_many : Int32} {a_row a_from a_to a_held a_sort a_bits a_base a_least a_greatest a_dictionary a_dRow a_dFrom a_dTo a_dValue a_wRow a_wFrom a_wTo a_wValue a_open a_start a_changed a_change a_changes a_fresh a_gone a_column a_low a_high a_found a_value : Nat → Int32} {a_words : Nat → Int64}
variable {f_versions f_seen : Int32} {a_vRow a_vFrom a_vTo a_vInt a_sRow a_sInt a_kept : Nat → Int32}
variable {sg na cl rw nv : Nat}
theorem ss_xbg {post : Int32 → SX → Prop} (h : ∀ j, j < 4 → a_open j = 0 → (∀ i, i < j → ¬ a_open i = 0) → post (nI j) (nI sg, nI na, f_kept, nI cl, nI rw, f_many, a_row, a_from, a_to, a_held, a_sort, a_bits, a_base, a_least, a_greatest, a_words, a_dictionary, a_dRow, a_dFrom, a_dTo, a_dValue, a_wRow, a_wFrom, a_wTo, a_wValue, upd a_open j 1, upd a_start j (nI cl), a_changed, a_change, upd a_changes j 0, a_fresh, a_gone, a_column, a_low, a_high, a_found, a_value))
    (hn : (∀ j, j < 4 → ¬ a_open j = 0) → post (-1) (nI sg, nI na, f_kept, nI cl, nI rw, f_many, a_row, a_from, a_to, a_held, a_sort, a_bits, a_base, a_least, a_greatest, a_words, a_dictionary, a_dRow, a_dFrom, a_dTo, a_dValue, a_wRow, a_wFrom, a_wTo, a_wValue, a_open, a_start, a_changed, a_change, a_changes, a_fresh, a_gone, a_column, a_low, a_high, a_found, a_value)) : wpX_begin post (nI sg, nI na, f_kept, nI cl, nI rw, f_many, a_row, a_from, a_to, a_held, a_sort, a_bits, a_base, a_least, a_greatest, a_words, a_dictionary, a_dRow, a_dFrom, a_dTo, a_dValue, a_wRow, a_wFrom, a_wTo, a_wValue, a_open, a_start, a_changed, a_change, a_changes, a_fresh, a_gone, a_column, a_low, a_high, a_found, a_value) := by
  have key : ∀ f i, i ≤ 4 → 4 < f + i → (∀ j, j < i → ¬ a_open j = 0) → wX_begin_2 post (nI sg) (nI na) f_kept (nI cl) (nI rw) f_many a_row a_from a_to a_held a_sort a_bits a_base a_least a_greatest a_words a_dictionary a_dRow a_dFrom a_dTo a_dValue a_wRow a_wFrom a_wTo a_wValue a_open a_start a_changed a_change a_changes a_fresh a_gone a_column a_low a_high a_found a_value f (nI i) := by
    intro f
    induction f with
    | zero => intro i h1 h2; omega
    | succ f ih =>
      intro i hi hf hno
      simp (disch := omega) only [wX_begin_2, ss_a0, ss_b0, ss_c0, ss_d0, ss_e0, ss_a1, ss_b1, ss_c1, ss_d1, ss_e1, ss_a2, ss_b2, ss_c2, ss_d2, ss_e2, ss_a3, ss_b3, ss_c3, ss_d3, ss_e3, ss_a4, ss_b4, ss_c4, ss_d4, ss_e4, ss_a5, ss_b5, ss_c5, ss_d5, ss_e5, ss_a8, ss_b8, ss_c8, ss_d8, ss_e8, ss_a32, ss_b32, ss_c32, ss_d32, ss_e32, ss_a40, ss_b40, ss_c40, ss_d40, ss_e40, ss_a48, ss_b48, ss_c48, ss_d48, ss_e48, ss_a64, ss_b64, ss_c64, ss_d64, ss_e64, ss_m2, ss_m3, ss_m4, ss_m8, ss_p2, ss_p3, ss_p4, ss_p8, ss_48p, ss_in, nI_add, nI_1, nI_clamp, nI_leI, nI_ltI, nI_eq, forall_eq, true_and, and_true, ss_nb1, ss_nar0]
      refine ⟨fun z => hn fun j hj => hno j (by omega), fun z => ⟨by omega, fun h0 => ⟨by omega, by omega, by omega, h i (by omega) h0 hno⟩, fun h0 => ih (i + 1) (by omega) (by omega) fun j hj => ?_⟩⟩
      rcases (by omega : j < i ∨ j = i) with h' | rfl
      · exact hno j h'
      · exact h0
  exact ⟨5, key 5 0 (by omega) (by omega) (fun j hj => by omega)⟩
theorem ss_ybg {post : Int32 → SY → Prop} (h : ∀ j, j < 4 → a_open j = 0 → (∀ i, i < j → ¬ a_open i = 0) → post (nI j) (nI nv, nI cl, nI rw, f_seen, a_vRow, a_vFrom, a_vTo, a_vInt, upd a_open j 1, upd a_start j (nI cl), upd a_changes j 0, a_changed, a_fresh, a_gone, a_change, a_column, a_low, a_high, a_sRow, a_sInt, a_kept))
    (hn : (∀ j, j < 4 → ¬ a_open j = 0) → post (-1) (nI nv, nI cl, nI rw, f_seen, a_vRow, a_vFrom, a_vTo, a_vInt, a_open, a_start, a_changes, a_changed, a_fresh, a_gone, a_change, a_column, a_low, a_high, a_sRow, a_sInt, a_kept)) : wpY_begin post (nI nv, nI cl, nI rw, f_seen, a_vRow, a_vFrom, a_vTo, a_vInt, a_open, a_start, a_changes, a_changed, a_fresh, a_gone, a_change, a_column, a_low, a_high, a_sRow, a_sInt, a_kept) := by
  have key : ∀ f i, i ≤ 4 → 4 < f + i → (∀ j, j < i → ¬ a_open j = 0) → wY_begin_2 post (nI nv) (nI cl) (nI rw) f_seen a_vRow a_vFrom a_vTo a_vInt a_open a_start a_changes a_changed a_fresh a_gone a_change a_column a_low a_high a_sRow a_sInt a_kept f (nI i) := by
    intro f
    induction f with
    | zero => intro i h1 h2; omega
    | succ f ih =>
      intro i hi hf hno
      simp (disch := omega) only [wY_begin_2, ss_a0, ss_b0, ss_c0, ss_d0, ss_e0, ss_a1, ss_b1, ss_c1, ss_d1, ss_e1, ss_a2, ss_b2, ss_c2, ss_d2, ss_e2, ss_a3, ss_b3, ss_c3, ss_d3, ss_e3, ss_a4, ss_b4, ss_c4, ss_d4, ss_e4, ss_a5, ss_b5, ss_c5, ss_d5, ss_e5, ss_a8, ss_b8, ss_c8, ss_d8, ss_e8, ss_a32, ss_b32, ss_c32, ss_d32, ss_e32, ss_a40, ss_b40, ss_c40, ss_d40, ss_e40, ss_a48, ss_b48, ss_c48, ss_d48, ss_e48, ss_a64, ss_b64, ss_c64, ss_d64, ss_e64, ss_m2, ss_m3, ss_m4, ss_m8, ss_p2, ss_p3, ss_p4, ss_p8, ss_48p, ss_in, nI_add, nI_1, nI_clamp, nI_leI, nI_ltI, nI_eq, forall_eq, true_and, and_true, ss_nb1]
      refine ⟨fun z => hn fun j hj => hno j (by omega), fun z => ⟨by omega, fun h0 => ⟨by omega, by omega, by omega, h i (by omega) h0 hno⟩, fun h0 => ih (i + 1) (by omega) (by omega) fun j hj => ?_⟩⟩
      rcases (by omega : j < i ∨ j = i) with h' | rfl
      · exact hno j h'
      · exact h0
  exact ⟨5, key 5 0 (by omega) (by omega) (fun j hj => by omega)⟩
theorem ss_xin {post : Int32 → SX → Prop} {t c : Nat} {a b d : Int32} (ht : t < 4) (ho : ¬ a_open t = 0) (hc : a_changes t = nI c) (hc8 : c ≤ 8) (h8 : c = 8 → post (-3) (nI sg, nI na, f_kept, nI cl, nI rw, f_many, a_row, a_from, a_to, a_held, a_sort, a_bits, a_base, a_least, a_greatest, a_words, a_dictionary, a_dRow, a_dFrom, a_dTo, a_dValue, a_wRow, a_wFrom, a_wTo, a_wValue, a_open, a_start, a_changed, a_change, a_changes, a_fresh, a_gone, a_column, a_low, a_high, a_found, a_value))
    (h : c < 8 → post (nI rw) (nI sg, nI na, f_kept, nI cl, nI (rw + 1), f_many, a_row, a_from, a_to, a_held, a_sort, a_bits, a_base, a_least, a_greatest, a_words, a_dictionary, a_dRow, a_dFrom, a_dTo, a_dValue, a_wRow, a_wFrom, a_wTo, a_wValue, a_open, a_start, upd a_changed (8 * t + c) (nI rw), upd (upd (upd a_change (3 * (8 * t + c)) a) (3 * (8 * t + c) + 1) b) (3 * (8 * t + c) + 2) d, upd a_changes t (nI (c + 1)), upd a_fresh (8 * t + c) 1, upd a_gone (8 * t + c) 0, a_column, a_low, a_high, a_found, a_value)) : wpX_insert post (nI sg, nI na, f_kept, nI cl, nI rw, f_many, a_row, a_from, a_to, a_held, a_sort, a_bits, a_base, a_least, a_greatest, a_words, a_dictionary, a_dRow, a_dFrom, a_dTo, a_dValue, a_wRow, a_wFrom, a_wTo, a_wValue, a_open, a_start, a_changed, a_change, a_changes, a_fresh, a_gone, a_column, a_low, a_high, a_found, a_value) (nI t) a b d := by
  unfold wpX_insert
  refine ss_xo1 ht ho ⟨fun z => absurd z (by decide), fun _ => ?_⟩
  by_cases e8 : c = 8
  · simp (disch := omega) only [ss_a0, ss_b0, ss_c0, ss_d0, ss_e0, ss_a1, ss_b1, ss_c1, ss_d1, ss_e1, ss_a2, ss_b2, ss_c2, ss_d2, ss_e2, ss_a3, ss_b3, ss_c3, ss_d3, ss_e3, ss_a4, ss_b4, ss_c4, ss_d4, ss_e4, ss_a5, ss_b5, ss_c5, ss_d5, ss_e5, ss_a8, ss_b8, ss_c8, ss_d8, ss_e8, ss_a32, ss_b32, ss_c32, ss_d32, ss_e32, ss_a40, ss_b40, ss_c40, ss_d40, ss_e40, ss_a48, ss_b48, ss_c48, ss_d48, ss_e48, ss_a64, ss_b64, ss_c64, ss_d64, ss_e64, ss_m2, ss_m3, ss_m4, ss_m8, ss_p2, ss_p3, ss_p4, ss_p8, ss_48p, ss_in, nI_add, nI_1, nI_clamp, nI_leI, nI_ltI, nI_eq, forall_eq, true_and, and_true, hc]
    exact ⟨ht, fun _ => h8 e8, fun z => absurd e8 z⟩
  · have eb := ss_by8 (c + 1) (by omega)
    simp (disch := omega) only [ss_a0, ss_b0, ss_c0, ss_d0, ss_e0, ss_a1, ss_b1, ss_c1, ss_d1, ss_e1, ss_a2, ss_b2, ss_c2, ss_d2, ss_e2, ss_a3, ss_b3, ss_c3, ss_d3, ss_e3, ss_a4, ss_b4, ss_c4, ss_d4, ss_e4, ss_a5, ss_b5, ss_c5, ss_d5, ss_e5, ss_a8, ss_b8, ss_c8, ss_d8, ss_e8, ss_a32, ss_b32, ss_c32, ss_d32, ss_e32, ss_a40, ss_b40, ss_c40, ss_d40, ss_e40, ss_a48, ss_b48, ss_c48, ss_d48, ss_e48, ss_a64, ss_b64, ss_c64, ss_d64, ss_e64, ss_m2, ss_m3, ss_m4, ss_m8, ss_p2, ss_p3, ss_p4, ss_p8, ss_48p, ss_in, nI_add, nI_1, nI_clamp, nI_leI, nI_ltI, nI_eq, forall_eq, true_and, and_true, hc, eb, ss_nb0, ss_nb1]
    exact ⟨ht, fun z => absurd z e8, fun _ => ⟨ht, ht, by omega, by omega, by omega, by omega, by omega, by omega, h (by omega)⟩⟩
theorem ss_yin {post : Int32 → SY → Prop} {t c : Nat} {a b d : Int32} (ht : t < 4) (ho : ¬ a_open t = 0) (hc : a_changes t = nI c) (hc8 : c ≤ 8) (h8 : c = 8 → post (-3) (nI nv, nI cl, nI rw, f_seen, a_vRow, a_vFrom, a_vTo, a_vInt, a_open, a_start, a_changes, a_changed, a_fresh, a_gone, a_change, a_column, a_low, a_high, a_sRow, a_sInt, a_kept))
    (h : c < 8 → post (nI rw) (nI nv, nI cl, nI (rw + 1), f_seen, a_vRow, a_vFrom, a_vTo, a_vInt, a_open, a_start, upd a_changes t (nI (c + 1)), upd a_changed (8 * t + c) (nI rw), upd a_fresh (8 * t + c) 1, upd a_gone (8 * t + c) 0, upd (upd (upd a_change (3 * (8 * t + c)) a) (3 * (8 * t + c) + 1) b) (3 * (8 * t + c) + 2) d, a_column, a_low, a_high, a_sRow, a_sInt, a_kept)) : wpY_insert post (nI nv, nI cl, nI rw, f_seen, a_vRow, a_vFrom, a_vTo, a_vInt, a_open, a_start, a_changes, a_changed, a_fresh, a_gone, a_change, a_column, a_low, a_high, a_sRow, a_sInt, a_kept) (nI t) a b d := by
  unfold wpY_insert
  refine ss_yo1 ht ho ⟨fun z => absurd z (by decide), fun _ => ?_⟩
  by_cases e8 : c = 8
  · simp (disch := omega) only [ss_a0, ss_b0, ss_c0, ss_d0, ss_e0, ss_a1, ss_b1, ss_c1, ss_d1, ss_e1, ss_a2, ss_b2, ss_c2, ss_d2, ss_e2, ss_a3, ss_b3, ss_c3, ss_d3, ss_e3, ss_a4, ss_b4, ss_c4, ss_d4, ss_e4, ss_a5, ss_b5, ss_c5, ss_d5, ss_e5, ss_a8, ss_b8, ss_c8, ss_d8, ss_e8, ss_a32, ss_b32, ss_c32, ss_d32, ss_e32, ss_a40, ss_b40, ss_c40, ss_d40, ss_e40, ss_a48, ss_b48, ss_c48, ss_d48, ss_e48, ss_a64, ss_b64, ss_c64, ss_d64, ss_e64, ss_m2, ss_m3, ss_m4, ss_m8, ss_p2, ss_p3, ss_p4, ss_p8, ss_48p, ss_in, nI_add, nI_1, nI_clamp, nI_leI, nI_ltI, nI_eq, forall_eq, true_and, and_true, hc]
    exact ⟨ht, fun _ => h8 e8, fun z => absurd e8 z⟩
  · simp (disch := omega) only [ss_a0, ss_b0, ss_c0, ss_d0, ss_e0, ss_a1, ss_b1, ss_c1, ss_d1, ss_e1, ss_a2, ss_b2, ss_c2, ss_d2, ss_e2, ss_a3, ss_b3, ss_c3, ss_d3, ss_e3, ss_a4, ss_b4, ss_c4, ss_d4, ss_e4, ss_a5, ss_b5, ss_c5, ss_d5, ss_e5, ss_a8, ss_b8, ss_c8, ss_d8, ss_e8, ss_a32, ss_b32, ss_c32, ss_d32, ss_e32, ss_a40, ss_b40, ss_c40, ss_d40, ss_e40, ss_a48, ss_b48, ss_c48, ss_d48, ss_e48, ss_a64, ss_b64, ss_c64, ss_d64, ss_e64, ss_m2, ss_m3, ss_m4, ss_m8, ss_p2, ss_p3, ss_p4, ss_p8, ss_48p, ss_in, nI_add, nI_1, nI_clamp, nI_leI, nI_ltI, nI_eq, forall_eq, true_and, and_true, hc, ss_nb0, ss_nb1]
    exact ⟨ht, fun z => absurd z e8, fun _ => ⟨ht, ht, by omega, by omega, by omega, by omega, by omega, by omega, h (by omega)⟩⟩
end
theorem ss_rbg {k j : Nat} (sg : Nat) (na : Nat) (N : Nat) (cl : Nat) (rw : Nat) (nv : Nat) (wv : Nat → Int32) (f_kept : Int32) (f_many : Int32) (f_seen : Int32) (a_row : Nat → Int32) (a_from : Nat → Int32) (a_to : Nat → Int32) (a_held : Nat → Int32) (a_sort : Nat → Int32) (a_bits : Nat → Int32) (a_base : Nat → Int32) (a_least : Nat → Int32) (a_greatest : Nat → Int32) (a_words : Nat → Int64) (a_dictionary : Nat → Int32) (a_dRow : Nat → Int32) (a_dFrom : Nat → Int32) (a_dTo : Nat → Int32) (a_dValue : Nat → Int32) (a_wRow : Nat → Int32) (a_wFrom : Nat → Int32) (a_wTo : Nat → Int32) (a_wValue : Nat → Int32) (a_open : Nat → Int32) (a_start : Nat → Int32) (a_changed : Nat → Int32) (a_change : Nat → Int32) (a_changes : Nat → Int32) (a_fresh : Nat → Int32) (a_gone : Nat → Int32) (a_column : Nat → Int32) (a_low : Nat → Int32) (a_high : Nat → Int32) (a_found : Nat → Int32) (a_value : Nat → Int32) (a_vRow : Nat → Int32) (a_vFrom : Nat → Int32) (a_vTo : Nat → Int32) (a_vInt : Nat → Int32) (a_sRow : Nat → Int32) (a_sInt : Nat → Int32) (a_kept : Nat → Int32) (hj : j < 4) (h0 : a_open j = 0) (R : ss_RR k sg na N cl rw nv wv a_row a_from a_to a_held a_sort a_bits a_base a_least a_greatest a_words a_dictionary a_dRow a_dFrom a_dTo a_dValue a_open a_start a_changed a_change a_changes a_fresh a_gone a_column a_low a_high a_vRow a_vFrom a_vTo a_vInt) : ss_RR (k + 6) sg na N cl rw nv wv a_row a_from a_to a_held a_sort a_bits a_base a_least a_greatest a_words a_dictionary a_dRow a_dFrom a_dTo a_dValue (upd a_open j 1) (upd a_start j (nI cl)) a_changed a_change (upd a_changes j 0) a_fresh a_gone a_column a_low a_high a_vRow a_vFrom a_vTo a_vInt := by
  obtain ⟨r1, r2, r3, r4, r5, r6, r7, r8, r9, r10, r11, r12, r13, r14⟩ := R
  have e : ss_lv (nI cl) (upd a_open j 1) (upd a_start j (nI cl)) (-1) = ss_lv (nI cl) a_open a_start (-1) := funext fun x => ss_G3v hj h0
  refine ⟨by omega, by omega, r3, r4, r5, r6, r7, r8, r9, ss_G3b r10, ss_G3l r11, ss_G3l r12, ?_, ?_⟩
  · rw [e]; exact r13
  · rw [e]; exact r14
theorem i_vc_begin {k : Nat} {u : SX} {v : SY} (I : i_Rel k u v) (hk : k + 6 ≤ 3072) : wpX_begin (fun r u' => wpY_begin (fun r' v' => r' = r ∧ i_Rel (k + 6) u' v') v) u := by
  refine ss_re (P := fun u v => wpX_begin (fun r u' => wpY_begin (fun r' v' => r' = r ∧ i_Rel (k + 6) u' v') v) u) ?_ I
  intro sg na N cl rw nv wv f_kept f_many f_seen a_row a_from a_to a_held a_sort a_bits a_base a_least a_greatest a_words a_dictionary a_dRow a_dFrom a_dTo a_dValue a_wRow a_wFrom a_wTo a_wValue a_open a_start a_changed a_change a_changes a_fresh a_gone a_column a_low a_high a_found a_value a_vRow a_vFrom a_vTo a_vInt a_sRow a_sInt a_kept R
  refine ss_xbg (fun j hj h0 hno => ss_ybg (fun j' hj' h0' hno' => ?_) (fun hn => absurd h0 (hn j hj))) (fun hn => ss_ybg (fun j hj h0 _ => absurd h0 (hn j hj)) (fun _ => ⟨rfl, ss_ri sg na N cl rw nv wv f_kept f_many f_seen a_row a_from a_to a_held a_sort a_bits a_base a_least a_greatest a_words a_dictionary a_dRow a_dFrom a_dTo a_dValue a_wRow a_wFrom a_wTo a_wValue a_open a_start a_changed a_change a_changes a_fresh a_gone a_column a_low a_high a_found a_value a_vRow a_vFrom a_vTo a_vInt a_sRow a_sInt a_kept (ss_rup sg na N cl rw nv wv f_kept f_many f_seen a_row a_from a_to a_held a_sort a_bits a_base a_least a_greatest a_words a_dictionary a_dRow a_dFrom a_dTo a_dValue a_wRow a_wFrom a_wTo a_wValue a_open a_start a_changed a_change a_changes a_fresh a_gone a_column a_low a_high a_found a_value a_vRow a_vFrom a_vTo a_vInt a_sRow a_sInt a_kept (by omega) R)⟩))
  have e : j' = j := by
    rcases (by omega : j' < j ∨ j' = j ∨ j < j') with h | h | h
    · exact absurd h0' (hno j' h)
    · exact h
    · exact absurd h0 (hno' j h)
  subst e
  exact ⟨rfl, ss_rj (ss_rbg sg na N cl rw nv wv f_kept f_many f_seen a_row a_from a_to a_held a_sort a_bits a_base a_least a_greatest a_words a_dictionary a_dRow a_dFrom a_dTo a_dValue a_wRow a_wFrom a_wTo a_wValue a_open a_start a_changed a_change a_changes a_fresh a_gone a_column a_low a_high a_found a_value a_vRow a_vFrom a_vTo a_vInt a_sRow a_sInt a_kept hj h0 R)⟩
theorem ss_rin {k t c : Nat} {ch' go' : Nat → Int32} (sg : Nat) (na : Nat) (N : Nat) (cl : Nat) (rw : Nat) (nv : Nat) (wv : Nat → Int32) (f_kept : Int32) (f_many : Int32) (f_seen : Int32) (a_row : Nat → Int32) (a_from : Nat → Int32) (a_to : Nat → Int32) (a_held : Nat → Int32) (a_sort : Nat → Int32) (a_bits : Nat → Int32) (a_base : Nat → Int32) (a_least : Nat → Int32) (a_greatest : Nat → Int32) (a_words : Nat → Int64) (a_dictionary : Nat → Int32) (a_dRow : Nat → Int32) (a_dFrom : Nat → Int32) (a_dTo : Nat → Int32) (a_dValue : Nat → Int32) (a_wRow : Nat → Int32) (a_wFrom : Nat → Int32) (a_wTo : Nat → Int32) (a_wValue : Nat → Int32) (a_open : Nat → Int32) (a_start : Nat → Int32) (a_changed : Nat → Int32) (a_change : Nat → Int32) (a_changes : Nat → Int32) (a_fresh : Nat → Int32) (a_gone : Nat → Int32) (a_column : Nat → Int32) (a_low : Nat → Int32) (a_high : Nat → Int32) (a_found : Nat → Int32) (a_value : Nat → Int32) (a_vRow : Nat → Int32) (a_vFrom : Nat → Int32) (a_vTo : Nat → Int32) (a_vInt : Nat → Int32) (a_sRow : Nat → Int32) (a_sInt : Nat → Int32) (a_kept : Nat → Int32) (hk : k + 6 ≤ 3072) (ht : t < 4) (hc : a_changes t = nI c) (hc8 : c < 8) (R : ss_RR k sg na N cl rw nv wv a_row a_from a_to a_held a_sort a_bits a_base a_least a_greatest a_words a_dictionary a_dRow a_dFrom a_dTo a_dValue a_open a_start a_changed a_change a_changes a_fresh a_gone a_column a_low a_high a_vRow a_vFrom a_vTo a_vInt) :
    ss_RR (k + 6) sg na N cl (rw + 1) nv wv a_row a_from a_to a_held a_sort a_bits a_base a_least a_greatest a_words a_dictionary a_dRow a_dFrom a_dTo a_dValue a_open a_start (upd a_changed (8 * t + c) (nI rw)) ch' (upd a_changes t (nI (c + 1))) (upd a_fresh (8 * t + c) 1) go' a_column a_low a_high a_vRow a_vFrom a_vTo a_vInt := by
  obtain ⟨r1, r2, r3, r4, r5, r6, r7, r8, r9, r10, r11, r12, r13, r14⟩ := R
  have ne : ∀ r, r < rw → ¬ nI r = nI rw := fun r hr z => by
    have := (nI_eq (by omega) (by omega)).mp z
    omega
  have wm : ∀ L, ss_Wf cl rw L → ss_Wf cl (rw + 1) L := by
    intro L W
    refine ⟨fun x hx => ?_, W.2⟩
    obtain ⟨⟨r, hr, er⟩, h2⟩ := W.1 x hx
    exact ⟨⟨r, by omega, er⟩, h2⟩
  have nl : ∀ L, ss_Wf cl rw L → ∀ x, x ∈ L → ¬ x.1 = nI rw := by
    intro L W x hx
    obtain ⟨⟨r, hr, er⟩, -⟩ := W.1 x hx
    rw [er]; exact ne r hr
  have nc : ∀ t' c', t' < 4 → ¬ a_open t' = 0 → a_changes t' = nI c' → c' ≤ 8 → ∀ j, j < c' → ¬ a_changed (8 * t' + j) = nI rw := by
    intro t' c' h1 h2 h3 h4 j hj
    obtain ⟨-, c2, q1, q2, q3, -⟩ := r10 t' h1 h2
    have := (nI_eq (by omega) (by omega)).mp (h3.symm.trans q2)
    subst this
    obtain ⟨r, hr, er⟩ := q3 j hj
    rw [er]; exact ne r hr
  by_cases ho : a_open t = 0
  · -- not reached: the transaction is open
    refine ⟨by omega, by omega, r3, r4, r5, r6, r7, wm _ r8, wm _ r9, ?_, ?_, ?_, r13, r14⟩
    · intro t1 h1 h2
      have e : t1 ≠ t := by rintro rfl; exact h2 ho
      obtain ⟨hs, c2, q1, q2, q3, q4, q5⟩ := r10 t1 h1 h2
      refine ⟨hs, c2, q1, by rw [pk_un e]; exact q2, fun i hi => ?_, fun i j hi hj => ?_, fun t' c' h1' h2' h3' h4' hne i j hi hj => ?_⟩
      · obtain ⟨r, hr, er⟩ := q3 i hi
        exact ⟨r, by omega, by rw [pk_un (by omega)]; exact er⟩
      · rw [pk_un (by omega), pk_un (by omega)]; exact q4 i j hi hj
      · have e' : t' ≠ t := by rintro rfl; exact h2' ho
        rw [pk_un e'] at h3'
        rw [pk_un (by omega), pk_un (by omega), pk_un (by omega), pk_un (by omega)]
        exact q5 t' c' h1' h2' h3' h4' hne i j hi hj
    · intro t1 c1 h1 h2 h3 h4 i hi
      have e : t1 ≠ t := by rintro rfl; exact h2 ho
      rw [pk_un e] at h3
      rw [pk_un (by omega), pk_un (by omega)]
      exact r11 t1 c1 h1 h2 h3 h4 i hi
    · intro t1 c1 h1 h2 h3 h4 i hi
      have e : t1 ≠ t := by rintro rfl; exact h2 ho
      rw [pk_un e] at h3
      rw [pk_un (by omega), pk_un (by omega)]
      exact r12 t1 c1 h1 h2 h3 h4 i hi
  · exact ⟨by omega, by omega, r3, r4, r5, r6, r7, wm _ r8, wm _ r9, ss_G4b r10 ht hc hc8 (by omega) ⟨rw, by omega, rfl⟩ (fun i hi => nc t c ht ho hc (by omega) i hi) (fun _ t' c' h1 h2 h3 h4 _ => nc t' c' h1 h2 h3 h4),
      ss_G4l r11 hc hc8 (fun z => absurd z (by decide)) (fun _ => nl _ r8), ss_G4l r12 hc hc8 (fun z => absurd z (by decide)) (fun _ => nl _ r9), r13, r14⟩
theorem i_vc_insert {k : Nat} {u : SX} {v : SY} (I : i_Rel k u v) (hk : k + 6 ≤ 3072) (v1 : Int32) (v2 : Int32) (v3 : Int32) (v4 : Int32) : wpX_insert (fun r u' => wpY_insert (fun r' v' => r' = r ∧ i_Rel (k + 6) u' v') v v1 v2 v3 v4) u v1 v2 v3 v4 := by
  refine ss_re (P := fun u v => wpX_insert (fun r u' => wpY_insert (fun r' v' => r' = r ∧ i_Rel (k + 6) u' v') v v1 v2 v3 v4) u v1 v2 v3 v4) ?_ I
  intro sg na N cl rw nv wv f_kept f_many f_seen a_row a_from a_to a_held a_sort a_bits a_base a_least a_greatest a_words a_dictionary a_dRow a_dFrom a_dTo a_dValue a_wRow a_wFrom a_wTo a_wValue a_open a_start a_changed a_change a_changes a_fresh a_gone a_column a_low a_high a_found a_value a_vRow a_vFrom a_vTo a_vInt a_sRow a_sInt a_kept R
  have same : i_Rel (k + 6) (nI sg, nI na, f_kept, nI cl, nI rw, f_many, a_row, a_from, a_to, a_held, a_sort, a_bits, a_base, a_least, a_greatest, a_words, a_dictionary, a_dRow, a_dFrom, a_dTo, a_dValue, a_wRow, a_wFrom, a_wTo, a_wValue, a_open, a_start, a_changed, a_change, a_changes, a_fresh, a_gone, a_column, a_low, a_high, a_found, a_value) (nI nv, nI cl, nI rw, f_seen, a_vRow, a_vFrom, a_vTo, a_vInt, a_open, a_start, a_changes, a_changed, a_fresh, a_gone, a_change, a_column, a_low, a_high, a_sRow, a_sInt, a_kept) := ss_ri sg na N cl rw nv wv f_kept f_many f_seen a_row a_from a_to a_held a_sort a_bits a_base a_least a_greatest a_words a_dictionary a_dRow a_dFrom a_dTo a_dValue a_wRow a_wFrom a_wTo a_wValue a_open a_start a_changed a_change a_changes a_fresh a_gone a_column a_low a_high a_found a_value a_vRow a_vFrom a_vTo a_vInt a_sRow a_sInt a_kept (ss_rup sg na N cl rw nv wv f_kept f_many f_seen a_row a_from a_to a_held a_sort a_bits a_base a_least a_greatest a_words a_dictionary a_dRow a_dFrom a_dTo a_dValue a_wRow a_wFrom a_wTo a_wValue a_open a_start a_changed a_change a_changes a_fresh a_gone a_column a_low a_high a_found a_value a_vRow a_vFrom a_vTo a_vInt a_sRow a_sInt a_kept (by omega) R)
  rcases ss_oc a_open v1 with hc | ⟨t, ht, rfl, ho⟩
  · unfold wpX_insert
    refine ss_xo0 hc ⟨fun _ => ?_, fun z => absurd rfl z⟩
    unfold wpY_insert
    exact ss_yo0 hc ⟨fun _ => ⟨rfl, same⟩, fun z => absurd rfl z⟩
  · obtain ⟨-, c, hc8, hc, -⟩ := R.2.2.2.2.2.2.2.2.2.1 t ht ho
    refine ss_xin ht ho hc hc8 (fun e => ss_yin ht ho hc hc8 (fun _ => ⟨rfl, same⟩) (fun z => by omega)) (fun h8 => ss_yin ht ho hc hc8 (fun z => by omega) (fun _ => ⟨rfl, ss_rj (ss_rin sg na N cl rw nv wv f_kept f_many f_seen a_row a_from a_to a_held a_sort a_bits a_base a_least a_greatest a_words a_dictionary a_dRow a_dFrom a_dTo a_dValue a_wRow a_wFrom a_wTo a_wValue a_open a_start a_changed a_change a_changes a_fresh a_gone a_column a_low a_high a_found a_value a_vRow a_vFrom a_vTo a_vInt a_sRow a_sInt a_kept hk ht hc h8 R)⟩))
theorem ss_rab {k t : Nat} (sg : Nat) (na : Nat) (N : Nat) (cl : Nat) (rw : Nat) (nv : Nat) (wv : Nat → Int32) (f_kept : Int32) (f_many : Int32) (f_seen : Int32) (a_row : Nat → Int32) (a_from : Nat → Int32) (a_to : Nat → Int32) (a_held : Nat → Int32) (a_sort : Nat → Int32) (a_bits : Nat → Int32) (a_base : Nat → Int32) (a_least : Nat → Int32) (a_greatest : Nat → Int32) (a_words : Nat → Int64) (a_dictionary : Nat → Int32) (a_dRow : Nat → Int32) (a_dFrom : Nat → Int32) (a_dTo : Nat → Int32) (a_dValue : Nat → Int32) (a_wRow : Nat → Int32) (a_wFrom : Nat → Int32) (a_wTo : Nat → Int32) (a_wValue : Nat → Int32) (a_open : Nat → Int32) (a_start : Nat → Int32) (a_changed : Nat → Int32) (a_change : Nat → Int32) (a_changes : Nat → Int32) (a_fresh : Nat → Int32) (a_gone : Nat → Int32) (a_column : Nat → Int32) (a_low : Nat → Int32) (a_high : Nat → Int32) (a_found : Nat → Int32) (a_value : Nat → Int32) (a_vRow : Nat → Int32) (a_vFrom : Nat → Int32) (a_vTo : Nat → Int32) (a_vInt : Nat → Int32) (a_sRow : Nat → Int32) (a_sInt : Nat → Int32) (a_kept : Nat → Int32) (R : ss_RR k sg na N cl rw nv wv a_row a_from a_to a_held a_sort a_bits a_base a_least a_greatest a_words a_dictionary a_dRow a_dFrom a_dTo a_dValue a_open a_start a_changed a_change a_changes a_fresh a_gone a_column a_low a_high a_vRow a_vFrom a_vTo a_vInt) : ss_RR (k + 6) sg na N cl rw nv wv a_row a_from a_to a_held a_sort a_bits a_base a_least a_greatest a_words a_dictionary a_dRow a_dFrom a_dTo a_dValue (upd a_open t 0) a_start a_changed a_change a_changes a_fresh a_gone a_column a_low a_high a_vRow a_vFrom a_vTo a_vInt := by
  obtain ⟨r1, r2, r3, r4, r5, r6, r7, r8, r9, r10, r11, r12, r13, r14⟩ := R
  refine ⟨by omega, by omega, r3, r4, r5, r6, r7, r8, r9, ss_G7b r10, ss_G7l r11, ss_G7l r12, ss_lrP r13 (fun x _ h => ss_G7v h) (fun x _ h => ss_G7v h), Nat.le_trans ?_ r14⟩
  exact List.countP_mono_left fun x _ h => ss_G7v h
theorem i_vc_abort {k : Nat} {u : SX} {v : SY} (I : i_Rel k u v) (hk : k + 6 ≤ 3072) (v1 : Int32) : wpX_abort (fun r u' => wpY_abort (fun r' v' => r' = r ∧ i_Rel (k + 6) u' v') v v1) u v1 := by
  refine ss_re (P := fun u v => wpX_abort (fun r u' => wpY_abort (fun r' v' => r' = r ∧ i_Rel (k + 6) u' v') v v1) u v1) ?_ I
  intro sg na N cl rw nv wv f_kept f_many f_seen a_row a_from a_to a_held a_sort a_bits a_base a_least a_greatest a_words a_dictionary a_dRow a_dFrom a_dTo a_dValue a_wRow a_wFrom a_wTo a_wValue a_open a_start a_changed a_change a_changes a_fresh a_gone a_column a_low a_high a_found a_value a_vRow a_vFrom a_vTo a_vInt a_sRow a_sInt a_kept R
  have same : i_Rel (k + 6) (nI sg, nI na, f_kept, nI cl, nI rw, f_many, a_row, a_from, a_to, a_held, a_sort, a_bits, a_base, a_least, a_greatest, a_words, a_dictionary, a_dRow, a_dFrom, a_dTo, a_dValue, a_wRow, a_wFrom, a_wTo, a_wValue, a_open, a_start, a_changed, a_change, a_changes, a_fresh, a_gone, a_column, a_low, a_high, a_found, a_value) (nI nv, nI cl, nI rw, f_seen, a_vRow, a_vFrom, a_vTo, a_vInt, a_open, a_start, a_changes, a_changed, a_fresh, a_gone, a_change, a_column, a_low, a_high, a_sRow, a_sInt, a_kept) := ss_ri sg na N cl rw nv wv f_kept f_many f_seen a_row a_from a_to a_held a_sort a_bits a_base a_least a_greatest a_words a_dictionary a_dRow a_dFrom a_dTo a_dValue a_wRow a_wFrom a_wTo a_wValue a_open a_start a_changed a_change a_changes a_fresh a_gone a_column a_low a_high a_found a_value a_vRow a_vFrom a_vTo a_vInt a_sRow a_sInt a_kept (ss_rup sg na N cl rw nv wv f_kept f_many f_seen a_row a_from a_to a_held a_sort a_bits a_base a_least a_greatest a_words a_dictionary a_dRow a_dFrom a_dTo a_dValue a_wRow a_wFrom a_wTo a_wValue a_open a_start a_changed a_change a_changes a_fresh a_gone a_column a_low a_high a_found a_value a_vRow a_vFrom a_vTo a_vInt a_sRow a_sInt a_kept (by omega) R)
  rcases ss_oc a_open v1 with hc | ⟨t, ht, rfl, ho⟩
  · unfold wpX_abort
    refine ss_xo0 hc ⟨fun _ => ?_, fun z => absurd rfl z⟩
    unfold wpY_abort
    exact ss_yo0 hc ⟨fun _ => ⟨ss_bn false, rfl, same⟩, fun z => absurd rfl z⟩
  · have n1 : ¬ (1 : Int32) = 0 := by decide
    unfold wpX_abort
    refine ss_xo1 ht ho ⟨fun z => absurd z n1, fun _ => ?_⟩
    simp (disch := omega) only [ss_a0, ss_b0, ss_c0, ss_d0, ss_e0, ss_a1, ss_b1, ss_c1, ss_d1, ss_e1, ss_a2, ss_b2, ss_c2, ss_d2, ss_e2, ss_a3, ss_b3, ss_c3, ss_d3, ss_e3, ss_a4, ss_b4, ss_c4, ss_d4, ss_e4, ss_a5, ss_b5, ss_c5, ss_d5, ss_e5, ss_a8, ss_b8, ss_c8, ss_d8, ss_e8, ss_a32, ss_b32, ss_c32, ss_d32, ss_e32, ss_a40, ss_b40, ss_c40, ss_d40, ss_e40, ss_a48, ss_b48, ss_c48, ss_d48, ss_e48, ss_a64, ss_b64, ss_c64, ss_d64, ss_e64, ss_m2, ss_m3, ss_m4, ss_m8, ss_p2, ss_p3, ss_p4, ss_p8, ss_48p, ss_in, nI_add, nI_1, nI_clamp, nI_leI, nI_ltI, nI_eq, forall_eq, true_and, and_true, ss_nb0]
    refine ⟨ht, ?_⟩
    unfold wpY_abort
    refine ss_yo1 ht ho ⟨fun z => absurd z n1, fun _ => ?_⟩
    simp (disch := omega) only [ss_a0, ss_b0, ss_c0, ss_d0, ss_e0, ss_a1, ss_b1, ss_c1, ss_d1, ss_e1, ss_a2, ss_b2, ss_c2, ss_d2, ss_e2, ss_a3, ss_b3, ss_c3, ss_d3, ss_e3, ss_a4, ss_b4, ss_c4, ss_d4, ss_e4, ss_a5, ss_b5, ss_c5, ss_d5, ss_e5, ss_a8, ss_b8, ss_c8, ss_d8, ss_e8, ss_a32, ss_b32, ss_c32, ss_d32, ss_e32, ss_a40, ss_b40, ss_c40, ss_d40, ss_e40, ss_a48, ss_b48, ss_c48, ss_d48, ss_e48, ss_a64, ss_b64, ss_c64, ss_d64, ss_e64, ss_m2, ss_m3, ss_m4, ss_m8, ss_p2, ss_p3, ss_p4, ss_p8, ss_48p, ss_in, nI_add, nI_1, nI_clamp, nI_leI, nI_ltI, nI_eq, forall_eq, true_and, and_true, ss_nb0]
    exact ⟨ht, ss_bn true, ss_rj (ss_rab sg na N cl rw nv wv f_kept f_many f_seen a_row a_from a_to a_held a_sort a_bits a_base a_least a_greatest a_words a_dictionary a_dRow a_dFrom a_dTo a_dValue a_wRow a_wFrom a_wTo a_wValue a_open a_start a_changed a_change a_changes a_fresh a_gone a_column a_low a_high a_found a_value a_vRow a_vFrom a_vTo a_vInt a_sRow a_sInt a_kept R)⟩
theorem ss_rwh {k j : Nat} {c l h : Int32} (sg : Nat) (na : Nat) (N : Nat) (cl : Nat) (rw : Nat) (nv : Nat) (wv : Nat → Int32) (f_kept : Int32) (f_many : Int32) (f_seen : Int32) (a_row : Nat → Int32) (a_from : Nat → Int32) (a_to : Nat → Int32) (a_held : Nat → Int32) (a_sort : Nat → Int32) (a_bits : Nat → Int32) (a_base : Nat → Int32) (a_least : Nat → Int32) (a_greatest : Nat → Int32) (a_words : Nat → Int64) (a_dictionary : Nat → Int32) (a_dRow : Nat → Int32) (a_dFrom : Nat → Int32) (a_dTo : Nat → Int32) (a_dValue : Nat → Int32) (a_wRow : Nat → Int32) (a_wFrom : Nat → Int32) (a_wTo : Nat → Int32) (a_wValue : Nat → Int32) (a_open : Nat → Int32) (a_start : Nat → Int32) (a_changed : Nat → Int32) (a_change : Nat → Int32) (a_changes : Nat → Int32) (a_fresh : Nat → Int32) (a_gone : Nat → Int32) (a_column : Nat → Int32) (a_low : Nat → Int32) (a_high : Nat → Int32) (a_found : Nat → Int32) (a_value : Nat → Int32) (a_vRow : Nat → Int32) (a_vFrom : Nat → Int32) (a_vTo : Nat → Int32) (a_vInt : Nat → Int32) (a_sRow : Nat → Int32) (a_sInt : Nat → Int32) (a_kept : Nat → Int32) (hc : c = -1 ∨ ∃ i, i < 3 ∧ c = nI i) (R : ss_RR k sg na N cl rw nv wv a_row a_from a_to a_held a_sort a_bits a_base a_least a_greatest a_words a_dictionary a_dRow a_dFrom a_dTo a_dValue a_open a_start a_changed a_change a_changes a_fresh a_gone a_column a_low a_high a_vRow a_vFrom a_vTo a_vInt) : ss_RR (k + 6) sg na N cl rw nv wv a_row a_from a_to a_held a_sort a_bits a_base a_least a_greatest a_words a_dictionary a_dRow a_dFrom a_dTo a_dValue a_open a_start a_changed a_change a_changes a_fresh a_gone (upd a_column j c) (upd a_low j l) (upd a_high j h) a_vRow a_vFrom a_vTo a_vInt := by
  obtain ⟨r1, r2, r3, r4, r5, r6, r7, r8⟩ := R
  refine ⟨by omega, by omega, r3, r4, r5, r6, fun i hi => ?_, r8⟩
  by_cases e : i = j
  · subst e; rw [pk_us]; exact hc
  · rw [pk_un e]; exact r7 i hi
theorem ss_col3 {c : Int32} (h1 : -1 ≤ c) (h2 : c ≤ 2) : (c = -1 ∨ ∃ i, i < 3 ∧ c = nI i) ∧ vp_nar .byte c.toInt8.toInt32 = c := by
  by_cases h0 : c < 0
  · have : c = -1 := by
      apply Int32.toInt_inj.mp
      rw [Int32.le_iff_toInt_le] at h1
      rw [Int32.lt_iff_toInt_lt] at h0
      have e1 : (-1 : Int32).toInt = -1 := by decide
      have e0 : (0 : Int32).toInt = 0 := by decide
      omega
    subst this
    exact ⟨Or.inl rfl, by rw [pk_vb]; decide⟩
  · obtain ⟨i, hi, rfl⟩ := nI_of2 (M := 2) (n := 2) (by decide) h0 h2
    exact ⟨Or.inr ⟨i, by omega, rfl⟩, ss_by8 i (by omega)⟩
theorem i_vc_where {k : Nat} {u : SX} {v : SY} (I : i_Rel k u v) (hk : k + 6 ≤ 3072) (v1 : Int32) (v2 : Int32) (v3 : Int32) (v4 : Int32) : wpX_where (fun r u' => wpY_where (fun r' v' => r' = r ∧ i_Rel (k + 6) u' v') v v1 v2 v3 v4) u v1 v2 v3 v4 := by
  refine ss_re (P := fun u v => wpX_where (fun r u' => wpY_where (fun r' v' => r' = r ∧ i_Rel (k + 6) u' v') v v1 v2 v3 v4) u v1 v2 v3 v4) ?_ I
  intro sg na N cl rw nv wv f_kept f_many f_seen a_row a_from a_to a_held a_sort a_bits a_base a_least a_greatest a_words a_dictionary a_dRow a_dFrom a_dTo a_dValue a_wRow a_wFrom a_wTo a_wValue a_open a_start a_changed a_change a_changes a_fresh a_gone a_column a_low a_high a_found a_value a_vRow a_vFrom a_vTo a_vInt a_sRow a_sInt a_kept R
  have same : i_Rel (k + 6) (nI sg, nI na, f_kept, nI cl, nI rw, f_many, a_row, a_from, a_to, a_held, a_sort, a_bits, a_base, a_least, a_greatest, a_words, a_dictionary, a_dRow, a_dFrom, a_dTo, a_dValue, a_wRow, a_wFrom, a_wTo, a_wValue, a_open, a_start, a_changed, a_change, a_changes, a_fresh, a_gone, a_column, a_low, a_high, a_found, a_value) (nI nv, nI cl, nI rw, f_seen, a_vRow, a_vFrom, a_vTo, a_vInt, a_open, a_start, a_changes, a_changed, a_fresh, a_gone, a_change, a_column, a_low, a_high, a_sRow, a_sInt, a_kept) := ss_ri sg na N cl rw nv wv f_kept f_many f_seen a_row a_from a_to a_held a_sort a_bits a_base a_least a_greatest a_words a_dictionary a_dRow a_dFrom a_dTo a_dValue a_wRow a_wFrom a_wTo a_wValue a_open a_start a_changed a_change a_changes a_fresh a_gone a_column a_low a_high a_found a_value a_vRow a_vFrom a_vTo a_vInt a_sRow a_sInt a_kept (ss_rup sg na N cl rw nv wv f_kept f_many f_seen a_row a_from a_to a_held a_sort a_bits a_base a_least a_greatest a_words a_dictionary a_dRow a_dFrom a_dTo a_dValue a_wRow a_wFrom a_wTo a_wValue a_open a_start a_changed a_change a_changes a_fresh a_gone a_column a_low a_high a_found a_value a_vRow a_vFrom a_vTo a_vInt a_sRow a_sInt a_kept (by omega) R)
  by_cases ha : 0 ≤ v1
  · by_cases hb : v1 ≤ 1
    · obtain ⟨j, hj, rfl⟩ := nI_of2 (M := 1) (n := 1) (by decide) (Int32.not_lt.mpr ha) hb
      have hj2 : j < 2 := by omega
      by_cases hc : -1 ≤ v2
      · by_cases hd : v2 ≤ 2
        · obtain ⟨hcc, e⟩ := ss_col3 hc hd
          have n1 : ¬ v2 < -1 := Int32.not_lt.mpr hc
          simp (disch := omega) only [wpX_where, wpY_where, ss_xw, ss_yw, ha, hb, hc, hd, hj2, n1, ss_a0, ss_b0, ss_c0, ss_d0, ss_e0, ss_a1, ss_b1, ss_c1, ss_d1, ss_e1, ss_a2, ss_b2, ss_c2, ss_d2, ss_e2, ss_a3, ss_b3, ss_c3, ss_d3, ss_e3, ss_a4, ss_b4, ss_c4, ss_d4, ss_e4, ss_a5, ss_b5, ss_c5, ss_d5, ss_e5, ss_a8, ss_b8, ss_c8, ss_d8, ss_e8, ss_a32, ss_b32, ss_c32, ss_d32, ss_e32, ss_a40, ss_b40, ss_c40, ss_d40, ss_e40, ss_a48, ss_b48, ss_c48, ss_d48, ss_e48, ss_a64, ss_b64, ss_c64, ss_d64, ss_e64, ss_m2, ss_m3, ss_m4, ss_m8, ss_p2, ss_p3, ss_p4, ss_p8, ss_48p, ss_in, nI_add, nI_1, nI_clamp, nI_leI, nI_ltI, nI_eq, forall_eq, true_and, and_true, decide_true, Bool.and_self, ss_bt, e]
          refine ⟨fun z => absurd z (by decide), fun _ => ⟨fun z => absurd z (by decide), fun _ => ?_⟩⟩
          exact ⟨fun z => absurd z (by decide), fun _ => ⟨fun z => z.elim, fun _ => ⟨fun _ => ss_rj (ss_rwh sg na N cl rw nv wv f_kept f_many f_seen a_row a_from a_to a_held a_sort a_bits a_base a_least a_greatest a_words a_dictionary a_dRow a_dFrom a_dTo a_dValue a_wRow a_wFrom a_wTo a_wValue a_open a_start a_changed a_change a_changes a_fresh a_gone a_column a_low a_high a_found a_value a_vRow a_vFrom a_vTo a_vInt a_sRow a_sInt a_kept hcc R), fun z => absurd trivial z⟩⟩⟩
        · have l2 : ¬ v2 < -1 := Int32.not_lt.mpr hc
          simp (disch := omega) only [wpX_where, wpY_where, ss_xw, ss_yw, ha, hb, hc, hd, hj2, l2, ss_a0, ss_b0, ss_c0, ss_d0, ss_e0, ss_a1, ss_b1, ss_c1, ss_d1, ss_e1, ss_a2, ss_b2, ss_c2, ss_d2, ss_e2, ss_a3, ss_b3, ss_c3, ss_d3, ss_e3, ss_a4, ss_b4, ss_c4, ss_d4, ss_e4, ss_a5, ss_b5, ss_c5, ss_d5, ss_e5, ss_a8, ss_b8, ss_c8, ss_d8, ss_e8, ss_a32, ss_b32, ss_c32, ss_d32, ss_e32, ss_a40, ss_b40, ss_c40, ss_d40, ss_e40, ss_a48, ss_b48, ss_c48, ss_d48, ss_e48, ss_a64, ss_b64, ss_c64, ss_d64, ss_e64, ss_m2, ss_m3, ss_m4, ss_m8, ss_p2, ss_p3, ss_p4, ss_p8, ss_48p, ss_in, nI_add, nI_1, nI_clamp, nI_leI, nI_ltI, nI_eq, forall_eq, true_and, and_true, decide_true, decide_false, Bool.and_self, Bool.and_false, ss_bt, ss_bf]
          exact ⟨fun z => absurd z (by decide), fun _ => ⟨fun _ => ⟨fun z => absurd z (by decide), fun _ => ⟨fun z => z.elim, fun _ => ⟨fun z => z.elim, fun _ => same⟩⟩⟩, fun z => absurd trivial z⟩⟩
      · have l2 : v2 < -1 := Int32.not_le.mp hc
        simp (disch := omega) only [wpX_where, wpY_where, ss_xw, ss_yw, ha, hb, hc, hj2, l2, ss_a0, ss_b0, ss_c0, ss_d0, ss_e0, ss_a1, ss_b1, ss_c1, ss_d1, ss_e1, ss_a2, ss_b2, ss_c2, ss_d2, ss_e2, ss_a3, ss_b3, ss_c3, ss_d3, ss_e3, ss_a4, ss_b4, ss_c4, ss_d4, ss_e4, ss_a5, ss_b5, ss_c5, ss_d5, ss_e5, ss_a8, ss_b8, ss_c8, ss_d8, ss_e8, ss_a32, ss_b32, ss_c32, ss_d32, ss_e32, ss_a40, ss_b40, ss_c40, ss_d40, ss_e40, ss_a48, ss_b48, ss_c48, ss_d48, ss_e48, ss_a64, ss_b64, ss_c64, ss_d64, ss_e64, ss_m2, ss_m3, ss_m4, ss_m8, ss_p2, ss_p3, ss_p4, ss_p8, ss_48p, ss_in, nI_add, nI_1, nI_clamp, nI_leI, nI_ltI, nI_eq, forall_eq, true_and, and_true, decide_true, decide_false, Bool.and_self, Bool.false_and, ss_bt, ss_bf]
        exact ⟨fun z => absurd z (by decide), fun _ => ⟨fun _ => ⟨fun z => absurd z (by decide), fun _ => ⟨fun _ => same, fun z => absurd trivial z⟩⟩, fun z => absurd trivial z⟩⟩
    · have n2 : ¬ v1 < 2 := by
        rw [Int32.lt_iff_toInt_lt]
        rw [Int32.le_iff_toInt_le] at hb
        have e1 : (1 : Int32).toInt = 1 := by decide
        have e2 : (2 : Int32).toInt = 2 := by decide
        omega
      simp only [wpX_where, wpY_where, ss_xw, ss_yw, ha, hb, n2, decide_true, decide_false, Bool.and_false, ss_bf]
      exact ⟨fun _ => ⟨fun _ => ⟨trivial, same⟩, fun z => absurd trivial z⟩, fun z => absurd trivial z⟩
  · simp only [wpX_where, wpY_where, ss_xw, ss_yw, ha, decide_false, Bool.false_and, ss_bf]
    exact ⟨fun _ => ⟨fun _ => ⟨trivial, same⟩, fun z => absurd trivial z⟩, fun z => absurd trivial z⟩
end
section
theorem ss_rpk {k sg' kp : Nat} {ro fr to he so bi ba le gr wl : Nat → Int32} {ws : Nat → Int64} {ds : Nat → Int32} (sg : Nat) (na : Nat) (N : Nat) (cl : Nat) (rw : Nat) (nv : Nat) (wv : Nat → Int32) (f_kept : Int32) (f_many : Int32) (f_seen : Int32) (a_row : Nat → Int32) (a_from : Nat → Int32) (a_to : Nat → Int32) (a_held : Nat → Int32) (a_sort : Nat → Int32) (a_bits : Nat → Int32) (a_base : Nat → Int32) (a_least : Nat → Int32) (a_greatest : Nat → Int32) (a_words : Nat → Int64) (a_dictionary : Nat → Int32) (a_dRow : Nat → Int32) (a_dFrom : Nat → Int32) (a_dTo : Nat → Int32) (a_dValue : Nat → Int32) (a_wRow : Nat → Int32) (a_wFrom : Nat → Int32) (a_wTo : Nat → Int32) (a_wValue : Nat → Int32) (a_open : Nat → Int32) (a_start : Nat → Int32) (a_changed : Nat → Int32) (a_change : Nat → Int32) (a_changes : Nat → Int32) (a_fresh : Nat → Int32) (a_gone : Nat → Int32) (a_column : Nat → Int32) (a_low : Nat → Int32) (a_high : Nat → Int32) (a_found : Nat → Int32) (a_value : Nat → Int32) (a_vRow : Nat → Int32) (a_vFrom : Nat → Int32) (a_vTo : Nat → Int32) (a_vInt : Nat → Int32) (a_sRow : Nat → Int32) (a_sInt : Nat → Int32) (a_kept : Nat → Int32) (R : ss_RR k sg na N cl rw nv wv a_row a_from a_to a_held a_sort a_bits a_base a_least a_greatest a_words a_dictionary a_dRow a_dFrom a_dTo a_dValue a_open a_start a_changed a_change a_changes a_fresh a_gone a_column a_low a_high a_vRow a_vFrom a_vTo a_vInt) (hk : kp ≤ 40) (S : ss_Seg sg' kp he ro) (C : ss_Cols sg' kp so bi ba le gr ws ds wl)
    (P : List.Perm (ss_ls (ss_ve ro fr to wl) kp) ((ss_ls (ss_ve a_row a_from a_to wv) N ++ ss_ls (ss_ve a_dRow a_dFrom a_dTo a_dValue) na).filter (ss_lv (nI cl) a_open a_start (-1)))) :
    ss_RR k sg' 0 kp cl rw nv wl ro fr to he so bi ba le gr ws ds a_dRow a_dFrom a_dTo a_dValue a_open a_start a_changed a_change a_changes a_fresh a_gone a_column a_low a_high a_vRow a_vFrom a_vTo a_vInt := by
  obtain ⟨r1, r2, r3, r4, r5, r6, r7, r8, r9, r10, r11, r12, r13, r14⟩ := R
  have e : ss_ls (ss_ve ro fr to wl) kp ++ ss_ls (ss_ve a_dRow a_dFrom a_dTo a_dValue) 0 = ss_ls (ss_ve ro fr to wl) kp := by simp [ss_ls]
  refine ⟨r1, r2, S, C, by omega, r6, r7, ?_, r9, r10, ?_, r12, ?_, ?_⟩
  · rw [e]; exact ss_G1w P r8
  · rw [e]; exact ss_G1t P r11
  · rw [e]
    refine (P.filter _).trans ?_
    rw [List.filter_filter]
    simp only [Bool.and_self]
    exact r13
  · rw [e]
    refine Nat.le_trans List.countP_le_length ?_
    rw [ss_lsL]; exact hk
theorem i_vc_pack {k : Nat} {u : SX} {v : SY} (I : i_Rel k u v) (hk : k + 6 ≤ 3072) : wpX_pack (fun u' => wpY_pack (fun v' => i_Rel (k + 6) u' v') v) u := by
  refine ss_re (P := fun u v => wpX_pack (fun u' => wpY_pack (fun v' => i_Rel (k + 6) u' v') v) u) ?_ I
  intro sg na N cl rw nv wv f_kept f_many f_seen a_row a_from a_to a_held a_sort a_bits a_base a_least a_greatest a_words a_dictionary a_dRow a_dFrom a_dTo a_dValue a_wRow a_wFrom a_wTo a_wValue a_open a_start a_changed a_change a_changes a_fresh a_gone a_column a_low a_high a_found a_value a_vRow a_vFrom a_vTo a_vInt a_sRow a_sInt a_kept R
  have R' := R
  obtain ⟨r1, r2, r3, r4, r5, r6, r7, r8, r9, r10, r11, r12, r13, r14⟩ := R'
  unfold wpX_pack
  refine ss_xrp r3 r4 r5 r14 fun sg' kp ro fr to he so bi ba le gr wr wf wt wl ws ds hk' S C P => ?_
  have R2 := ss_rpk sg na N cl rw nv wv f_kept f_many f_seen a_row a_from a_to a_held a_sort a_bits a_base a_least a_greatest a_words a_dictionary a_dRow a_dFrom a_dTo a_dValue a_wRow a_wFrom a_wTo a_wValue a_open a_start a_changed a_change a_changes a_fresh a_gone a_column a_low a_high a_found a_value a_vRow a_vFrom a_vTo a_vInt a_sRow a_sInt a_kept R hk' S C P
  exact ss_rj (ss_rup _ _ _ _ _ _ _ f_kept f_many f_seen _ _ _ _ _ _ _ _ _ _ _ _ _ _ _ a_wRow a_wFrom a_wTo a_wValue _ _ _ _ _ _ _ _ _ _ a_found a_value _ _ _ _ a_sRow a_sInt a_kept (by omega) R2)
section
variable {f_segments f_added f_kept f_clock f_rows f_many : Int32} {a_row a_from a_to a_held a_sort a_bits a_base a_least a_greatest a_dictionary a_dRow a_dFrom a_dTo a_dValue a_wRow a_wFrom a_wTo a_wValue a_open a_start a_changed a_change a_changes a_fresh a_gone a_column a_low a_high a_found a_value : Nat → Int32} {a_words : Nat → Int64}
variable {f_versions f_seen : Int32} {a_vRow a_vFrom a_vTo a_vInt a_sRow a_sInt a_kept : Nat → Int32}
variable {sg na cl rw nv N : Nat} {wv : Nat → Int32}
theorem ss_xvl {post : Int32 → Prop} {c : Nat} {v : Int32} {x : ss_V} (S : ss_Seg sg N a_held a_row) (C : ss_Cols sg N a_sort a_bits a_base a_least a_greatest a_words a_dictionary wv) (hna : na ≤ 32) (hc : c < 3)
    (hv : ss_vx N na (ss_ve a_row a_from a_to wv) (ss_ve a_dRow a_dFrom a_dTo a_dValue) v x) (h : post (ss_c x.2.2.2 c)) : wpX_valueAt post (nI sg, nI na, f_kept, nI cl, nI rw, f_many, a_row, a_from, a_to, a_held, a_sort, a_bits, a_base, a_least, a_greatest, a_words, a_dictionary, a_dRow, a_dFrom, a_dTo, a_dValue, a_wRow, a_wFrom, a_wTo, a_wValue, a_open, a_start, a_changed, a_change, a_changes, a_fresh, a_gone, a_column, a_low, a_high, a_found, a_value) v (nI c) := by
  obtain ⟨hN, s1, s2, hh, hs⟩ := S
  rcases hv with ⟨i, hi, rfl, rfl⟩ | ⟨i, hi, rfl, rfl⟩
  · simp (disch := omega) only [wpX_valueAt, ss_a0, ss_b0, ss_c0, ss_d0, ss_e0, ss_a1, ss_b1, ss_c1, ss_d1, ss_e1, ss_a2, ss_b2, ss_c2, ss_d2, ss_e2, ss_a3, ss_b3, ss_c3, ss_d3, ss_e3, ss_a4, ss_b4, ss_c4, ss_d4, ss_e4, ss_a5, ss_b5, ss_c5, ss_d5, ss_e5, ss_a8, ss_b8, ss_c8, ss_d8, ss_e8, ss_a32, ss_b32, ss_c32, ss_d32, ss_e32, ss_a40, ss_b40, ss_c40, ss_d40, ss_e40, ss_a48, ss_b48, ss_c48, ss_d48, ss_e48, ss_a64, ss_b64, ss_c64, ss_d64, ss_e64, ss_m2, ss_m3, ss_m4, ss_m8, ss_p2, ss_p3, ss_p4, ss_p8, ss_48p, ss_in, nI_add, nI_1, nI_clamp, nI_leI, nI_ltI, nI_eq, forall_eq, true_and, and_true, ss_sh3, ss_an7]
    refine ⟨fun z => absurd z (by omega), fun _ => ?_⟩
    refine ss_xde (n := min 8 (N - 8 * (i / 8))) (by omega) hc (by omega) (by omega) (C (i / 8) c (by omega) hc).1 ?_
    show post (wv (3 * (8 * (i / 8) + i % 8) + c))
    rw [show 8 * (i / 8) + i % 8 = i by omega, ← ss_ctr wv i hc]
    exact h
  · simp (disch := omega) only [wpX_valueAt, ss_a0, ss_b0, ss_c0, ss_d0, ss_e0, ss_a1, ss_b1, ss_c1, ss_d1, ss_e1, ss_a2, ss_b2, ss_c2, ss_d2, ss_e2, ss_a3, ss_b3, ss_c3, ss_d3, ss_e3, ss_a4, ss_b4, ss_c4, ss_d4, ss_e4, ss_a5, ss_b5, ss_c5, ss_d5, ss_e5, ss_a8, ss_b8, ss_c8, ss_d8, ss_e8, ss_a32, ss_b32, ss_c32, ss_d32, ss_e32, ss_a40, ss_b40, ss_c40, ss_d40, ss_e40, ss_a48, ss_b48, ss_c48, ss_d48, ss_e48, ss_a64, ss_b64, ss_c64, ss_d64, ss_e64, ss_m2, ss_m3, ss_m4, ss_m8, ss_p2, ss_p3, ss_p4, ss_p8, ss_48p, ss_in, nI_add, nI_1, nI_clamp, nI_leI, nI_ltI, nI_eq, forall_eq, true_and, and_true, ss_s48, Nat.add_sub_cancel_left]
    refine ⟨fun _ => ⟨by omega, ?_⟩, fun z => absurd (by omega) z⟩
    rw [← ss_ctr a_dValue i hc]
    exact h
/-- both sides find the same version -/
theorem ss_vag {A B : List ss_V} {op st : Nat → Int32} {nv : Nat} {s d y : Nat → ss_V} {r time v v' : Int32} (WA : ss_Wf cl rw (ss_ls s N ++ ss_ls d na)) (WB : ss_Wf cl rw (ss_ls y nv))
    (P : List.Perm ((ss_ls s N ++ ss_ls d na).filter (ss_lv (nI cl) op st (-1))) ((ss_ls y nv).filter (ss_lv (nI cl) op st (-1)))) (ht : time = nI cl ∨ ∃ j, j < 4 ∧ ¬ op j = 0 ∧ time = st j)
    (h1 : ss_va N na s d r time v) (h2 : ss_vb nv y r time v') :
    (v = -1 ∧ v' = -1) ∨ ∃ x i, x ∈ ss_ls s N ++ ss_ls d na ∧ ss_vx N na s d v x ∧ i < nv ∧ v' = nI i ∧ y i = x ∧ x.1 = r ∧ ss_h x.2.1 x.2.2.1 time = true := by
  have hl : ∀ x : ss_V, ss_h x.2.1 x.2.2.1 time = true → ss_lv (nI cl) op st (-1) x = true := by
    intro x hx
    rcases ht with rfl | ⟨j, hj, ho, rfl⟩
    · exact ss_lvC hx
    · exact ss_lvO hj ho hx
  rcases h1 with ⟨rfl, n1⟩ | ⟨x, hx, hvx, er, hh⟩
  · rcases h2 with ⟨rfl, -⟩ | ⟨i, hi, rfl, er, hh⟩
    · exact Or.inl ⟨rfl, rfl⟩
    · have hm := P.mem_iff.mpr (List.mem_filter.mpr ⟨ss_lsI (g := y) hi, hl _ hh⟩)
      exact (n1 _ (List.mem_filter.mp hm).1 er hh).elim
  · have hm := (List.mem_filter.mp (P.mem_iff.mp (List.mem_filter.mpr ⟨hx, hl _ hh⟩))).1
    rcases h2 with ⟨-, n2⟩ | ⟨i, hi, rfl, er', hh'⟩
    · exact (n2 x hm er hh).elim
    · exact Or.inr ⟨x, i, hx, hvx, hi, rfl, ss_uq WB (ss_lsI (g := y) hi) hm (er'.trans er.symm) hh' hh, er, hh⟩
/-- who may ask -/
theorem ss_xas1 {post : Int32 → Prop} {t : Int32} {c : Nat} (ht : t = -1 ∨ ∃ j, j < 4 ∧ t = nI j ∧ ¬ a_open j = 0) (hc : c < 3) (h : post 1) : wpX_asks post (nI sg, nI na, f_kept, nI cl, nI rw, f_many, a_row, a_from, a_to, a_held, a_sort, a_bits, a_base, a_least, a_greatest, a_words, a_dictionary, a_dRow, a_dFrom, a_dTo, a_dValue, a_wRow, a_wFrom, a_wTo, a_wValue, a_open, a_start, a_changed, a_change, a_changes, a_fresh, a_gone, a_column, a_low, a_high, a_found, a_value) t (nI c) := by
  have k1 : wX_asks_13 post (nI c) (nI sg) (nI na) f_kept (nI cl) (nI rw) f_many a_row a_from a_to a_held a_sort a_bits a_base a_least a_greatest a_words a_dictionary a_dRow a_dFrom a_dTo a_dValue a_wRow a_wFrom a_wTo a_wValue a_open a_start a_changed a_change a_changes a_fresh a_gone a_column a_low a_high a_found a_value := by
    have hc2 : c ≤ 2 := by omega
    simp (disch := omega) only [wX_asks_13, ss_xw, ss_a0, ss_b0, ss_c0, ss_d0, ss_e0, ss_a1, ss_b1, ss_c1, ss_d1, ss_e1, ss_a2, ss_b2, ss_c2, ss_d2, ss_e2, ss_a3, ss_b3, ss_c3, ss_d3, ss_e3, ss_a4, ss_b4, ss_c4, ss_d4, ss_e4, ss_a5, ss_b5, ss_c5, ss_d5, ss_e5, ss_a8, ss_b8, ss_c8, ss_d8, ss_e8, ss_a32, ss_b32, ss_c32, ss_d32, ss_e32, ss_a40, ss_b40, ss_c40, ss_d40, ss_e40, ss_a48, ss_b48, ss_c48, ss_d48, ss_e48, ss_a64, ss_b64, ss_c64, ss_d64, ss_e64, ss_m2, ss_m3, ss_m4, ss_m8, ss_p2, ss_p3, ss_p4, ss_p8, ss_48p, ss_in, nI_add, nI_1, nI_clamp, nI_leI, nI_ltI, nI_eq, forall_eq, true_and, and_true, Nat.zero_le, hc2, decide_true, Bool.and_self, ss_bt]
    exact ⟨fun z => absurd z (by decide), fun _ => h⟩
  rcases ht with rfl | ⟨j, hj, rfl, ho⟩
  · exact ⟨fun _ => k1, fun z => absurd rfl z⟩
  · exact ⟨fun _ => k1, fun _ => ss_xo1 hj ho ⟨fun z => absurd z (by decide), fun _ => k1⟩⟩
theorem ss_xas0 {post : Int32 → Prop} {t c : Int32} (hno : (ss_cls a_open t ∧ ¬ t = -1) ∨ ¬ (decide (0 ≤ c) && decide (c ≤ 2)) = true) (h : post 0) : wpX_asks post (nI sg, nI na, f_kept, nI cl, nI rw, f_many, a_row, a_from, a_to, a_held, a_sort, a_bits, a_base, a_least, a_greatest, a_words, a_dictionary, a_dRow, a_dFrom, a_dTo, a_dValue, a_wRow, a_wFrom, a_wTo, a_wValue, a_open, a_start, a_changed, a_change, a_changes, a_fresh, a_gone, a_column, a_low, a_high, a_found, a_value) t c := by
  have k0 : ¬ (decide (0 ≤ c) && decide (c ≤ 2)) = true → wX_asks_13 post c (nI sg) (nI na) f_kept (nI cl) (nI rw) f_many a_row a_from a_to a_held a_sort a_bits a_base a_least a_greatest a_words a_dictionary a_dRow a_dFrom a_dTo a_dValue a_wRow a_wFrom a_wTo a_wValue a_open a_start a_changed a_change a_changes a_fresh a_gone a_column a_low a_high a_found a_value := by
    intro hb
    rw [Bool.not_eq_true] at hb
    simp only [wX_asks_13, ss_xw, hb, ss_bf]
    exact ⟨fun _ => h, fun z => absurd trivial z⟩
  rcases hno with ⟨hc, hn⟩ | hb
  · exact ⟨fun z => absurd z hn, fun _ => ss_xo0 hc ⟨fun _ => h, fun z => absurd rfl z⟩⟩
  · refine ⟨fun _ => k0 hb, fun _ => ?_⟩
    rcases ss_oc a_open t with hc | ⟨j, hj, rfl, ho⟩
    · exact ss_xo0 hc ⟨fun _ => h, fun z => absurd rfl z⟩
    · exact ss_xo1 hj ho ⟨fun z => absurd z (by decide), fun _ => k0 hb⟩
/-- either all is well, or not -/
theorem ss_ask {op : Nat → Int32} (t c : Int32) : ((t = -1 ∨ ∃ j, j < 4 ∧ t = nI j ∧ ¬ op j = 0) ∧ ∃ i, i < 3 ∧ c = nI i) ∨ (ss_cls op t ∧ ¬ t = -1) ∨ ((t = -1 ∨ ∃ j, j < 4 ∧ t = nI j ∧ ¬ op j = 0) ∧ ¬ (decide (0 ≤ c) && decide (c ≤ 2)) = true ∧ ¬ (decide (0 ≤ c) && decide (c < 3)) = true) := by
  have hc : (∃ i, i < 3 ∧ c = nI i) ∨ (¬ (decide (0 ≤ c) && decide (c ≤ 2)) = true ∧ ¬ (decide (0 ≤ c) && decide (c < 3)) = true) := by
    rcases pk_ix c (n := 3) (by omega) with h | h | h
    · refine Or.inr ⟨?_, ?_⟩
      · have : ¬ 0 ≤ c := Int32.not_le.mpr h
        simp only [this, decide_false, Bool.false_and]; decide
      · have : ¬ 0 ≤ c := Int32.not_le.mpr h
        simp only [this, decide_false, Bool.false_and]; decide
    · refine Or.inr ⟨?_, ?_⟩
      · have : ¬ c ≤ 2 := by
          rw [Int32.le_iff_toInt_le] at h ⊢
          have e3 : (nI 3).toInt = 3 := by decide
          have e2 : (2 : Int32).toInt = 2 := by decide
          omega
        simp only [this, decide_false, Bool.and_false]; decide
      · have : ¬ c < 3 := Int32.not_lt.mpr h
        simp only [this, decide_false, Bool.and_false]; decide
    · exact Or.inl h
  by_cases h1 : t = -1
  · rcases hc with h | h
    · exact Or.inl ⟨Or.inl h1, h⟩
    · exact Or.inr (Or.inr ⟨Or.inl h1, h⟩)
  · rcases ss_oc op t with h2 | h2
    · exact Or.inr (Or.inl ⟨h2, h1⟩)
    · rcases hc with h | h
      · exact Or.inl ⟨Or.inr h2, h⟩
      · exact Or.inr (Or.inr ⟨Or.inr h2, h⟩)
/-- a cell: what a list of versions says of it -/
def ss_vz (L : List ss_V) (r time : Int32) (c : Nat) (z : Int64) : Prop := (z = 10000000000 ∧ ∀ x, x ∈ L → x.1 = r → ss_h x.2.1 x.2.2.1 time = true → False) ∨ ∃ x, x ∈ L ∧ x.1 = r ∧ ss_h x.2.1 x.2.2.1 time = true ∧ z = (ss_c x.2.2.2 c).toInt64
def ss_cz (L : List ss_V) (cl : Nat) (st chs cr ch gone : Nat → Int32) (t r : Int32) (c : Nat) (z : Int64) : Prop :=
  (t = -1 ∧ ss_vz L r (nI cl) c z) ∨ ∃ j m, j < 4 ∧ t = nI j ∧ chs j = nI m ∧ m ≤ 8 ∧ (((∀ i, 8 * j ≤ i → i < 8 * j + m → ¬ cr i = r) ∧ ss_vz L r (st j) c z) ∨ ∃ i, 8 * j ≤ i ∧ i < 8 * j + m ∧ cr i = r ∧ ss_cf cr r (8 * j) m = nI i ∧ z = if gone i = 0 then (ch (3 * i + c)).toInt64 else 10000000000)
theorem ss_xce {post : Int64 → Prop} {t r : Int32} {c : Nat} (S : ss_Seg sg N a_held a_row) (C : ss_Cols sg N a_sort a_bits a_base a_least a_greatest a_words a_dictionary wv) (hna : na ≤ 32) (hc : c < 3)
    (h : ∀ z, ss_cz (ss_ls (ss_ve a_row a_from a_to wv) N ++ ss_ls (ss_ve a_dRow a_dFrom a_dTo a_dValue) na) cl a_start a_changes a_changed a_change a_gone t r c z → post z)
    (ht : t = -1 ∨ ∃ j m, j < 4 ∧ t = nI j ∧ ¬ a_open j = 0 ∧ a_changes j = nI m ∧ m ≤ 8) : wpX_cell post (nI sg, nI na, f_kept, nI cl, nI rw, f_many, a_row, a_from, a_to, a_held, a_sort, a_bits, a_base, a_least, a_greatest, a_words, a_dictionary, a_dRow, a_dFrom, a_dTo, a_dValue, a_wRow, a_wFrom, a_wTo, a_wValue, a_open, a_start, a_changed, a_change, a_changes, a_fresh, a_gone, a_column, a_low, a_high, a_found, a_value) t r (nI c) := by
  have hN := S.1
  have fin : ∀ time, (∀ z, ss_vz (ss_ls (ss_ve a_row a_from a_to wv) N ++ ss_ls (ss_ve a_dRow a_dFrom a_dTo a_dValue) na) r time c z → post z) →
      wpX_versionAt (fun r_118 => (0 ≤ r_118 → wpX_valueAt (fun r_157 => post r_157.toInt64) (nI sg, nI na, f_kept, nI cl, nI rw, f_many, a_row, a_from, a_to, a_held, a_sort, a_bits, a_base, a_least, a_greatest, a_words, a_dictionary, a_dRow, a_dFrom, a_dTo, a_dValue, a_wRow, a_wFrom, a_wTo, a_wValue, a_open, a_start, a_changed, a_change, a_changes, a_fresh, a_gone, a_column, a_low, a_high, a_found, a_value) r_118 (nI c)) ∧ (¬ 0 ≤ r_118 → post 10000000000)) (nI sg, nI na, f_kept, nI cl, nI rw, f_many, a_row, a_from, a_to, a_held, a_sort, a_bits, a_base, a_least, a_greatest, a_words, a_dictionary, a_dRow, a_dFrom, a_dTo, a_dValue, a_wRow, a_wFrom, a_wTo, a_wValue, a_open, a_start, a_changed, a_change, a_changes, a_fresh, a_gone, a_column, a_low, a_high, a_found, a_value) r time := by
    intro time H
    refine ss_xva (wv := wv) S hna fun v hv => ?_
    rcases hv with ⟨rfl, hno⟩ | ⟨x, hx, hvx, er, hh⟩
    · exact ⟨fun z => absurd z (by decide), fun _ => H _ (Or.inl ⟨rfl, hno⟩)⟩
    · refine ⟨fun _ => ss_xvl S C hna hc hvx (H _ (Or.inr ⟨x, hx, er, hh, rfl⟩)), fun z => absurd ?_ z⟩
      rcases hvx with ⟨i, hi, rfl, -⟩ | ⟨i, hi, rfl, -⟩
      · exact nI_pos' (by omega)
      · exact nI_pos' (by omega)
  unfold wpX_cell
  refine ss_xas1 ?_ hc ⟨fun z => absurd z (by decide), fun _ => ?_⟩
  · rcases ht with h | ⟨j, m, a, b, d, -⟩
    · exact Or.inl h
    · exact Or.inr ⟨j, a, b, d⟩
  · rcases ht with rfl | ⟨j, m, hj, rfl, ho, hm, hm8⟩
    · refine ⟨fun z => absurd z (by decide), fun _ => ⟨fun _ => ?_, fun z => absurd (by decide) z⟩⟩
      exact ss_xti (Or.inr ⟨rfl, fin _ fun z hz => h z (Or.inl ⟨rfl, hz⟩)⟩)
    · refine ⟨fun _ => ss_xcf hj hm hm8 ?_, fun z => absurd (nI_pos' (by omega)) z⟩
      rcases ss_cfS (cr := a_changed) (r := r) (m := m) (k := 8 * j) with ⟨e, hno⟩ | ⟨i, i1, i2, i3, i4⟩
      · rw [e]
        refine ⟨fun _ => ?_, fun z => absurd (by decide) z⟩
        exact ss_xti (Or.inl ⟨j, hj, rfl, fin _ fun z hz => h z (Or.inr ⟨j, m, hj, rfl, hm, hm8, Or.inl ⟨hno, hz⟩⟩)⟩)
      · have H := h _ (Or.inr ⟨j, m, hj, rfl, hm, hm8, Or.inr ⟨i, i1, i2, i3, i4, rfl⟩⟩)
        rw [i4]
        simp (disch := omega) only [wX_cell_27, ss_a0, ss_b0, ss_c0, ss_d0, ss_e0, ss_a1, ss_b1, ss_c1, ss_d1, ss_e1, ss_a2, ss_b2, ss_c2, ss_d2, ss_e2, ss_a3, ss_b3, ss_c3, ss_d3, ss_e3, ss_a4, ss_b4, ss_c4, ss_d4, ss_e4, ss_a5, ss_b5, ss_c5, ss_d5, ss_e5, ss_a8, ss_b8, ss_c8, ss_d8, ss_e8, ss_a32, ss_b32, ss_c32, ss_d32, ss_e32, ss_a40, ss_b40, ss_c40, ss_d40, ss_e40, ss_a48, ss_b48, ss_c48, ss_d48, ss_e48, ss_a64, ss_b64, ss_c64, ss_d64, ss_e64, ss_m2, ss_m3, ss_m4, ss_m8, ss_p2, ss_p3, ss_p4, ss_p8, ss_48p, ss_in, nI_add, nI_1, nI_clamp, nI_leI, nI_ltI, nI_eq, forall_eq, true_and, and_true]
        refine ⟨fun z => absurd z (by omega), fun _ => ⟨by omega, fun z => ⟨by omega, ?_⟩, fun z => ?_⟩⟩
        · rw [if_pos z] at H; exact H
        · rw [if_neg z] at H; exact H
theorem ss_yce {post : Int64 → Prop} {t r : Int32} {c : Nat} (hnv : nv ≤ 56) (hc : c < 3)
    (h : ∀ z, ss_cz (ss_ls (ss_ve a_vRow a_vFrom a_vTo a_vInt) nv) cl a_start a_changes a_changed a_change a_gone t r c z → post z)
    (ht : t = -1 ∨ ∃ j m, j < 4 ∧ t = nI j ∧ ¬ a_open j = 0 ∧ a_changes j = nI m ∧ m ≤ 8) : wpY_cell post (nI nv, nI cl, nI rw, f_seen, a_vRow, a_vFrom, a_vTo, a_vInt, a_open, a_start, a_changes, a_changed, a_fresh, a_gone, a_change, a_column, a_low, a_high, a_sRow, a_sInt, a_kept) t r (nI c) := by
  have fin : ∀ time, (∀ z, ss_vz (ss_ls (ss_ve a_vRow a_vFrom a_vTo a_vInt) nv) r time c z → post z) → wY_cell_95 post (nI c) time r (nI nv) (nI cl) (nI rw) f_seen a_vRow a_vFrom a_vTo a_vInt a_open a_start a_changes a_changed a_fresh a_gone a_change a_column a_low a_high a_sRow a_sInt a_kept := by
    intro time H
    unfold wY_cell_95
    refine ss_yva hnv fun v hv => ?_
    rcases hv with ⟨rfl, hno⟩ | ⟨i, hi, rfl, er, hh⟩
    · exact ⟨fun z => absurd z (by decide), fun _ => H _ (Or.inl ⟨rfl, hno⟩)⟩
    · have := H _ (Or.inr ⟨_, ss_lsI hi, er, hh, rfl⟩)
      rw [show (ss_ve a_vRow a_vFrom a_vTo a_vInt i).2.2.2 = ss_tr a_vInt i from rfl, ss_ctr _ _ hc] at this
      simp (disch := omega) only [ss_a0, ss_b0, ss_c0, ss_d0, ss_e0, ss_a1, ss_b1, ss_c1, ss_d1, ss_e1, ss_a2, ss_b2, ss_c2, ss_d2, ss_e2, ss_a3, ss_b3, ss_c3, ss_d3, ss_e3, ss_a4, ss_b4, ss_c4, ss_d4, ss_e4, ss_a5, ss_b5, ss_c5, ss_d5, ss_e5, ss_a8, ss_b8, ss_c8, ss_d8, ss_e8, ss_a32, ss_b32, ss_c32, ss_d32, ss_e32, ss_a40, ss_b40, ss_c40, ss_d40, ss_e40, ss_a48, ss_b48, ss_c48, ss_d48, ss_e48, ss_a64, ss_b64, ss_c64, ss_d64, ss_e64, ss_m2, ss_m3, ss_m4, ss_m8, ss_p2, ss_p3, ss_p4, ss_p8, ss_48p, ss_in, nI_add, nI_1, nI_clamp, nI_leI, nI_ltI, nI_eq, forall_eq, true_and, and_true]
      exact ⟨fun _ => ⟨by omega, this⟩, fun z => absurd (Nat.zero_le _) z⟩
  have k13 : wY_cell_13 post t r (nI c) (nI nv) (nI cl) (nI rw) f_seen a_vRow a_vFrom a_vTo a_vInt a_open a_start a_changes a_changed a_fresh a_gone a_change a_column a_low a_high a_sRow a_sInt a_kept := by
    simp (disch := omega) only [wY_cell_13, ss_yw, ss_a0, ss_b0, ss_c0, ss_d0, ss_e0, ss_a1, ss_b1, ss_c1, ss_d1, ss_e1, ss_a2, ss_b2, ss_c2, ss_d2, ss_e2, ss_a3, ss_b3, ss_c3, ss_d3, ss_e3, ss_a4, ss_b4, ss_c4, ss_d4, ss_e4, ss_a5, ss_b5, ss_c5, ss_d5, ss_e5, ss_a8, ss_b8, ss_c8, ss_d8, ss_e8, ss_a32, ss_b32, ss_c32, ss_d32, ss_e32, ss_a40, ss_b40, ss_c40, ss_d40, ss_e40, ss_a48, ss_b48, ss_c48, ss_d48, ss_e48, ss_a64, ss_b64, ss_c64, ss_d64, ss_e64, ss_m2, ss_m3, ss_m4, ss_m8, ss_p2, ss_p3, ss_p4, ss_p8, ss_48p, ss_in, nI_add, nI_1, nI_clamp, nI_leI, nI_ltI, nI_eq, forall_eq, true_and, and_true, Nat.zero_le, hc, decide_true, Bool.and_self, ss_bt]
    refine ⟨fun z => absurd z (by decide), fun _ => ?_⟩
    rcases ht with rfl | ⟨j, m, hj, rfl, ho, hm, hm8⟩
    · refine ⟨fun z => absurd z (by decide), fun _ => ⟨fun _ => ⟨fun z => absurd z (by decide), fun _ => fin _ fun z hz => h z (Or.inl ⟨rfl, hz⟩)⟩, fun z => absurd (by decide) z⟩⟩
    · refine ⟨fun _ => ss_ycf hj hm hm8 ?_, fun z => absurd (nI_pos' (by omega)) z⟩
      rcases ss_cfS (cr := a_changed) (r := r) (m := m) (k := 8 * j) with ⟨e, hno⟩ | ⟨i, i1, i2, i3, i4⟩
      · rw [e]
        simp (disch := omega) only [wY_cell_40, ss_a0, ss_b0, ss_c0, ss_d0, ss_e0, ss_a1, ss_b1, ss_c1, ss_d1, ss_e1, ss_a2, ss_b2, ss_c2, ss_d2, ss_e2, ss_a3, ss_b3, ss_c3, ss_d3, ss_e3, ss_a4, ss_b4, ss_c4, ss_d4, ss_e4, ss_a5, ss_b5, ss_c5, ss_d5, ss_e5, ss_a8, ss_b8, ss_c8, ss_d8, ss_e8, ss_a32, ss_b32, ss_c32, ss_d32, ss_e32, ss_a40, ss_b40, ss_c40, ss_d40, ss_e40, ss_a48, ss_b48, ss_c48, ss_d48, ss_e48, ss_a64, ss_b64, ss_c64, ss_d64, ss_e64, ss_m2, ss_m3, ss_m4, ss_m8, ss_p2, ss_p3, ss_p4, ss_p8, ss_48p, ss_in, nI_add, nI_1, nI_clamp, nI_leI, nI_ltI, nI_eq, forall_eq, true_and, and_true, ss_n1lt]
        exact ⟨fun _ => ⟨fun _ => ⟨hj, fin _ fun z hz => h z (Or.inr ⟨j, m, hj, rfl, hm, hm8, Or.inl ⟨hno, hz⟩⟩)⟩, fun z => absurd (Nat.zero_le _) z⟩, fun z => absurd trivial z⟩
      · have H := h _ (Or.inr ⟨j, m, hj, rfl, hm, hm8, Or.inr ⟨i, i1, i2, i3, i4, rfl⟩⟩)
        rw [i4]
        simp (disch := omega) only [wY_cell_40, ss_a0, ss_b0, ss_c0, ss_d0, ss_e0, ss_a1, ss_b1, ss_c1, ss_d1, ss_e1, ss_a2, ss_b2, ss_c2, ss_d2, ss_e2, ss_a3, ss_b3, ss_c3, ss_d3, ss_e3, ss_a4, ss_b4, ss_c4, ss_d4, ss_e4, ss_a5, ss_b5, ss_c5, ss_d5, ss_e5, ss_a8, ss_b8, ss_c8, ss_d8, ss_e8, ss_a32, ss_b32, ss_c32, ss_d32, ss_e32, ss_a40, ss_b40, ss_c40, ss_d40, ss_e40, ss_a48, ss_b48, ss_c48, ss_d48, ss_e48, ss_a64, ss_b64, ss_c64, ss_d64, ss_e64, ss_m2, ss_m3, ss_m4, ss_m8, ss_p2, ss_p3, ss_p4, ss_p8, ss_48p, ss_in, nI_add, nI_1, nI_clamp, nI_leI, nI_ltI, nI_eq, forall_eq, true_and, and_true]
        refine ⟨fun z => absurd z (by omega), fun _ => ⟨by omega, fun z => ⟨by omega, ?_⟩, fun z => ?_⟩⟩
        · rw [if_pos z] at H; exact H
        · rw [if_neg z] at H; exact H
  rcases ht with rfl | ⟨j, m, hj, rfl, ho, hm, hm8⟩
  · exact ⟨fun _ => k13, fun z => absurd rfl z⟩
  · exact ⟨fun _ => k13, fun _ => ss_yo1 hj ho ⟨fun z => absurd z (by decide), fun _ => k13⟩⟩
theorem ss_yce0 {post : Int64 → Prop} {t r c : Int32} (hno : (ss_cls a_open t ∧ ¬ t = -1) ∨ ¬ (decide (0 ≤ c) && decide (c < 3)) = true) (h : post 10000000000) : wpY_cell post (nI nv, nI cl, nI rw, f_seen, a_vRow, a_vFrom, a_vTo, a_vInt, a_open, a_start, a_changes, a_changed, a_fresh, a_gone, a_change, a_column, a_low, a_high, a_sRow, a_sInt, a_kept) t r c := by
  have k0 : ¬ (decide (0 ≤ c) && decide (c < 3)) = true → wY_cell_13 post t r c (nI nv) (nI cl) (nI rw) f_seen a_vRow a_vFrom a_vTo a_vInt a_open a_start a_changes a_changed a_fresh a_gone a_change a_column a_low a_high a_sRow a_sInt a_kept := by
    intro hb
    rw [Bool.not_eq_true] at hb
    simp only [wY_cell_13, ss_yw, hb, ss_bf]
    exact ⟨fun _ => h, fun z => absurd trivial z⟩
  rcases hno with ⟨hc, hn⟩ | hb
  · exact ⟨fun z => absurd z hn, fun _ => ss_yo0 hc ⟨fun _ => h, fun z => absurd rfl z⟩⟩
  · refine ⟨fun _ => k0 hb, fun _ => ?_⟩
    rcases ss_oc a_open t with hc | ⟨j, hj, rfl, ho⟩
    · exact ss_yo0 hc ⟨fun _ => h, fun z => absurd rfl z⟩
    · exact ss_yo1 hj ho ⟨fun z => absurd z (by decide), fun _ => k0 hb⟩
end
section
variable {cl rw : Nat} {op st chs cr ch gone : Nat → Int32} {A B : List ss_V}
theorem ss_vzu (WA : ss_Wf cl rw A) (WB : ss_Wf cl rw B) (P : List.Perm (A.filter (ss_lv (nI cl) op st (-1))) (B.filter (ss_lv (nI cl) op st (-1)))) {time r : Int32} {c : Nat} {z z' : Int64} (ht : time = nI cl ∨ ∃ j, j < 4 ∧ ¬ op j = 0 ∧ time = st j)
    (h1 : ss_vz A r time c z) (h2 : ss_vz B r time c z') : z' = z := by
  have hl : ∀ x : ss_V, ss_h x.2.1 x.2.2.1 time = true → ss_lv (nI cl) op st (-1) x = true := by
    intro x hx
    rcases ht with rfl | ⟨j, hj, ho, rfl⟩
    · exact ss_lvC hx
    · exact ss_lvO hj ho hx
  rcases h1 with ⟨e1, n1⟩ | ⟨x, hx, er, hh, e1⟩
  · rcases h2 with ⟨e2, -⟩ | ⟨y, hy, er, hh, -⟩
    · rw [e1, e2]
    · have hm := P.mem_iff.mpr (List.mem_filter.mpr ⟨hy, hl _ hh⟩)
      exact (n1 _ (List.mem_filter.mp hm).1 er hh).elim
  · have hm := (List.mem_filter.mp (P.mem_iff.mp (List.mem_filter.mpr ⟨hx, hl _ hh⟩))).1
    rcases h2 with ⟨-, n2⟩ | ⟨y, hy, er', hh', e2⟩
    · exact (n2 x hm er hh).elim
    · rw [e1, e2, ss_uq WB hy hm (er'.trans er.symm) hh' hh]
theorem ss_czu (WA : ss_Wf cl rw A) (WB : ss_Wf cl rw B) (P : List.Perm (A.filter (ss_lv (nI cl) op st (-1))) (B.filter (ss_lv (nI cl) op st (-1)))) {t r : Int32} {c : Nat} {z z' : Int64} (ht : t = -1 ∨ ∃ j, j < 4 ∧ t = nI j ∧ ¬ op j = 0)
    (h1 : ss_cz A cl st chs cr ch gone t r c z) (h2 : ss_cz B cl st chs cr ch gone t r c z') : z' = z := by
  have nm : ∀ j, j < 4 → ¬ t = -1 ∨ ¬ t = nI j := by
    intro j hj
    by_cases e : t = nI j
    · refine Or.inl ?_
      rw [e, ss_n1e (by omega)]; exact id
    · exact Or.inr e
  rcases h1 with ⟨e1, v1⟩ | ⟨j, m, hj, e1, hm, hm8, h1⟩
  · rcases h2 with ⟨-, v2⟩ | ⟨j', -, hj', e2, -⟩
    · exact ss_vzu WA WB P (Or.inl rfl) v1 v2
    · rcases nm j' hj' with h | h
      · exact absurd e1 h
      · exact absurd e2 h
  · rcases h2 with ⟨e2, -⟩ | ⟨j', m', hj', e2, hm', hm8', h2⟩
    · rcases nm j hj with h | h
      · exact absurd e2 h
      · exact absurd e1 h
    · have := (nI_eq (by omega) (by omega)).mp (e1.symm.trans e2)
      subst this
      have := (nI_eq (by omega) (by omega)).mp (hm.symm.trans hm')
      subst this
      have ho : ¬ op j = 0 := by
        rcases ht with h | ⟨j2, hj2, e, ho⟩
        · rcases nm j hj with h' | h'
          · exact absurd h h'
          · exact absurd e1 h'
        · have := (nI_eq (by omega) (by omega)).mp (e1.symm.trans e)
          subst this; exact ho
      rcases h1 with ⟨n1, v1⟩ | ⟨i, i1, i2, i3, i4, i5⟩
      · rcases h2 with ⟨-, v2⟩ | ⟨i', i1', i2', i3', -⟩
        · exact ss_vzu WA WB P (Or.inr ⟨j, hj, ho, rfl⟩) v1 v2
        · exact absurd i3' (n1 i' i1' i2')
      · rcases h2 with ⟨n2, -⟩ | ⟨i', i1', i2', i3', i4', i5'⟩
        · exact absurd i3 (n2 i i1 i2)
        · have := (nI_eq (by omega) (by omega)).mp (i4.symm.trans i4')
          subst this
          rw [i5, i5']
end
theorem ss_tm {cl rw : Nat} {op st chs cr cow : Nat → Int32} {t : Int32} (T : ss_Tb cl rw op st chs cr cow) (ht : t = -1 ∨ ∃ j, j < 4 ∧ t = nI j ∧ ¬ op j = 0) : t = -1 ∨ ∃ j m, j < 4 ∧ t = nI j ∧ ¬ op j = 0 ∧ chs j = nI m ∧ m ≤ 8 := by
  rcases ht with h | ⟨j, hj, e, ho⟩
  · exact Or.inl h
  · obtain ⟨-, m, hm8, hm, -⟩ := T j hj ho
    exact Or.inr ⟨j, m, hj, e, ho, hm, hm8⟩
theorem i_vc_cell {k : Nat} {u : SX} {v : SY} (I : i_Rel k u v) (hk : k + 6 ≤ 3072) (v1 : Int32) (v2 : Int32) (v3 : Int32) : wpX_cell (fun r => wpY_cell (fun r' => r' = r ∧ i_Rel (k + 6) u v) v v1 v2 v3) u v1 v2 v3 := by
  refine ss_re (P := fun u v => wpX_cell (fun r => wpY_cell (fun r' => r' = r ∧ i_Rel (k + 6) u v) v v1 v2 v3) u v1 v2 v3) ?_ I
  intro sg na N cl rw nv wv f_kept f_many f_seen a_row a_from a_to a_held a_sort a_bits a_base a_least a_greatest a_words a_dictionary a_dRow a_dFrom a_dTo a_dValue a_wRow a_wFrom a_wTo a_wValue a_open a_start a_changed a_change a_changes a_fresh a_gone a_column a_low a_high a_found a_value a_vRow a_vFrom a_vTo a_vInt a_sRow a_sInt a_kept R
  have same : i_Rel (k + 6) (nI sg, nI na, f_kept, nI cl, nI rw, f_many, a_row, a_from, a_to, a_held, a_sort, a_bits, a_base, a_least, a_greatest, a_words, a_dictionary, a_dRow, a_dFrom, a_dTo, a_dValue, a_wRow, a_wFrom, a_wTo, a_wValue, a_open, a_start, a_changed, a_change, a_changes, a_fresh, a_gone, a_column, a_low, a_high, a_found, a_value) (nI nv, nI cl, nI rw, f_seen, a_vRow, a_vFrom, a_vTo, a_vInt, a_open, a_start, a_changes, a_changed, a_fresh, a_gone, a_change, a_column, a_low, a_high, a_sRow, a_sInt, a_kept) := ss_ri sg na N cl rw nv wv f_kept f_many f_seen a_row a_from a_to a_held a_sort a_bits a_base a_least a_greatest a_words a_dictionary a_dRow a_dFrom a_dTo a_dValue a_wRow a_wFrom a_wTo a_wValue a_open a_start a_changed a_change a_changes a_fresh a_gone a_column a_low a_high a_found a_value a_vRow a_vFrom a_vTo a_vInt a_sRow a_sInt a_kept (ss_rup sg na N cl rw nv wv f_kept f_many f_seen a_row a_from a_to a_held a_sort a_bits a_base a_least a_greatest a_words a_dictionary a_dRow a_dFrom a_dTo a_dValue a_wRow a_wFrom a_wTo a_wValue a_open a_start a_changed a_change a_changes a_fresh a_gone a_column a_low a_high a_found a_value a_vRow a_vFrom a_vTo a_vInt a_sRow a_sInt a_kept (by omega) R)
  obtain ⟨r1, r2, r3, r4, r5, r6, r7, r8, r9, r10, r11, r12, r13, r14⟩ := R
  rcases ss_ask (op := a_open) v1 v3 with ⟨ht, c, hc, rfl⟩ | ⟨hc, hn⟩ | ⟨ht, hb, hb'⟩
  · exact ss_xce r3 r4 r5 hc (fun z hz => ss_yce (by omega) hc (fun z' hz' => ⟨ss_czu r8 r9 r13 ht hz hz', same⟩) (ss_tm r10 ht)) (ss_tm r10 ht)
  · unfold wpX_cell
    exact ss_xas0 (Or.inl ⟨hc, hn⟩) ⟨fun _ => ss_yce0 (Or.inl ⟨hc, hn⟩) ⟨rfl, same⟩, fun z => absurd rfl z⟩
  · unfold wpX_cell
    exact ss_xas0 (Or.inr hb) ⟨fun _ => ss_yce0 (Or.inr hb') ⟨rfl, same⟩, fun z => absurd rfl z⟩
end
section
section
variable {f_segments f_added f_kept f_clock f_rows f_many : Int32} {a_row a_from a_to a_held a_sort a_bits a_base a_least a_greatest a_dictionary a_dRow a_dFrom a_dTo a_dValue a_wRow a_wFrom a_wTo a_wValue a_open a_start a_changed a_change a_changes a_fresh a_gone a_column a_low a_high a_found a_value : Nat → Int32} {a_words : Nat → Int64}
variable {f_versions f_seen : Int32} {a_vRow a_vFrom a_vTo a_vInt a_sRow a_sInt a_kept : Nat → Int32}
variable {sg na cl rw nv N t c : Nat} {wv : Nat → Int32} {r : Int32}
theorem ss_xto_f {post : Int32 → SX → Prop} {i : Nat} (ht : t < 4) (hc : a_changes t = nI c) (hc8 : c ≤ 8) (hi : i < 8 * t + c) (e : ss_cf a_changed r (8 * t) c = nI i) (h0 : a_gone i = 0 → post (nI i) (nI sg, nI na, f_kept, nI cl, nI rw, f_many, a_row, a_from, a_to, a_held, a_sort, a_bits, a_base, a_least, a_greatest, a_words, a_dictionary, a_dRow, a_dFrom, a_dTo, a_dValue, a_wRow, a_wFrom, a_wTo, a_wValue, a_open, a_start, a_changed, a_change, a_changes, a_fresh, a_gone, a_column, a_low, a_high, a_found, a_value)) (h1 : ¬ a_gone i = 0 → post (-1) (nI sg, nI na, f_kept, nI cl, nI rw, f_many, a_row, a_from, a_to, a_held, a_sort, a_bits, a_base, a_least, a_greatest, a_words, a_dictionary, a_dRow, a_dFrom, a_dTo, a_dValue, a_wRow, a_wFrom, a_wTo, a_wValue, a_open, a_start, a_changed, a_change, a_changes, a_fresh, a_gone, a_column, a_low, a_high, a_found, a_value)) : wpX_touch post (nI sg, nI na, f_kept, nI cl, nI rw, f_many, a_row, a_from, a_to, a_held, a_sort, a_bits, a_base, a_least, a_greatest, a_words, a_dictionary, a_dRow, a_dFrom, a_dTo, a_dValue, a_wRow, a_wFrom, a_wTo, a_wValue, a_open, a_start, a_changed, a_change, a_changes, a_fresh, a_gone, a_column, a_low, a_high, a_found, a_value) (nI t) r := by
  unfold wpX_touch
  refine ss_xcf ht hc hc8 ?_
  rw [e]
  simp (disch := omega) only [ss_a0, ss_b0, ss_c0, ss_d0, ss_e0, ss_a1, ss_b1, ss_c1, ss_d1, ss_e1, ss_a2, ss_b2, ss_c2, ss_d2, ss_e2, ss_a3, ss_b3, ss_c3, ss_d3, ss_e3, ss_a4, ss_b4, ss_c4, ss_d4, ss_e4, ss_a5, ss_b5, ss_c5, ss_d5, ss_e5, ss_a8, ss_b8, ss_c8, ss_d8, ss_e8, ss_a32, ss_b32, ss_c32, ss_d32, ss_e32, ss_a40, ss_b40, ss_c40, ss_d40, ss_e40, ss_a48, ss_b48, ss_c48, ss_d48, ss_e48, ss_a64, ss_b64, ss_c64, ss_d64, ss_e64, ss_m2, ss_m3, ss_m4, ss_m8, ss_p2, ss_p3, ss_p4, ss_p8, ss_48p, ss_in, nI_add, nI_1, nI_clamp, nI_leI, nI_ltI, nI_eq, forall_eq, true_and, and_true]
  exact ⟨fun z => absurd z (by omega), fun _ => ⟨by omega, h0, h1⟩⟩
theorem ss_xto_n {post : Int32 → SX → Prop} (S : ss_Seg sg N a_held a_row) (C : ss_Cols sg N a_sort a_bits a_base a_least a_greatest a_words a_dictionary wv) (hna : na ≤ 32) (ht : t < 4) (hc : a_changes t = nI c) (hc8 : c ≤ 8) (e : ss_cf a_changed r (8 * t) c = -1)
    (h0 : (∀ x, x ∈ ss_ls (ss_ve a_row a_from a_to wv) N ++ ss_ls (ss_ve a_dRow a_dFrom a_dTo a_dValue) na → x.1 = r → ss_h x.2.1 x.2.2.1 (a_start t) = true → False) → post (-1) (nI sg, nI na, f_kept, nI cl, nI rw, f_many, a_row, a_from, a_to, a_held, a_sort, a_bits, a_base, a_least, a_greatest, a_words, a_dictionary, a_dRow, a_dFrom, a_dTo, a_dValue, a_wRow, a_wFrom, a_wTo, a_wValue, a_open, a_start, a_changed, a_change, a_changes, a_fresh, a_gone, a_column, a_low, a_high, a_found, a_value))
    (h8 : c = 8 → (∃ x, x ∈ ss_ls (ss_ve a_row a_from a_to wv) N ++ ss_ls (ss_ve a_dRow a_dFrom a_dTo a_dValue) na ∧ x.1 = r ∧ ss_h x.2.1 x.2.2.1 (a_start t) = true) → post (-3) (nI sg, nI na, f_kept, nI cl, nI rw, f_many, a_row, a_from, a_to, a_held, a_sort, a_bits, a_base, a_least, a_greatest, a_words, a_dictionary, a_dRow, a_dFrom, a_dTo, a_dValue, a_wRow, a_wFrom, a_wTo, a_wValue, a_open, a_start, a_changed, a_change, a_changes, a_fresh, a_gone, a_column, a_low, a_high, a_found, a_value))
    (h : c < 8 → ∀ x, x ∈ ss_ls (ss_ve a_row a_from a_to wv) N ++ ss_ls (ss_ve a_dRow a_dFrom a_dTo a_dValue) na → x.1 = r → ss_h x.2.1 x.2.2.1 (a_start t) = true →
      post (nI (8 * t + c)) (nI sg, nI na, f_kept, nI cl, nI rw, f_many, a_row, a_from, a_to, a_held, a_sort, a_bits, a_base, a_least, a_greatest, a_words, a_dictionary, a_dRow, a_dFrom, a_dTo, a_dValue, a_wRow, a_wFrom, a_wTo, a_wValue, a_open, a_start, upd a_changed (8 * t + c) r, upd (upd (upd a_change (3 * (8 * t + c)) x.2.2.2.1) (3 * (8 * t + c) + 1) x.2.2.2.2.1) (3 * (8 * t + c) + 2) x.2.2.2.2.2, upd a_changes t (nI (c + 1)), upd a_fresh (8 * t + c) 0, upd a_gone (8 * t + c) 0, a_column, a_low, a_high, a_found, a_value)) : wpX_touch post (nI sg, nI na, f_kept, nI cl, nI rw, f_many, a_row, a_from, a_to, a_held, a_sort, a_bits, a_base, a_least, a_greatest, a_words, a_dictionary, a_dRow, a_dFrom, a_dTo, a_dValue, a_wRow, a_wFrom, a_wTo, a_wValue, a_open, a_start, a_changed, a_change, a_changes, a_fresh, a_gone, a_column, a_low, a_high, a_found, a_value) (nI t) r := by
  have hN := S.1
  unfold wpX_touch
  refine ss_xcf ht hc hc8 ?_
  rw [e]
  simp (disch := omega) only [ss_a0, ss_b0, ss_c0, ss_d0, ss_e0, ss_a1, ss_b1, ss_c1, ss_d1, ss_e1, ss_a2, ss_b2, ss_c2, ss_d2, ss_e2, ss_a3, ss_b3, ss_c3, ss_d3, ss_e3, ss_a4, ss_b4, ss_c4, ss_d4, ss_e4, ss_a5, ss_b5, ss_c5, ss_d5, ss_e5, ss_a8, ss_b8, ss_c8, ss_d8, ss_e8, ss_a32, ss_b32, ss_c32, ss_d32, ss_e32, ss_a40, ss_b40, ss_c40, ss_d40, ss_e40, ss_a48, ss_b48, ss_c48, ss_d48, ss_e48, ss_a64, ss_b64, ss_c64, ss_d64, ss_e64, ss_m2, ss_m3, ss_m4, ss_m8, ss_p2, ss_p3, ss_p4, ss_p8, ss_48p, ss_in, nI_add, nI_1, nI_clamp, nI_leI, nI_ltI, nI_eq, forall_eq, true_and, and_true, ss_n1lt]
  refine ⟨fun _ => ⟨ht, ss_xva (wv := wv) S hna fun v hv => ?_⟩, fun z => absurd trivial z⟩
  rcases hv with ⟨rfl, hno⟩ | ⟨x, hx, hvx, er, hh⟩
  · exact ⟨fun z => absurd z (by decide), fun _ => h0 hno⟩
  · have hv0 : 0 ≤ v := by
      rcases hvx with ⟨i, hi, rfl, -⟩ | ⟨i, hi, rfl, -⟩
      · exact nI_pos' (by omega)
      · exact nI_pos' (by omega)
    refine ⟨fun _ => ⟨ht, ?_⟩, fun z => absurd hv0 z⟩
    by_cases e8 : c = 8
    · simp (disch := omega) only [ss_a0, ss_b0, ss_c0, ss_d0, ss_e0, ss_a1, ss_b1, ss_c1, ss_d1, ss_e1, ss_a2, ss_b2, ss_c2, ss_d2, ss_e2, ss_a3, ss_b3, ss_c3, ss_d3, ss_e3, ss_a4, ss_b4, ss_c4, ss_d4, ss_e4, ss_a5, ss_b5, ss_c5, ss_d5, ss_e5, ss_a8, ss_b8, ss_c8, ss_d8, ss_e8, ss_a32, ss_b32, ss_c32, ss_d32, ss_e32, ss_a40, ss_b40, ss_c40, ss_d40, ss_e40, ss_a48, ss_b48, ss_c48, ss_d48, ss_e48, ss_a64, ss_b64, ss_c64, ss_d64, ss_e64, ss_m2, ss_m3, ss_m4, ss_m8, ss_p2, ss_p3, ss_p4, ss_p8, ss_48p, ss_in, nI_add, nI_1, nI_clamp, nI_leI, nI_ltI, nI_eq, forall_eq, true_and, and_true, hc]
      exact ⟨fun _ => h8 e8 ⟨x, hx, er, hh⟩, fun z => absurd e8 z⟩
    · have eb := ss_by8 (c + 1) (by omega)
      simp (disch := omega) only [ss_a0, ss_b0, ss_c0, ss_d0, ss_e0, ss_a1, ss_b1, ss_c1, ss_d1, ss_e1, ss_a2, ss_b2, ss_c2, ss_d2, ss_e2, ss_a3, ss_b3, ss_c3, ss_d3, ss_e3, ss_a4, ss_b4, ss_c4, ss_d4, ss_e4, ss_a5, ss_b5, ss_c5, ss_d5, ss_e5, ss_a8, ss_b8, ss_c8, ss_d8, ss_e8, ss_a32, ss_b32, ss_c32, ss_d32, ss_e32, ss_a40, ss_b40, ss_c40, ss_d40, ss_e40, ss_a48, ss_b48, ss_c48, ss_d48, ss_e48, ss_a64, ss_b64, ss_c64, ss_d64, ss_e64, ss_m2, ss_m3, ss_m4, ss_m8, ss_p2, ss_p3, ss_p4, ss_p8, ss_48p, ss_in, nI_add, nI_1, nI_clamp, nI_leI, nI_ltI, nI_eq, forall_eq, true_and, and_true, hc, eb, ss_nb0]
      refine ⟨fun z => absurd z e8, fun _ => ⟨ht, ht, by omega, by omega, by omega, 4, ?_⟩⟩
      have st : ∀ f d (ch : Nat → Int32), d < 3 → wX_touch_102 post (nI (8 * t + c)) v (nI sg) (nI na) f_kept (nI cl) (nI rw) f_many f (nI (d + 1)) a_row a_from a_to a_held a_sort a_bits a_base a_least a_greatest a_words a_dictionary a_dRow a_dFrom a_dTo a_dValue a_wRow a_wFrom a_wTo a_wValue a_open a_start (upd a_changed (8 * t + c) r) (upd ch (3 * (8 * t + c) + d) (ss_c x.2.2.2 d)) (upd a_changes t (nI (c + 1))) (upd a_fresh (8 * t + c) 0) (upd a_gone (8 * t + c) 0) a_column a_low a_high a_found a_value →
          wX_touch_102 post (nI (8 * t + c)) v (nI sg) (nI na) f_kept (nI cl) (nI rw) f_many (f + 1) (nI d) a_row a_from a_to a_held a_sort a_bits a_base a_least a_greatest a_words a_dictionary a_dRow a_dFrom a_dTo a_dValue a_wRow a_wFrom a_wTo a_wValue a_open a_start (upd a_changed (8 * t + c) r) ch (upd a_changes t (nI (c + 1))) (upd a_fresh (8 * t + c) 0) (upd a_gone (8 * t + c) 0) a_column a_low a_high a_found a_value := by
        intro f d ch hd hn
        simp (disch := omega) only [wX_touch_102, ss_a0, ss_b0, ss_c0, ss_d0, ss_e0, ss_a1, ss_b1, ss_c1, ss_d1, ss_e1, ss_a2, ss_b2, ss_c2, ss_d2, ss_e2, ss_a3, ss_b3, ss_c3, ss_d3, ss_e3, ss_a4, ss_b4, ss_c4, ss_d4, ss_e4, ss_a5, ss_b5, ss_c5, ss_d5, ss_e5, ss_a8, ss_b8, ss_c8, ss_d8, ss_e8, ss_a32, ss_b32, ss_c32, ss_d32, ss_e32, ss_a40, ss_b40, ss_c40, ss_d40, ss_e40, ss_a48, ss_b48, ss_c48, ss_d48, ss_e48, ss_a64, ss_b64, ss_c64, ss_d64, ss_e64, ss_m2, ss_m3, ss_m4, ss_m8, ss_p2, ss_p3, ss_p4, ss_p8, ss_48p, ss_in, nI_add, nI_1, nI_clamp, nI_leI, nI_ltI, nI_eq, forall_eq, true_and, and_true]
        exact ⟨fun z => absurd z (by omega), fun _ => ss_xvl (wv := wv) S C hna hd hvx ⟨by omega, hn⟩⟩
      have l3 : ∀ f (ch : Nat → Int32), post (nI (8 * t + c)) (nI sg, nI na, f_kept, nI cl, nI rw, f_many, a_row, a_from, a_to, a_held, a_sort, a_bits, a_base, a_least, a_greatest, a_words, a_dictionary, a_dRow, a_dFrom, a_dTo, a_dValue, a_wRow, a_wFrom, a_wTo, a_wValue, a_open, a_start, upd a_changed (8 * t + c) r, ch, upd a_changes t (nI (c + 1)), upd a_fresh (8 * t + c) 0, upd a_gone (8 * t + c) 0, a_column, a_low, a_high, a_found, a_value) → wX_touch_102 post (nI (8 * t + c)) v (nI sg) (nI na) f_kept (nI cl) (nI rw) f_many (f + 1) (nI 3) a_row a_from a_to a_held a_sort a_bits a_base a_least a_greatest a_words a_dictionary a_dRow a_dFrom a_dTo a_dValue a_wRow a_wFrom a_wTo a_wValue a_open a_start (upd a_changed (8 * t + c) r) ch (upd a_changes t (nI (c + 1))) (upd a_fresh (8 * t + c) 0) (upd a_gone (8 * t + c) 0) a_column a_low a_high a_found a_value := by
        intro f ch hp
        simp (disch := omega) only [wX_touch_102, ss_a0, ss_b0, ss_c0, ss_d0, ss_e0, ss_a1, ss_b1, ss_c1, ss_d1, ss_e1, ss_a2, ss_b2, ss_c2, ss_d2, ss_e2, ss_a3, ss_b3, ss_c3, ss_d3, ss_e3, ss_a4, ss_b4, ss_c4, ss_d4, ss_e4, ss_a5, ss_b5, ss_c5, ss_d5, ss_e5, ss_a8, ss_b8, ss_c8, ss_d8, ss_e8, ss_a32, ss_b32, ss_c32, ss_d32, ss_e32, ss_a40, ss_b40, ss_c40, ss_d40, ss_e40, ss_a48, ss_b48, ss_c48, ss_d48, ss_e48, ss_a64, ss_b64, ss_c64, ss_d64, ss_e64, ss_m2, ss_m3, ss_m4, ss_m8, ss_p2, ss_p3, ss_p4, ss_p8, ss_48p, ss_in, nI_add, nI_1, nI_clamp, nI_leI, nI_ltI, nI_eq, forall_eq, true_and, and_true]
        exact ⟨fun _ => hp, fun z => absurd (Nat.le_refl 3) z⟩
      exact st 3 0 _ (by omega) (st 2 1 _ (by omega) (st 1 2 _ (by omega) (l3 0 _ (h (by omega) x hx er hh))))
theorem ss_yse_f {post : Int32 → Prop} {i : Nat} (ht : t < 4) (hc : a_changes t = nI c) (hc8 : c ≤ 8) (hi : i < 8 * t + c) (e : ss_cf a_changed r (8 * t) c = nI i) (h0 : a_gone i = 0 → post 1) (h1 : ¬ a_gone i = 0 → post 0) : wpY_sees post (nI nv, nI cl, nI rw, f_seen, a_vRow, a_vFrom, a_vTo, a_vInt, a_open, a_start, a_changes, a_changed, a_fresh, a_gone, a_change, a_column, a_low, a_high, a_sRow, a_sInt, a_kept) (nI t) r := by
  unfold wpY_sees
  refine ss_ycf ht hc hc8 ?_
  rw [e]
  simp (disch := omega) only [ss_a0, ss_b0, ss_c0, ss_d0, ss_e0, ss_a1, ss_b1, ss_c1, ss_d1, ss_e1, ss_a2, ss_b2, ss_c2, ss_d2, ss_e2, ss_a3, ss_b3, ss_c3, ss_d3, ss_e3, ss_a4, ss_b4, ss_c4, ss_d4, ss_e4, ss_a5, ss_b5, ss_c5, ss_d5, ss_e5, ss_a8, ss_b8, ss_c8, ss_d8, ss_e8, ss_a32, ss_b32, ss_c32, ss_d32, ss_e32, ss_a40, ss_b40, ss_c40, ss_d40, ss_e40, ss_a48, ss_b48, ss_c48, ss_d48, ss_e48, ss_a64, ss_b64, ss_c64, ss_d64, ss_e64, ss_m2, ss_m3, ss_m4, ss_m8, ss_p2, ss_p3, ss_p4, ss_p8, ss_48p, ss_in, nI_add, nI_1, nI_clamp, nI_leI, nI_ltI, nI_eq, forall_eq, true_and, and_true]
  exact ⟨fun z => absurd z (by omega), fun _ => ⟨by omega, h0, h1⟩⟩
theorem ss_yse_n {post : Int32 → Prop} (hnv : nv ≤ 56) (ht : t < 4) (hc : a_changes t = nI c) (hc8 : c ≤ 8) (e : ss_cf a_changed r (8 * t) c = -1)
    (h0 : (∀ x, x ∈ ss_ls (ss_ve a_vRow a_vFrom a_vTo a_vInt) nv → x.1 = r → ss_h x.2.1 x.2.2.1 (a_start t) = true → False) → post 0)
    (h1 : ∀ x, x ∈ ss_ls (ss_ve a_vRow a_vFrom a_vTo a_vInt) nv → x.1 = r → ss_h x.2.1 x.2.2.1 (a_start t) = true → post 1) : wpY_sees post (nI nv, nI cl, nI rw, f_seen, a_vRow, a_vFrom, a_vTo, a_vInt, a_open, a_start, a_changes, a_changed, a_fresh, a_gone, a_change, a_column, a_low, a_high, a_sRow, a_sInt, a_kept) (nI t) r := by
  unfold wpY_sees
  refine ss_ycf ht hc hc8 ?_
  rw [e]
  simp (disch := omega) only [ss_a0, ss_b0, ss_c0, ss_d0, ss_e0, ss_a1, ss_b1, ss_c1, ss_d1, ss_e1, ss_a2, ss_b2, ss_c2, ss_d2, ss_e2, ss_a3, ss_b3, ss_c3, ss_d3, ss_e3, ss_a4, ss_b4, ss_c4, ss_d4, ss_e4, ss_a5, ss_b5, ss_c5, ss_d5, ss_e5, ss_a8, ss_b8, ss_c8, ss_d8, ss_e8, ss_a32, ss_b32, ss_c32, ss_d32, ss_e32, ss_a40, ss_b40, ss_c40, ss_d40, ss_e40, ss_a48, ss_b48, ss_c48, ss_d48, ss_e48, ss_a64, ss_b64, ss_c64, ss_d64, ss_e64, ss_m2, ss_m3, ss_m4, ss_m8, ss_p2, ss_p3, ss_p4, ss_p8, ss_48p, ss_in, nI_add, nI_1, nI_clamp, nI_leI, nI_ltI, nI_eq, forall_eq, true_and, and_true, ss_n1lt]
  refine ⟨fun _ => ⟨ht, ss_yva hnv fun v hv => ?_⟩, fun z => absurd trivial z⟩
  rcases hv with ⟨rfl, hno⟩ | ⟨i, hi, rfl, er, hh⟩
  · exact ⟨fun _ => h0 hno, fun z => absurd (by decide) z⟩
  · exact ⟨fun z => absurd z (nI_pos (by omega)), fun _ => h1 _ (ss_lsI hi) er hh⟩
theorem ss_ych_f {post : Int32 → SY → Prop} {i : Nat} (ht : t < 4) (hc : a_changes t = nI c) (hc8 : c ≤ 8) (hi : i < 8 * t + c) (e : ss_cf a_changed r (8 * t) c = nI i) (h : post (nI i) (nI nv, nI cl, nI rw, f_seen, a_vRow, a_vFrom, a_vTo, a_vInt, a_open, a_start, a_changes, a_changed, a_fresh, a_gone, a_change, a_column, a_low, a_high, a_sRow, a_sInt, a_kept)) : wpY_changed post (nI nv, nI cl, nI rw, f_seen, a_vRow, a_vFrom, a_vTo, a_vInt, a_open, a_start, a_changes, a_changed, a_fresh, a_gone, a_change, a_column, a_low, a_high, a_sRow, a_sInt, a_kept) (nI t) r := by
  unfold wpY_changed
  refine ss_ycf ht hc hc8 ?_
  rw [e]
  exact ⟨fun z => absurd z (nI_pos (by omega)), fun _ => h⟩
theorem ss_ych_n {post : Int32 → SY → Prop} (hnv : nv ≤ 56) (ht : t < 4) (hc : a_changes t = nI c) (hc8 : c ≤ 8) (e : ss_cf a_changed r (8 * t) c = -1) (hex : ∃ x, x ∈ ss_ls (ss_ve a_vRow a_vFrom a_vTo a_vInt) nv ∧ x.1 = r ∧ ss_h x.2.1 x.2.2.1 (a_start t) = true)
    (h8 : c = 8 → post (-3) (nI nv, nI cl, nI rw, f_seen, a_vRow, a_vFrom, a_vTo, a_vInt, a_open, a_start, a_changes, a_changed, a_fresh, a_gone, a_change, a_column, a_low, a_high, a_sRow, a_sInt, a_kept))
    (h : c < 8 → ∀ x, x ∈ ss_ls (ss_ve a_vRow a_vFrom a_vTo a_vInt) nv → x.1 = r → ss_h x.2.1 x.2.2.1 (a_start t) = true →
      post (nI (8 * t + c)) (nI nv, nI cl, nI rw, f_seen, a_vRow, a_vFrom, a_vTo, a_vInt, a_open, a_start, upd a_changes t (nI (c + 1)), upd a_changed (8 * t + c) r, upd a_fresh (8 * t + c) 0, upd a_gone (8 * t + c) 0, upd (upd (upd a_change (3 * (8 * t + c)) x.2.2.2.1) (3 * (8 * t + c) + 1) x.2.2.2.2.1) (3 * (8 * t + c) + 2) x.2.2.2.2.2, a_column, a_low, a_high, a_sRow, a_sInt, a_kept)) : wpY_changed post (nI nv, nI cl, nI rw, f_seen, a_vRow, a_vFrom, a_vTo, a_vInt, a_open, a_start, a_changes, a_changed, a_fresh, a_gone, a_change, a_column, a_low, a_high, a_sRow, a_sInt, a_kept) (nI t) r := by
  unfold wpY_changed
  refine ss_ycf ht hc hc8 ?_
  rw [e]
  by_cases e8 : c = 8
  · simp (disch := omega) only [ss_a0, ss_b0, ss_c0, ss_d0, ss_e0, ss_a1, ss_b1, ss_c1, ss_d1, ss_e1, ss_a2, ss_b2, ss_c2, ss_d2, ss_e2, ss_a3, ss_b3, ss_c3, ss_d3, ss_e3, ss_a4, ss_b4, ss_c4, ss_d4, ss_e4, ss_a5, ss_b5, ss_c5, ss_d5, ss_e5, ss_a8, ss_b8, ss_c8, ss_d8, ss_e8, ss_a32, ss_b32, ss_c32, ss_d32, ss_e32, ss_a40, ss_b40, ss_c40, ss_d40, ss_e40, ss_a48, ss_b48, ss_c48, ss_d48, ss_e48, ss_a64, ss_b64, ss_c64, ss_d64, ss_e64, ss_m2, ss_m3, ss_m4, ss_m8, ss_p2, ss_p3, ss_p4, ss_p8, ss_48p, ss_in, nI_add, nI_1, nI_clamp, nI_leI, nI_ltI, nI_eq, forall_eq, true_and, and_true, ss_n1lt, hc]
    exact ⟨fun _ => ⟨ht, fun _ => h8 e8, fun z => absurd e8 z⟩, fun z => absurd trivial z⟩
  · simp (disch := omega) only [ss_a0, ss_b0, ss_c0, ss_d0, ss_e0, ss_a1, ss_b1, ss_c1, ss_d1, ss_e1, ss_a2, ss_b2, ss_c2, ss_d2, ss_e2, ss_a3, ss_b3, ss_c3, ss_d3, ss_e3, ss_a4, ss_b4, ss_c4, ss_d4, ss_e4, ss_a5, ss_b5, ss_c5, ss_d5, ss_e5, ss_a8, ss_b8, ss_c8, ss_d8, ss_e8, ss_a32, ss_b32, ss_c32, ss_d32, ss_e32, ss_a40, ss_b40, ss_c40, ss_d40, ss_e40, ss_a48, ss_b48, ss_c48, ss_d48, ss_e48, ss_a64, ss_b64, ss_c64, ss_d64, ss_e64, ss_m2, ss_m3, ss_m4, ss_m8, ss_p2, ss_p3, ss_p4, ss_p8, ss_48p, ss_in, nI_add, nI_1, nI_clamp, nI_leI, nI_ltI, nI_eq, forall_eq, true_and, and_true, ss_n1lt, hc, ss_nb0]
    refine ⟨fun _ => ⟨ht, fun z => absurd z e8, fun _ => ⟨ht, ht, ht, ss_yva hnv fun v hv => ?_⟩⟩, fun z => absurd trivial z⟩
    rcases hv with ⟨rfl, hno⟩ | ⟨i, hi, rfl, er, hh⟩
    · obtain ⟨x, h1, h2, h3⟩ := hex
      exact (hno x h1 h2 h3).elim
    · have hp := h (by omega) _ (ss_lsI hi) er hh
      refine ⟨by omega, by omega, by omega, 4, ?_⟩
      have st : ∀ f d (ch : Nat → Int32), d < 3 → wY_changed_81 post (nI (8 * t + c)) (nI i) (nI nv) (nI cl) (nI rw) f_seen f (nI (d + 1)) a_vRow a_vFrom a_vTo a_vInt a_open a_start (upd a_changes t (nI (c + 1))) (upd a_changed (8 * t + c) r) (upd a_fresh (8 * t + c) 0) (upd a_gone (8 * t + c) 0) (upd ch (3 * (8 * t + c) + d) (a_vInt (3 * i + d))) a_column a_low a_high a_sRow a_sInt a_kept →
          wY_changed_81 post (nI (8 * t + c)) (nI i) (nI nv) (nI cl) (nI rw) f_seen (f + 1) (nI d) a_vRow a_vFrom a_vTo a_vInt a_open a_start (upd a_changes t (nI (c + 1))) (upd a_changed (8 * t + c) r) (upd a_fresh (8 * t + c) 0) (upd a_gone (8 * t + c) 0) ch a_column a_low a_high a_sRow a_sInt a_kept := by
        intro f d ch hd hn
        simp (disch := omega) only [wY_changed_81, ss_a0, ss_b0, ss_c0, ss_d0, ss_e0, ss_a1, ss_b1, ss_c1, ss_d1, ss_e1, ss_a2, ss_b2, ss_c2, ss_d2, ss_e2, ss_a3, ss_b3, ss_c3, ss_d3, ss_e3, ss_a4, ss_b4, ss_c4, ss_d4, ss_e4, ss_a5, ss_b5, ss_c5, ss_d5, ss_e5, ss_a8, ss_b8, ss_c8, ss_d8, ss_e8, ss_a32, ss_b32, ss_c32, ss_d32, ss_e32, ss_a40, ss_b40, ss_c40, ss_d40, ss_e40, ss_a48, ss_b48, ss_c48, ss_d48, ss_e48, ss_a64, ss_b64, ss_c64, ss_d64, ss_e64, ss_m2, ss_m3, ss_m4, ss_m8, ss_p2, ss_p3, ss_p4, ss_p8, ss_48p, ss_in, nI_add, nI_1, nI_clamp, nI_leI, nI_ltI, nI_eq, forall_eq, true_and, and_true]
        exact ⟨fun z => absurd z (by omega), fun _ => ⟨by omega, by omega, hn⟩⟩
      have l3 : ∀ f (ch : Nat → Int32), post (nI (8 * t + c)) (nI nv, nI cl, nI rw, f_seen, a_vRow, a_vFrom, a_vTo, a_vInt, a_open, a_start, upd a_changes t (nI (c + 1)), upd a_changed (8 * t + c) r, upd a_fresh (8 * t + c) 0, upd a_gone (8 * t + c) 0, ch, a_column, a_low, a_high, a_sRow, a_sInt, a_kept) → wY_changed_81 post (nI (8 * t + c)) (nI i) (nI nv) (nI cl) (nI rw) f_seen (f + 1) (nI 3) a_vRow a_vFrom a_vTo a_vInt a_open a_start (upd a_changes t (nI (c + 1))) (upd a_changed (8 * t + c) r) (upd a_fresh (8 * t + c) 0) (upd a_gone (8 * t + c) 0) ch a_column a_low a_high a_sRow a_sInt a_kept := by
        intro f ch hp
        simp (disch := omega) only [wY_changed_81, ss_a0, ss_b0, ss_c0, ss_d0, ss_e0, ss_a1, ss_b1, ss_c1, ss_d1, ss_e1, ss_a2, ss_b2, ss_c2, ss_d2, ss_e2, ss_a3, ss_b3, ss_c3, ss_d3, ss_e3, ss_a4, ss_b4, ss_c4, ss_d4, ss_e4, ss_a5, ss_b5, ss_c5, ss_d5, ss_e5, ss_a8, ss_b8, ss_c8, ss_d8, ss_e8, ss_a32, ss_b32, ss_c32, ss_d32, ss_e32, ss_a40, ss_b40, ss_c40, ss_d40, ss_e40, ss_a48, ss_b48, ss_c48, ss_d48, ss_e48, ss_a64, ss_b64, ss_c64, ss_d64, ss_e64, ss_m2, ss_m3, ss_m4, ss_m8, ss_p2, ss_p3, ss_p4, ss_p8, ss_48p, ss_in, nI_add, nI_1, nI_clamp, nI_leI, nI_ltI, nI_eq, forall_eq, true_and, and_true]
        exact ⟨fun _ => hp, fun z => absurd (Nat.le_refl 3) z⟩
      exact st 3 0 _ (by omega) (st 2 1 _ (by omega) (st 1 2 _ (by omega) (l3 0 _ hp)))
end
/-- both sides look for a change of a row, or make one -/
theorem ss_tch {k t : Nat} {r : Int32} (sg : Nat) (na : Nat) (N : Nat) (cl : Nat) (rw : Nat) (nv : Nat) (wv : Nat → Int32) (f_kept : Int32) (f_many : Int32) (f_seen : Int32) (a_row : Nat → Int32) (a_from : Nat → Int32) (a_to : Nat → Int32) (a_held : Nat → Int32) (a_sort : Nat → Int32) (a_bits : Nat → Int32) (a_base : Nat → Int32) (a_least : Nat → Int32) (a_greatest : Nat → Int32) (a_words : Nat → Int64) (a_dictionary : Nat → Int32) (a_dRow : Nat → Int32) (a_dFrom : Nat → Int32) (a_dTo : Nat → Int32) (a_dValue : Nat → Int32) (a_wRow : Nat → Int32) (a_wFrom : Nat → Int32) (a_wTo : Nat → Int32) (a_wValue : Nat → Int32) (a_open : Nat → Int32) (a_start : Nat → Int32) (a_changed : Nat → Int32) (a_change : Nat → Int32) (a_changes : Nat → Int32) (a_fresh : Nat → Int32) (a_gone : Nat → Int32) (a_column : Nat → Int32) (a_low : Nat → Int32) (a_high : Nat → Int32) (a_found : Nat → Int32) (a_value : Nat → Int32) (a_vRow : Nat → Int32) (a_vFrom : Nat → Int32) (a_vTo : Nat → Int32) (a_vInt : Nat → Int32) (a_sRow : Nat → Int32) (a_sInt : Nat → Int32) (a_kept : Nat → Int32) (hk : k + 6 ≤ 3072) (ht : t < 4) (ho : ¬ a_open t = 0) (R : ss_RR k sg na N cl rw nv wv a_row a_from a_to a_held a_sort a_bits a_base a_least a_greatest a_words a_dictionary a_dRow a_dFrom a_dTo a_dValue a_open a_start a_changed a_change a_changes a_fresh a_gone a_column a_low a_high a_vRow a_vFrom a_vTo a_vInt) :
    ((∀ post : Int32 → SX → Prop, post (-1) (nI sg, nI na, f_kept, nI cl, nI rw, f_many, a_row, a_from, a_to, a_held, a_sort, a_bits, a_base, a_least, a_greatest, a_words, a_dictionary, a_dRow, a_dFrom, a_dTo, a_dValue, a_wRow, a_wFrom, a_wTo, a_wValue, a_open, a_start, a_changed, a_change, a_changes, a_fresh, a_gone, a_column, a_low, a_high, a_found, a_value) → wpX_touch post (nI sg, nI na, f_kept, nI cl, nI rw, f_many, a_row, a_from, a_to, a_held, a_sort, a_bits, a_base, a_least, a_greatest, a_words, a_dictionary, a_dRow, a_dFrom, a_dTo, a_dValue, a_wRow, a_wFrom, a_wTo, a_wValue, a_open, a_start, a_changed, a_change, a_changes, a_fresh, a_gone, a_column, a_low, a_high, a_found, a_value) (nI t) r) ∧ (∀ post : Int32 → Prop, post 0 → wpY_sees post (nI nv, nI cl, nI rw, f_seen, a_vRow, a_vFrom, a_vTo, a_vInt, a_open, a_start, a_changes, a_changed, a_fresh, a_gone, a_change, a_column, a_low, a_high, a_sRow, a_sInt, a_kept) (nI t) r)) ∨
    ((∀ post : Int32 → SX → Prop, post (-3) (nI sg, nI na, f_kept, nI cl, nI rw, f_many, a_row, a_from, a_to, a_held, a_sort, a_bits, a_base, a_least, a_greatest, a_words, a_dictionary, a_dRow, a_dFrom, a_dTo, a_dValue, a_wRow, a_wFrom, a_wTo, a_wValue, a_open, a_start, a_changed, a_change, a_changes, a_fresh, a_gone, a_column, a_low, a_high, a_found, a_value) → wpX_touch post (nI sg, nI na, f_kept, nI cl, nI rw, f_many, a_row, a_from, a_to, a_held, a_sort, a_bits, a_base, a_least, a_greatest, a_words, a_dictionary, a_dRow, a_dFrom, a_dTo, a_dValue, a_wRow, a_wFrom, a_wTo, a_wValue, a_open, a_start, a_changed, a_change, a_changes, a_fresh, a_gone, a_column, a_low, a_high, a_found, a_value) (nI t) r) ∧ (∀ post : Int32 → Prop, post 1 → wpY_sees post (nI nv, nI cl, nI rw, f_seen, a_vRow, a_vFrom, a_vTo, a_vInt, a_open, a_start, a_changes, a_changed, a_fresh, a_gone, a_change, a_column, a_low, a_high, a_sRow, a_sInt, a_kept) (nI t) r) ∧ (∀ post : Int32 → SY → Prop, post (-3) (nI nv, nI cl, nI rw, f_seen, a_vRow, a_vFrom, a_vTo, a_vInt, a_open, a_start, a_changes, a_changed, a_fresh, a_gone, a_change, a_column, a_low, a_high, a_sRow, a_sInt, a_kept) → wpY_changed post (nI nv, nI cl, nI rw, f_seen, a_vRow, a_vFrom, a_vTo, a_vInt, a_open, a_start, a_changes, a_changed, a_fresh, a_gone, a_change, a_column, a_low, a_high, a_sRow, a_sInt, a_kept) (nI t) r)) ∨
    (∃ i, i < 32 ∧ (∀ post : Int32 → SX → Prop, post (nI i) (nI sg, nI na, f_kept, nI cl, nI rw, f_many, a_row, a_from, a_to, a_held, a_sort, a_bits, a_base, a_least, a_greatest, a_words, a_dictionary, a_dRow, a_dFrom, a_dTo, a_dValue, a_wRow, a_wFrom, a_wTo, a_wValue, a_open, a_start, a_changed, a_change, a_changes, a_fresh, a_gone, a_column, a_low, a_high, a_found, a_value) → wpX_touch post (nI sg, nI na, f_kept, nI cl, nI rw, f_many, a_row, a_from, a_to, a_held, a_sort, a_bits, a_base, a_least, a_greatest, a_words, a_dictionary, a_dRow, a_dFrom, a_dTo, a_dValue, a_wRow, a_wFrom, a_wTo, a_wValue, a_open, a_start, a_changed, a_change, a_changes, a_fresh, a_gone, a_column, a_low, a_high, a_found, a_value) (nI t) r) ∧ (∀ post : Int32 → Prop, post 1 → wpY_sees post (nI nv, nI cl, nI rw, f_seen, a_vRow, a_vFrom, a_vTo, a_vInt, a_open, a_start, a_changes, a_changed, a_fresh, a_gone, a_change, a_column, a_low, a_high, a_sRow, a_sInt, a_kept) (nI t) r) ∧ (∀ post : Int32 → SY → Prop, post (nI i) (nI nv, nI cl, nI rw, f_seen, a_vRow, a_vFrom, a_vTo, a_vInt, a_open, a_start, a_changes, a_changed, a_fresh, a_gone, a_change, a_column, a_low, a_high, a_sRow, a_sInt, a_kept) → wpY_changed post (nI nv, nI cl, nI rw, f_seen, a_vRow, a_vFrom, a_vTo, a_vInt, a_open, a_start, a_changes, a_changed, a_fresh, a_gone, a_change, a_column, a_low, a_high, a_sRow, a_sInt, a_kept) (nI t) r)) ∨
    (∃ i chs' cr' cow' gone' ch', i < 32 ∧ ss_RR (k + 6) sg na N cl rw nv wv a_row a_from a_to a_held a_sort a_bits a_base a_least a_greatest a_words a_dictionary a_dRow a_dFrom a_dTo a_dValue a_open a_start cr' ch' chs' cow' gone' a_column a_low a_high a_vRow a_vFrom a_vTo a_vInt ∧
      (∀ post : Int32 → SX → Prop, post (nI i) (nI sg, nI na, f_kept, nI cl, nI rw, f_many, a_row, a_from, a_to, a_held, a_sort, a_bits, a_base, a_least, a_greatest, a_words, a_dictionary, a_dRow, a_dFrom, a_dTo, a_dValue, a_wRow, a_wFrom, a_wTo, a_wValue, a_open, a_start, cr', ch', chs', cow', gone', a_column, a_low, a_high, a_found, a_value) → wpX_touch post (nI sg, nI na, f_kept, nI cl, nI rw, f_many, a_row, a_from, a_to, a_held, a_sort, a_bits, a_base, a_least, a_greatest, a_words, a_dictionary, a_dRow, a_dFrom, a_dTo, a_dValue, a_wRow, a_wFrom, a_wTo, a_wValue, a_open, a_start, a_changed, a_change, a_changes, a_fresh, a_gone, a_column, a_low, a_high, a_found, a_value) (nI t) r) ∧ (∀ post : Int32 → Prop, post 1 → wpY_sees post (nI nv, nI cl, nI rw, f_seen, a_vRow, a_vFrom, a_vTo, a_vInt, a_open, a_start, a_changes, a_changed, a_fresh, a_gone, a_change, a_column, a_low, a_high, a_sRow, a_sInt, a_kept) (nI t) r) ∧ (∀ post : Int32 → SY → Prop, post (nI i) (nI nv, nI cl, nI rw, f_seen, a_vRow, a_vFrom, a_vTo, a_vInt, a_open, a_start, chs', cr', cow', gone', ch', a_column, a_low, a_high, a_sRow, a_sInt, a_kept) → wpY_changed post (nI nv, nI cl, nI rw, f_seen, a_vRow, a_vFrom, a_vTo, a_vInt, a_open, a_start, a_changes, a_changed, a_fresh, a_gone, a_change, a_column, a_low, a_high, a_sRow, a_sInt, a_kept) (nI t) r)) := by
  obtain ⟨r1, r2, r3, r4, r5, r6, r7, r8, r9, r10, r11, r12, r13, r14⟩ := R
  obtain ⟨-, c, hc8, hc, -⟩ := r10 t ht ho
  have hnv : nv ≤ 56 := by omega
  rcases ss_cfS (cr := a_changed) (r := r) (m := c) (k := 8 * t) with ⟨e, hno⟩ | ⟨i, i1, i2, i3, i4⟩
  · by_cases hex : ∃ x, x ∈ ss_ls (ss_ve a_row a_from a_to wv) N ++ ss_ls (ss_ve a_dRow a_dFrom a_dTo a_dValue) na ∧ x.1 = r ∧ ss_h x.2.1 x.2.2.1 (a_start t) = true
    · obtain ⟨x, hx, er, hh⟩ := hex
      have hxy : x ∈ ss_ls (ss_ve a_vRow a_vFrom a_vTo a_vInt) nv := (List.mem_filter.mp (r13.mem_iff.mp (List.mem_filter.mpr ⟨hx, ss_lvO ht ho hh⟩))).1
      have ux : ∀ y, y ∈ ss_ls (ss_ve a_row a_from a_to wv) N ++ ss_ls (ss_ve a_dRow a_dFrom a_dTo a_dValue) na → y.1 = r → ss_h y.2.1 y.2.2.1 (a_start t) = true → y = x := fun y hy ey hhy => ss_uq r8 hy hx (ey.trans er.symm) hhy hh
      have uy : ∀ y, y ∈ ss_ls (ss_ve a_vRow a_vFrom a_vTo a_vInt) nv → y.1 = r → ss_h y.2.1 y.2.2.1 (a_start t) = true → y = x := fun y hy ey hhy => ss_uq r9 hy hxy (ey.trans er.symm) hhy hh
      by_cases e8 : c = 8
      · refine Or.inr (Or.inl ⟨fun post hp => ss_xto_n r3 r4 r5 ht hc hc8 e (fun z => (z x hx er hh).elim) (fun _ _ => hp) (fun z => by omega), fun post hp => ss_yse_n hnv ht hc hc8 e (fun z => (z x hxy er hh).elim) (fun _ _ _ _ => hp), fun post hp => ss_ych_n hnv ht hc hc8 e ⟨x, hxy, er, hh⟩ (fun _ => hp) (fun z => by omega)⟩)
      · refine Or.inr (Or.inr (Or.inr ⟨8 * t + c, upd a_changes t (nI (c + 1)), upd a_changed (8 * t + c) r, upd a_fresh (8 * t + c) 0, upd a_gone (8 * t + c) 0, upd (upd (upd a_change (3 * (8 * t + c)) x.2.2.2.1) (3 * (8 * t + c) + 1) x.2.2.2.2.1) (3 * (8 * t + c) + 2) x.2.2.2.2.2, by omega, ?_, fun post hp => ?_, fun post hp => ?_, fun post hp => ?_⟩))
        · obtain ⟨⟨r0, hr0, er0⟩, -⟩ := r8.1 x hx
          refine ⟨by omega, by omega, r3, r4, r5, r6, r7, r8, r9, ss_G4b r10 ht hc (by omega) (Nat.le_refl _) ⟨r0, hr0, er.symm.trans er0⟩ (fun i hi => hno (8 * t + i) (by omega) (by omega)) (fun z => absurd rfl z), ss_G4l r11 hc (by omega) (fun _ => ⟨x, hx, er, hh⟩) (fun z => absurd rfl z), ss_G4l r12 hc (by omega) (fun _ => ⟨x, hxy, er, hh⟩) (fun z => absurd rfl z), r13, r14⟩
        · refine ss_xto_n r3 r4 r5 ht hc hc8 e (fun z => (z x hx er hh).elim) (fun z _ => absurd z e8) (fun _ y hy ey hhy => ?_)
          rw [ux y hy ey hhy]; exact hp
        · exact ss_yse_n hnv ht hc hc8 e (fun z => (z x hxy er hh).elim) (fun _ _ _ _ => hp)
        · refine ss_ych_n hnv ht hc hc8 e ⟨x, hxy, er, hh⟩ (fun z => absurd z e8) (fun _ y hy ey hhy => ?_)
          rw [uy y hy ey hhy]; exact hp
    · refine Or.inl ⟨fun post hp => ss_xto_n r3 r4 r5 ht hc hc8 e (fun _ => hp) (fun _ z => absurd z hex) (fun _ x hx er hh => absurd ⟨x, hx, er, hh⟩ hex), fun post hp => ss_yse_n hnv ht hc hc8 e (fun _ => hp) (fun x hx er hh => ?_)⟩
      exact absurd ⟨x, (List.mem_filter.mp (r13.mem_iff.mpr (List.mem_filter.mpr ⟨hx, ss_lvO ht ho hh⟩))).1, er, hh⟩ hex
  · by_cases g0 : a_gone i = 0
    · exact Or.inr (Or.inr (Or.inl ⟨i, by omega, fun post hp => ss_xto_f ht hc hc8 i2 i4 (fun _ => hp) (fun z => absurd g0 z), fun post hp => ss_yse_f ht hc hc8 i2 i4 (fun _ => hp) (fun z => absurd g0 z), fun post hp => ss_ych_f ht hc hc8 i2 i4 hp⟩))
    · exact Or.inl ⟨fun post hp => ss_xto_f ht hc hc8 i2 i4 (fun z => absurd z g0) (fun _ => hp), fun post hp => ss_yse_f ht hc hc8 i2 i4 (fun z => absurd z g0) (fun _ => hp)⟩
theorem i_vc_update {k : Nat} {u : SX} {v : SY} (I : i_Rel k u v) (hk : k + 6 ≤ 3072) (v1 : Int32) (v2 : Int32) (v3 : Int32) (v4 : Int32) : wpX_update (fun r u' => wpY_update (fun r' v' => r' = r ∧ i_Rel (k + 6) u' v') v v1 v2 v3 v4) u v1 v2 v3 v4 := by
  refine ss_re (P := fun u v => wpX_update (fun r u' => wpY_update (fun r' v' => r' = r ∧ i_Rel (k + 6) u' v') v v1 v2 v3 v4) u v1 v2 v3 v4) ?_ I
  intro sg na N cl rw nv wv f_kept f_many f_seen a_row a_from a_to a_held a_sort a_bits a_base a_least a_greatest a_words a_dictionary a_dRow a_dFrom a_dTo a_dValue a_wRow a_wFrom a_wTo a_wValue a_open a_start a_changed a_change a_changes a_fresh a_gone a_column a_low a_high a_found a_value a_vRow a_vFrom a_vTo a_vInt a_sRow a_sInt a_kept R
  have same : i_Rel (k + 6) (nI sg, nI na, f_kept, nI cl, nI rw, f_many, a_row, a_from, a_to, a_held, a_sort, a_bits, a_base, a_least, a_greatest, a_words, a_dictionary, a_dRow, a_dFrom, a_dTo, a_dValue, a_wRow, a_wFrom, a_wTo, a_wValue, a_open, a_start, a_changed, a_change, a_changes, a_fresh, a_gone, a_column, a_low, a_high, a_found, a_value) (nI nv, nI cl, nI rw, f_seen, a_vRow, a_vFrom, a_vTo, a_vInt, a_open, a_start, a_changes, a_changed, a_fresh, a_gone, a_change, a_column, a_low, a_high, a_sRow, a_sInt, a_kept) := ss_ri sg na N cl rw nv wv f_kept f_many f_seen a_row a_from a_to a_held a_sort a_bits a_base a_least a_greatest a_words a_dictionary a_dRow a_dFrom a_dTo a_dValue a_wRow a_wFrom a_wTo a_wValue a_open a_start a_changed a_change a_changes a_fresh a_gone a_column a_low a_high a_found a_value a_vRow a_vFrom a_vTo a_vInt a_sRow a_sInt a_kept (ss_rup sg na N cl rw nv wv f_kept f_many f_seen a_row a_from a_to a_held a_sort a_bits a_base a_least a_greatest a_words a_dictionary a_dRow a_dFrom a_dTo a_dValue a_wRow a_wFrom a_wTo a_wValue a_open a_start a_changed a_change a_changes a_fresh a_gone a_column a_low a_high a_found a_value a_vRow a_vFrom a_vTo a_vInt a_sRow a_sInt a_kept (by omega) R)
  have n1 : ¬ (1 : Int32) = 0 := by decide
  rcases ss_oc a_open v1 with hc | ⟨t, ht, rfl, ho⟩
  · unfold wpX_update
    refine ss_xo0 hc ⟨fun _ => ?_, fun z => absurd rfl z⟩
    unfold wpY_update
    exact ss_yo0 hc ⟨fun _ => ⟨rfl, same⟩, fun z => absurd rfl z⟩
  · have T := ss_tch (r := v2) sg na N cl rw nv wv f_kept f_many f_seen a_row a_from a_to a_held a_sort a_bits a_base a_least a_greatest a_words a_dictionary a_dRow a_dFrom a_dTo a_dValue a_wRow a_wFrom a_wTo a_wValue a_open a_start a_changed a_change a_changes a_fresh a_gone a_column a_low a_high a_found a_value a_vRow a_vFrom a_vTo a_vInt a_sRow a_sInt a_kept hk ht ho R
    unfold wpX_update
    refine ss_xo1 ht ho ⟨fun z => absurd z n1, fun _ => ?_⟩
    rw [ss_xw]
    unfold wpY_update
    rcases ss_ask (op := a_open) (-1) v3 with ⟨-, c, hc, rfl⟩ | ⟨-, hn⟩ | ⟨-, hb, hb'⟩
    · have e1 : (decide ((0 : Int32) ≤ nI c) && decide (nI c ≤ 2)) = true := by
        have hc2 : c ≤ 2 := by omega
        simp (disch := omega) only [ss_a0, ss_b0, ss_c0, ss_d0, ss_e0, ss_a1, ss_b1, ss_c1, ss_d1, ss_e1, ss_a2, ss_b2, ss_c2, ss_d2, ss_e2, ss_a3, ss_b3, ss_c3, ss_d3, ss_e3, ss_a4, ss_b4, ss_c4, ss_d4, ss_e4, ss_a5, ss_b5, ss_c5, ss_d5, ss_e5, ss_a8, ss_b8, ss_c8, ss_d8, ss_e8, ss_a32, ss_b32, ss_c32, ss_d32, ss_e32, ss_a40, ss_b40, ss_c40, ss_d40, ss_e40, ss_a48, ss_b48, ss_c48, ss_d48, ss_e48, ss_a64, ss_b64, ss_c64, ss_d64, ss_e64, ss_m2, ss_m3, ss_m4, ss_m8, ss_p2, ss_p3, ss_p4, ss_p8, ss_48p, ss_in, nI_add, nI_1, nI_clamp, nI_leI, nI_ltI, nI_eq, forall_eq, true_and, and_true, Nat.zero_le, hc2, decide_true, Bool.and_self]
      have e2 : (decide ((0 : Int32) ≤ nI c) && decide (nI c < 3)) = true := by
        simp (disch := omega) only [ss_a0, ss_b0, ss_c0, ss_d0, ss_e0, ss_a1, ss_b1, ss_c1, ss_d1, ss_e1, ss_a2, ss_b2, ss_c2, ss_d2, ss_e2, ss_a3, ss_b3, ss_c3, ss_d3, ss_e3, ss_a4, ss_b4, ss_c4, ss_d4, ss_e4, ss_a5, ss_b5, ss_c5, ss_d5, ss_e5, ss_a8, ss_b8, ss_c8, ss_d8, ss_e8, ss_a32, ss_b32, ss_c32, ss_d32, ss_e32, ss_a40, ss_b40, ss_c40, ss_d40, ss_e40, ss_a48, ss_b48, ss_c48, ss_d48, ss_e48, ss_a64, ss_b64, ss_c64, ss_d64, ss_e64, ss_m2, ss_m3, ss_m4, ss_m8, ss_p2, ss_p3, ss_p4, ss_p8, ss_48p, ss_in, nI_add, nI_1, nI_clamp, nI_leI, nI_ltI, nI_eq, forall_eq, true_and, and_true, Nat.zero_le, hc, decide_true, Bool.and_self]
      rw [e1]
      refine ⟨fun z => absurd z n1, fun _ => ?_⟩
      rcases T with ⟨tx, ty⟩ | ⟨tx, ty, tz⟩ | ⟨i, hi, tx, ty, tz⟩ | ⟨i, chs', cr', cow', gone', ch', hi, R', tx, ty, tz⟩
      · exact tx _ ⟨fun z => absurd z (by decide), fun _ => ss_yo1 ht ho ⟨fun z => absurd z n1, fun _ => ty _ ⟨fun _ => ⟨rfl, same⟩, fun z => absurd rfl z⟩⟩⟩
      · refine tx _ ⟨fun z => absurd z (by decide), fun _ => ss_yo1 ht ho ⟨fun z => absurd z n1, fun _ => ty _ ⟨fun z => absurd z n1, fun _ => ?_⟩⟩⟩
        rw [ss_yw, e2]
        exact ⟨fun z => absurd z n1, fun _ => tz _ ⟨fun z => absurd z (by decide), fun _ => ⟨rfl, same⟩⟩⟩
      · refine tx _ ⟨fun _ => ⟨?_, nm_e (ss_yo1 ht ho ⟨fun z => absurd z n1, fun _ => ty _ ⟨fun z => absurd z n1, fun _ => ?_⟩⟩)⟩, fun z => absurd (nI_pos' (by omega)) z⟩
        · simp (disch := omega) only [ss_a0, ss_b0, ss_c0, ss_d0, ss_e0, ss_a1, ss_b1, ss_c1, ss_d1, ss_e1, ss_a2, ss_b2, ss_c2, ss_d2, ss_e2, ss_a3, ss_b3, ss_c3, ss_d3, ss_e3, ss_a4, ss_b4, ss_c4, ss_d4, ss_e4, ss_a5, ss_b5, ss_c5, ss_d5, ss_e5, ss_a8, ss_b8, ss_c8, ss_d8, ss_e8, ss_a32, ss_b32, ss_c32, ss_d32, ss_e32, ss_a40, ss_b40, ss_c40, ss_d40, ss_e40, ss_a48, ss_b48, ss_c48, ss_d48, ss_e48, ss_a64, ss_b64, ss_c64, ss_d64, ss_e64, ss_m2, ss_m3, ss_m4, ss_m8, ss_p2, ss_p3, ss_p4, ss_p8, ss_48p, ss_in, nI_add, nI_1, nI_clamp, nI_leI, nI_ltI, nI_eq, forall_eq, true_and, and_true]; omega
        · rw [ss_yw, e2]
          refine ⟨fun z => absurd z n1, fun _ => tz _ ⟨fun _ => ⟨?_, nm_e ⟨rfl, ?_⟩⟩, fun z => absurd (nI_pos' (by omega)) z⟩⟩
          · simp (disch := omega) only [ss_a0, ss_b0, ss_c0, ss_d0, ss_e0, ss_a1, ss_b1, ss_c1, ss_d1, ss_e1, ss_a2, ss_b2, ss_c2, ss_d2, ss_e2, ss_a3, ss_b3, ss_c3, ss_d3, ss_e3, ss_a4, ss_b4, ss_c4, ss_d4, ss_e4, ss_a5, ss_b5, ss_c5, ss_d5, ss_e5, ss_a8, ss_b8, ss_c8, ss_d8, ss_e8, ss_a32, ss_b32, ss_c32, ss_d32, ss_e32, ss_a40, ss_b40, ss_c40, ss_d40, ss_e40, ss_a48, ss_b48, ss_c48, ss_d48, ss_e48, ss_a64, ss_b64, ss_c64, ss_d64, ss_e64, ss_m2, ss_m3, ss_m4, ss_m8, ss_p2, ss_p3, ss_p4, ss_p8, ss_48p, ss_in, nI_add, nI_1, nI_clamp, nI_leI, nI_ltI, nI_eq, forall_eq, true_and, and_true]; omega
          · exact ss_rj (ss_rup sg na N cl rw nv wv f_kept f_many f_seen a_row a_from a_to a_held a_sort a_bits a_base a_least a_greatest a_words a_dictionary a_dRow a_dFrom a_dTo a_dValue a_wRow a_wFrom a_wTo a_wValue a_open a_start a_changed a_change a_changes a_fresh a_gone a_column a_low a_high a_found a_value a_vRow a_vFrom a_vTo a_vInt a_sRow a_sInt a_kept (show k ≤ k + 6 by omega) R)
      · refine tx _ ⟨fun _ => ⟨?_, nm_e (ss_yo1 ht ho ⟨fun z => absurd z n1, fun _ => ty _ ⟨fun z => absurd z n1, fun _ => ?_⟩⟩)⟩, fun z => absurd (nI_pos' (by omega)) z⟩
        · simp (disch := omega) only [ss_a0, ss_b0, ss_c0, ss_d0, ss_e0, ss_a1, ss_b1, ss_c1, ss_d1, ss_e1, ss_a2, ss_b2, ss_c2, ss_d2, ss_e2, ss_a3, ss_b3, ss_c3, ss_d3, ss_e3, ss_a4, ss_b4, ss_c4, ss_d4, ss_e4, ss_a5, ss_b5, ss_c5, ss_d5, ss_e5, ss_a8, ss_b8, ss_c8, ss_d8, ss_e8, ss_a32, ss_b32, ss_c32, ss_d32, ss_e32, ss_a40, ss_b40, ss_c40, ss_d40, ss_e40, ss_a48, ss_b48, ss_c48, ss_d48, ss_e48, ss_a64, ss_b64, ss_c64, ss_d64, ss_e64, ss_m2, ss_m3, ss_m4, ss_m8, ss_p2, ss_p3, ss_p4, ss_p8, ss_48p, ss_in, nI_add, nI_1, nI_clamp, nI_leI, nI_ltI, nI_eq, forall_eq, true_and, and_true]; omega
        · rw [ss_yw, e2]
          refine ⟨fun z => absurd z n1, fun _ => tz _ ⟨fun _ => ⟨?_, nm_e ⟨rfl, ?_⟩⟩, fun z => absurd (nI_pos' (by omega)) z⟩⟩
          · simp (disch := omega) only [ss_a0, ss_b0, ss_c0, ss_d0, ss_e0, ss_a1, ss_b1, ss_c1, ss_d1, ss_e1, ss_a2, ss_b2, ss_c2, ss_d2, ss_e2, ss_a3, ss_b3, ss_c3, ss_d3, ss_e3, ss_a4, ss_b4, ss_c4, ss_d4, ss_e4, ss_a5, ss_b5, ss_c5, ss_d5, ss_e5, ss_a8, ss_b8, ss_c8, ss_d8, ss_e8, ss_a32, ss_b32, ss_c32, ss_d32, ss_e32, ss_a40, ss_b40, ss_c40, ss_d40, ss_e40, ss_a48, ss_b48, ss_c48, ss_d48, ss_e48, ss_a64, ss_b64, ss_c64, ss_d64, ss_e64, ss_m2, ss_m3, ss_m4, ss_m8, ss_p2, ss_p3, ss_p4, ss_p8, ss_48p, ss_in, nI_add, nI_1, nI_clamp, nI_leI, nI_ltI, nI_eq, forall_eq, true_and, and_true]; omega
          · exact ss_rj R'
    · exact absurd rfl hn
    · rw [Bool.not_eq_true] at hb hb'
      rw [hb]
      refine ⟨fun _ => ss_yo1 ht ho ⟨fun z => absurd z n1, fun _ => ?_⟩, fun z => absurd rfl z⟩
      have am : ∀ post : Int32 → Prop, post 0 → wpY_among post (nI nv, nI cl, nI rw, f_seen, a_vRow, a_vFrom, a_vTo, a_vInt, a_open, a_start, a_changes, a_changed, a_fresh, a_gone, a_change, a_column, a_low, a_high, a_sRow, a_sInt, a_kept) v3 3 := by
        intro post hp
        rw [ss_yw, hb']; exact hp
      rcases T with ⟨-, ty⟩ | ⟨-, ty, -⟩ | ⟨i, -, -, ty, -⟩ | ⟨i, _, _, _, _, _, -, -, -, ty, -⟩
      · exact ty _ ⟨fun _ => ⟨rfl, same⟩, fun z => absurd rfl z⟩
      · exact ty _ ⟨fun z => absurd z n1, fun _ => am _ ⟨fun _ => ⟨rfl, same⟩, fun z => absurd rfl z⟩⟩
      · exact ty _ ⟨fun z => absurd z n1, fun _ => am _ ⟨fun _ => ⟨rfl, same⟩, fun z => absurd rfl z⟩⟩
      · exact ty _ ⟨fun z => absurd z n1, fun _ => am _ ⟨fun _ => ⟨rfl, same⟩, fun z => absurd rfl z⟩⟩
theorem i_vc_remove {k : Nat} {u : SX} {v : SY} (I : i_Rel k u v) (hk : k + 6 ≤ 3072) (v1 : Int32) (v2 : Int32) : wpX_remove (fun r u' => wpY_remove (fun r' v' => r' = r ∧ i_Rel (k + 6) u' v') v v1 v2) u v1 v2 := by
  refine ss_re (P := fun u v => wpX_remove (fun r u' => wpY_remove (fun r' v' => r' = r ∧ i_Rel (k + 6) u' v') v v1 v2) u v1 v2) ?_ I
  intro sg na N cl rw nv wv f_kept f_many f_seen a_row a_from a_to a_held a_sort a_bits a_base a_least a_greatest a_words a_dictionary a_dRow a_dFrom a_dTo a_dValue a_wRow a_wFrom a_wTo a_wValue a_open a_start a_changed a_change a_changes a_fresh a_gone a_column a_low a_high a_found a_value a_vRow a_vFrom a_vTo a_vInt a_sRow a_sInt a_kept R
  have same : i_Rel (k + 6) (nI sg, nI na, f_kept, nI cl, nI rw, f_many, a_row, a_from, a_to, a_held, a_sort, a_bits, a_base, a_least, a_greatest, a_words, a_dictionary, a_dRow, a_dFrom, a_dTo, a_dValue, a_wRow, a_wFrom, a_wTo, a_wValue, a_open, a_start, a_changed, a_change, a_changes, a_fresh, a_gone, a_column, a_low, a_high, a_found, a_value) (nI nv, nI cl, nI rw, f_seen, a_vRow, a_vFrom, a_vTo, a_vInt, a_open, a_start, a_changes, a_changed, a_fresh, a_gone, a_change, a_column, a_low, a_high, a_sRow, a_sInt, a_kept) := ss_ri sg na N cl rw nv wv f_kept f_many f_seen a_row a_from a_to a_held a_sort a_bits a_base a_least a_greatest a_words a_dictionary a_dRow a_dFrom a_dTo a_dValue a_wRow a_wFrom a_wTo a_wValue a_open a_start a_changed a_change a_changes a_fresh a_gone a_column a_low a_high a_found a_value a_vRow a_vFrom a_vTo a_vInt a_sRow a_sInt a_kept (ss_rup sg na N cl rw nv wv f_kept f_many f_seen a_row a_from a_to a_held a_sort a_bits a_base a_least a_greatest a_words a_dictionary a_dRow a_dFrom a_dTo a_dValue a_wRow a_wFrom a_wTo a_wValue a_open a_start a_changed a_change a_changes a_fresh a_gone a_column a_low a_high a_found a_value a_vRow a_vFrom a_vTo a_vInt a_sRow a_sInt a_kept (by omega) R)
  have n1 : ¬ (1 : Int32) = 0 := by decide
  rcases ss_oc a_open v1 with hc | ⟨t, ht, rfl, ho⟩
  · unfold wpX_remove
    refine ss_xo0 hc ⟨fun _ => ?_, fun z => absurd rfl z⟩
    unfold wpY_remove
    exact ss_yo0 hc ⟨fun _ => ⟨rfl, same⟩, fun z => absurd rfl z⟩
  · have T := ss_tch (r := v2) sg na N cl rw nv wv f_kept f_many f_seen a_row a_from a_to a_held a_sort a_bits a_base a_least a_greatest a_words a_dictionary a_dRow a_dFrom a_dTo a_dValue a_wRow a_wFrom a_wTo a_wValue a_open a_start a_changed a_change a_changes a_fresh a_gone a_column a_low a_high a_found a_value a_vRow a_vFrom a_vTo a_vInt a_sRow a_sInt a_kept hk ht ho R
    unfold wpX_remove
    refine ss_xo1 ht ho ⟨fun z => absurd z n1, fun _ => ?_⟩
    unfold wpY_remove
    rcases T with ⟨tx, ty⟩ | ⟨tx, ty, tz⟩ | ⟨i, hi, tx, ty, tz⟩ | ⟨i, chs', cr', cow', gone', ch', hi, R', tx, ty, tz⟩
    · exact tx _ ⟨fun z => absurd z (by decide), fun _ => ss_yo1 ht ho ⟨fun z => absurd z n1, fun _ => ty _ ⟨fun _ => ⟨rfl, same⟩, fun z => absurd rfl z⟩⟩⟩
    · exact tx _ ⟨fun z => absurd z (by decide), fun _ => ss_yo1 ht ho ⟨fun z => absurd z n1, fun _ => ty _ ⟨fun z => absurd z n1, fun _ => tz _ ⟨fun z => absurd z (by decide), fun _ => ⟨rfl, same⟩⟩⟩⟩⟩
    · refine tx _ ⟨fun _ => ⟨vp_in_nI hi (by omega), nm_e (ss_yo1 ht ho ⟨fun z => absurd z n1, fun _ => ty _ ⟨fun z => absurd z n1, fun _ => tz _ ⟨fun _ => ⟨vp_in_nI hi (by omega), nm_e ⟨rfl, ?_⟩⟩, fun z => absurd (nI_pos' (by omega)) z⟩⟩⟩)⟩, fun z => absurd (nI_pos' (by omega)) z⟩
      exact ss_rj (ss_rup sg na N cl rw nv wv f_kept f_many f_seen a_row a_from a_to a_held a_sort a_bits a_base a_least a_greatest a_words a_dictionary a_dRow a_dFrom a_dTo a_dValue a_wRow a_wFrom a_wTo a_wValue a_open a_start a_changed a_change a_changes a_fresh a_gone a_column a_low a_high a_found a_value a_vRow a_vFrom a_vTo a_vInt a_sRow a_sInt a_kept (show k ≤ k + 6 by omega) R)
    · refine tx _ ⟨fun _ => ⟨vp_in_nI hi (by omega), nm_e (ss_yo1 ht ho ⟨fun z => absurd z n1, fun _ => ty _ ⟨fun z => absurd z n1, fun _ => tz _ ⟨fun _ => ⟨vp_in_nI hi (by omega), nm_e ⟨rfl, ?_⟩⟩, fun z => absurd (nI_pos' (by omega)) z⟩⟩⟩)⟩, fun z => absurd (nI_pos' (by omega)) z⟩
      exact ss_rj R'
end
section
section
variable {f_segments f_added f_kept f_clock f_rows f_many : Int32} {a_row a_from a_to a_held a_sort a_bits a_base a_least a_greatest a_dictionary a_dRow a_dFrom a_dTo a_dValue a_wRow a_wFrom a_wTo a_wValue a_open a_start a_changed a_change a_changes a_fresh a_gone a_column a_low a_high a_found a_value : Nat → Int32} {a_words : Nat → Int64}
variable {f_versions f_seen : Int32} {a_vRow a_vFrom a_vTo a_vInt a_sRow a_sInt a_kept : Nat → Int32}
variable {sg na cl rw nv N : Nat} {wv : Nat → Int32}
def ss_on (op : Nat → Int32) : Nat → Nat
  | 0 => 0
  | n + 1 => ss_on op n + (if op n = 0 then 0 else 1)
theorem ss_onL {op : Nat → Int32} : ∀ n, ss_on op n ≤ n := by
  intro n
  induction n with
  | zero => exact Nat.le_refl _
  | succ n ih => rw [ss_on]; split <;> omega
def ss_nvp (x : ss_V) : Bool := decide (x.2.2.1 = 2147483647)
theorem ss_xst3 {post : Int32 → Prop} (h : post (nI (ss_on a_open 4))) : ∃ n54, wX_state_54 post (nI sg) (nI na) f_kept (nI cl) (nI rw) f_many a_row a_from a_to a_held a_sort a_bits a_base a_least a_greatest a_words a_dictionary a_dRow a_dFrom a_dTo a_dValue a_wRow a_wFrom a_wTo a_wValue a_open a_start a_changed a_change a_changes a_fresh a_gone a_column a_low a_high a_found a_value n54 0 0 := by
  have key : ∀ f i, i ≤ 4 → 4 < f + i → wX_state_54 post (nI sg) (nI na) f_kept (nI cl) (nI rw) f_many a_row a_from a_to a_held a_sort a_bits a_base a_least a_greatest a_words a_dictionary a_dRow a_dFrom a_dTo a_dValue a_wRow a_wFrom a_wTo a_wValue a_open a_start a_changed a_change a_changes a_fresh a_gone a_column a_low a_high a_found a_value f (nI (ss_on a_open i)) (nI i) := by
    intro f
    induction f with
    | zero => intro i h1 h2; omega
    | succ f ih =>
      intro i hi hf
      have hl := ss_onL (op := a_open) i
      have st := ih (i + 1)
      rw [ss_on] at st
      simp (disch := omega) only [wX_state_54, ss_a0, ss_b0, ss_c0, ss_d0, ss_e0, ss_a1, ss_b1, ss_c1, ss_d1, ss_e1, ss_a2, ss_b2, ss_c2, ss_d2, ss_e2, ss_a3, ss_b3, ss_c3, ss_d3, ss_e3, ss_a4, ss_b4, ss_c4, ss_d4, ss_e4, ss_a5, ss_b5, ss_c5, ss_d5, ss_e5, ss_a8, ss_b8, ss_c8, ss_d8, ss_e8, ss_a32, ss_b32, ss_c32, ss_d32, ss_e32, ss_a40, ss_b40, ss_c40, ss_d40, ss_e40, ss_a48, ss_b48, ss_c48, ss_d48, ss_e48, ss_a64, ss_b64, ss_c64, ss_d64, ss_e64, ss_m2, ss_m3, ss_m4, ss_m8, ss_p2, ss_p3, ss_p4, ss_p8, ss_48p, ss_in, nI_add, nI_1, nI_clamp, nI_leI, nI_ltI, nI_eq, forall_eq, true_and, and_true]
      refine ⟨fun z => ?_, fun z => ⟨by omega, fun h0 => ?_, fun h0 => ?_⟩⟩
      · rw [show i = 4 by omega]; exact h
      · rw [if_pos h0] at st; exact st (by omega) (by omega)
      · rw [if_neg h0] at st; exact st (by omega) (by omega)
  exact ⟨5, key 5 0 (by omega) (by omega)⟩
theorem ss_yst3 {post : Int32 → Prop} (h : post (nI (ss_on a_open 4))) : ∃ n38, wY_state_38 post 3 (nI nv) (nI cl) (nI rw) f_seen a_vRow a_vFrom a_vTo a_vInt a_open a_start a_changes a_changed a_fresh a_gone a_change a_column a_low a_high a_sRow a_sInt a_kept n38 0 0 := by
  have key : ∀ f i, i ≤ 4 → 4 < f + i → wY_state_38 post 3 (nI nv) (nI cl) (nI rw) f_seen a_vRow a_vFrom a_vTo a_vInt a_open a_start a_changes a_changed a_fresh a_gone a_change a_column a_low a_high a_sRow a_sInt a_kept f (nI (ss_on a_open i)) (nI i) := by
    intro f
    induction f with
    | zero => intro i h1 h2; omega
    | succ f ih =>
      intro i hi hf
      have hl := ss_onL (op := a_open) i
      have st := ih (i + 1)
      rw [ss_on] at st
      simp (disch := omega) only [wY_state_38, ss_a0, ss_b0, ss_c0, ss_d0, ss_e0, ss_a1, ss_b1, ss_c1, ss_d1, ss_e1, ss_a2, ss_b2, ss_c2, ss_d2, ss_e2, ss_a3, ss_b3, ss_c3, ss_d3, ss_e3, ss_a4, ss_b4, ss_c4, ss_d4, ss_e4, ss_a5, ss_b5, ss_c5, ss_d5, ss_e5, ss_a8, ss_b8, ss_c8, ss_d8, ss_e8, ss_a32, ss_b32, ss_c32, ss_d32, ss_e32, ss_a40, ss_b40, ss_c40, ss_d40, ss_e40, ss_a48, ss_b48, ss_c48, ss_d48, ss_e48, ss_a64, ss_b64, ss_c64, ss_d64, ss_e64, ss_m2, ss_m3, ss_m4, ss_m8, ss_p2, ss_p3, ss_p4, ss_p8, ss_48p, ss_in, nI_add, nI_1, nI_clamp, nI_leI, nI_ltI, nI_eq, forall_eq, true_and, and_true, Int32.add_zero]
      refine ⟨fun z => ?_, fun z => ⟨by omega, fun h0 => ?_, fun h0 => ?_⟩⟩
      · rw [show i = 4 by omega]
        exact ⟨fun z => absurd z (by decide), fun _ => ⟨fun _ => h, fun z => absurd rfl z⟩⟩
      · rw [if_pos h0] at st; exact st (by omega) (by omega)
      · rw [if_neg h0] at st; exact st (by omega) (by omega)
  exact ⟨5, key 5 0 (by omega) (by omega)⟩
theorem ss_xst4 {post : Int32 → Prop} (S : ss_Seg sg N a_held a_row) (hna : na ≤ 32) (h : post (nI ((ss_ls (ss_ve a_row a_from a_to wv) N ++ ss_ls (ss_ve a_dRow a_dFrom a_dTo a_dValue) na).countP ss_nvp))) : ∃ n81, wX_state_81 post (nI sg) (nI na) f_kept (nI cl) (nI rw) f_many a_row a_from a_to a_held a_sort a_bits a_base a_least a_greatest a_words a_dictionary a_dRow a_dFrom a_dTo a_dValue a_wRow a_wFrom a_wTo a_wValue a_open a_start a_changed a_change a_changes a_fresh a_gone a_column a_low a_high a_found a_value n81 0 0 := by
  have S' := S
  obtain ⟨hN, s1, s2, hh, hs⟩ := S'
  rw [List.countP_append] at h
  have hd : (ss_ls (ss_ve a_dRow a_dFrom a_dTo a_dValue) na).countP ss_nvp ≤ na := by
    have := List.countP_le_length (p := ss_nvp) (l := ss_ls (ss_ve a_dRow a_dFrom a_dTo a_dValue) na)
    rw [ss_lsL] at this; exact this
  have k111 : ∀ f v, v ≤ 8 * sg → 8 * sg < f + v → wX_state_111 post (nI sg) (nI na) f_kept (nI cl) (nI rw) f_many a_row a_from a_to a_held a_sort a_bits a_base a_least a_greatest a_words a_dictionary a_dRow a_dFrom a_dTo a_dValue a_wRow a_wFrom a_wTo a_wValue a_open a_start a_changed a_change a_changes a_fresh a_gone a_column a_low a_high a_found a_value f (nI ((ss_ls (ss_ve a_dRow a_dFrom a_dTo a_dValue) na).countP ss_nvp + (ss_ls (ss_ve a_row a_from a_to wv) (min v N)).countP ss_nvp)) (nI v) := by
    intro f
    induction f with
    | zero => intro v a b; omega
    | succ f ih =>
      intro v hv hn
      have b1 : (ss_ls (ss_ve a_row a_from a_to wv) (min v N)).countP ss_nvp ≤ min v N := by
        have := List.countP_le_length (p := ss_nvp) (l := ss_ls (ss_ve a_row a_from a_to wv) (min v N))
        rw [ss_lsL] at this; exact this
      by_cases hl : 8 * sg ≤ v
      · simp (disch := omega) only [wX_state_111, ss_a0, ss_b0, ss_c0, ss_d0, ss_e0, ss_a1, ss_b1, ss_c1, ss_d1, ss_e1, ss_a2, ss_b2, ss_c2, ss_d2, ss_e2, ss_a3, ss_b3, ss_c3, ss_d3, ss_e3, ss_a4, ss_b4, ss_c4, ss_d4, ss_e4, ss_a5, ss_b5, ss_c5, ss_d5, ss_e5, ss_a8, ss_b8, ss_c8, ss_d8, ss_e8, ss_a32, ss_b32, ss_c32, ss_d32, ss_e32, ss_a40, ss_b40, ss_c40, ss_d40, ss_e40, ss_a48, ss_b48, ss_c48, ss_d48, ss_e48, ss_a64, ss_b64, ss_c64, ss_d64, ss_e64, ss_m2, ss_m3, ss_m4, ss_m8, ss_p2, ss_p3, ss_p4, ss_p8, ss_48p, ss_in, nI_add, nI_1, nI_clamp, nI_leI, nI_ltI, nI_eq, forall_eq, true_and, and_true]
        refine ⟨fun _ => ?_, fun z => absurd hl z⟩
        rw [show min v N = N by omega, Nat.add_comm]
        exact h
      · obtain ⟨e1, e2⟩ := ss_hel S (v := v) (by omega)
        have st := ih (v + 1) (by omega) (by omega)
        simp (disch := omega) only [wX_state_111, ss_a0, ss_b0, ss_c0, ss_d0, ss_e0, ss_a1, ss_b1, ss_c1, ss_d1, ss_e1, ss_a2, ss_b2, ss_c2, ss_d2, ss_e2, ss_a3, ss_b3, ss_c3, ss_d3, ss_e3, ss_a4, ss_b4, ss_c4, ss_d4, ss_e4, ss_a5, ss_b5, ss_c5, ss_d5, ss_e5, ss_a8, ss_b8, ss_c8, ss_d8, ss_e8, ss_a32, ss_b32, ss_c32, ss_d32, ss_e32, ss_a40, ss_b40, ss_c40, ss_d40, ss_e40, ss_a48, ss_b48, ss_c48, ss_d48, ss_e48, ss_a64, ss_b64, ss_c64, ss_d64, ss_e64, ss_m2, ss_m3, ss_m4, ss_m8, ss_p2, ss_p3, ss_p4, ss_p8, ss_48p, ss_in, nI_add, nI_1, nI_clamp, nI_leI, nI_ltI, nI_eq, forall_eq, true_and, and_true, ss_sh3, ss_an7, e2]
        refine ⟨fun z => absurd z hl, fun _ => ⟨e1, fun hN' => ?_, fun hN' => ⟨by omega, fun hb => ?_, fun hb => ?_⟩⟩⟩
        · rw [show min (v + 1) N = min v N by omega] at st
          exact st
        · have hb' : ss_nvp (ss_ve a_row a_from a_to wv v) = true := decide_eq_true hb
          rw [show min (v + 1) N = min v N + 1 by omega, ss_lsS, ss_cP, show min v N = v by omega, if_pos hb', ← Nat.add_assoc] at st
          rw [show min v N = v by omega]
          exact st
        · have hb' : ss_nvp (ss_ve a_row a_from a_to wv v) = false := decide_eq_false hb
          rw [show min (v + 1) N = min v N + 1 by omega, ss_lsS, ss_cP, show min v N = v by omega, hb'] at st
          rw [show min v N = v by omega]
          exact st
  have k81 : ∀ f v, v ≤ na → na < f + v → wX_state_81 post (nI sg) (nI na) f_kept (nI cl) (nI rw) f_many a_row a_from a_to a_held a_sort a_bits a_base a_least a_greatest a_words a_dictionary a_dRow a_dFrom a_dTo a_dValue a_wRow a_wFrom a_wTo a_wValue a_open a_start a_changed a_change a_changes a_fresh a_gone a_column a_low a_high a_found a_value f (nI ((ss_ls (ss_ve a_dRow a_dFrom a_dTo a_dValue) v).countP ss_nvp)) (nI v) := by
    intro f
    induction f with
    | zero => intro v a b; omega
    | succ f ih =>
      intro v hv hn
      have b1 : (ss_ls (ss_ve a_dRow a_dFrom a_dTo a_dValue) v).countP ss_nvp ≤ v := by
        have := List.countP_le_length (p := ss_nvp) (l := ss_ls (ss_ve a_dRow a_dFrom a_dTo a_dValue) v)
        rw [ss_lsL] at this; exact this
      have st := ih (v + 1)
      rw [ss_lsS, ss_cP] at st
      simp (disch := omega) only [wX_state_81, ss_a0, ss_b0, ss_c0, ss_d0, ss_e0, ss_a1, ss_b1, ss_c1, ss_d1, ss_e1, ss_a2, ss_b2, ss_c2, ss_d2, ss_e2, ss_a3, ss_b3, ss_c3, ss_d3, ss_e3, ss_a4, ss_b4, ss_c4, ss_d4, ss_e4, ss_a5, ss_b5, ss_c5, ss_d5, ss_e5, ss_a8, ss_b8, ss_c8, ss_d8, ss_e8, ss_a32, ss_b32, ss_c32, ss_d32, ss_e32, ss_a40, ss_b40, ss_c40, ss_d40, ss_e40, ss_a48, ss_b48, ss_c48, ss_d48, ss_e48, ss_a64, ss_b64, ss_c64, ss_d64, ss_e64, ss_m2, ss_m3, ss_m4, ss_m8, ss_p2, ss_p3, ss_p4, ss_p8, ss_48p, ss_in, nI_add, nI_1, nI_clamp, nI_leI, nI_ltI, nI_eq, forall_eq, true_and, and_true]
      refine ⟨fun z => ⟨8 * sg + 1, ?_⟩, fun z => ⟨by omega, fun hb => ?_, fun hb => ?_⟩⟩
      · have e : v = na := by omega
        subst e
        have e0 : (ss_ls (ss_ve a_row a_from a_to wv) (min 0 N)).countP ss_nvp = 0 := by rw [Nat.zero_min]; rfl
        have := k111 (8 * sg + 1) 0 (by omega) (by omega)
        rw [e0, Nat.add_zero] at this
        exact this
      · have hb' : ss_nvp (ss_ve a_dRow a_dFrom a_dTo a_dValue v) = true := decide_eq_true hb
        rw [if_pos hb'] at st
        exact st (by omega) (by omega)
      · have hb' : ss_nvp (ss_ve a_dRow a_dFrom a_dTo a_dValue v) = false := decide_eq_false hb
        rw [hb'] at st
        exact st (by omega) (by omega)
  exact ⟨na + 1, k81 (na + 1) 0 (by omega) (by omega)⟩
def ss_hp (time : Int32) (x : ss_V) : Bool := ss_h x.2.1 x.2.2.1 time
theorem ss_yst4 {post : Int32 → Prop} (hnv : nv ≤ 56) (h : post (nI ((ss_ls (ss_ve a_vRow a_vFrom a_vTo a_vInt) nv).countP (ss_hp (nI cl))))) : ∃ n73, wY_state_73 post 4 (nI nv) (nI cl) (nI rw) f_seen a_vRow a_vFrom a_vTo a_vInt a_open a_start a_changes a_changed a_fresh a_gone a_change a_column a_low a_high a_sRow a_sInt a_kept n73 0 0 := by
  have key : ∀ f v, v ≤ nv → nv < f + v → wY_state_73 post 4 (nI nv) (nI cl) (nI rw) f_seen a_vRow a_vFrom a_vTo a_vInt a_open a_start a_changes a_changed a_fresh a_gone a_change a_column a_low a_high a_sRow a_sInt a_kept f (nI ((ss_ls (ss_ve a_vRow a_vFrom a_vTo a_vInt) v).countP (ss_hp (nI cl)))) (nI v) := by
    intro f
    induction f with
    | zero => intro v a b; omega
    | succ f ih =>
      intro v hv hn
      have b1 : (ss_ls (ss_ve a_vRow a_vFrom a_vTo a_vInt) v).countP (ss_hp (nI cl)) ≤ v := by
        have := List.countP_le_length (p := (ss_hp (nI cl))) (l := ss_ls (ss_ve a_vRow a_vFrom a_vTo a_vInt) v)
        rw [ss_lsL] at this; exact this
      by_cases hl : nv ≤ v
      · simp (disch := omega) only [wY_state_73, wY_state_107, ss_a0, ss_b0, ss_c0, ss_d0, ss_e0, ss_a1, ss_b1, ss_c1, ss_d1, ss_e1, ss_a2, ss_b2, ss_c2, ss_d2, ss_e2, ss_a3, ss_b3, ss_c3, ss_d3, ss_e3, ss_a4, ss_b4, ss_c4, ss_d4, ss_e4, ss_a5, ss_b5, ss_c5, ss_d5, ss_e5, ss_a8, ss_b8, ss_c8, ss_d8, ss_e8, ss_a32, ss_b32, ss_c32, ss_d32, ss_e32, ss_a40, ss_b40, ss_c40, ss_d40, ss_e40, ss_a48, ss_b48, ss_c48, ss_d48, ss_e48, ss_a64, ss_b64, ss_c64, ss_d64, ss_e64, ss_m2, ss_m3, ss_m4, ss_m8, ss_p2, ss_p3, ss_p4, ss_p8, ss_48p, ss_in, nI_add, nI_1, nI_clamp, nI_leI, nI_ltI, nI_eq, forall_eq, true_and, and_true]
        refine ⟨fun _ => ?_, fun z => absurd hl z⟩
        rw [show v = nv by omega]
        exact ⟨fun z => absurd z (by decide), fun _ => ⟨fun _ => h, fun z => absurd trivial z⟩⟩
      · have h56 : v < 56 := by omega
        have st := ih (v + 1) (by omega) (by omega)
        rw [ss_lsS, ss_cP] at st
        simp (disch := omega) only [wY_state_73, ss_a0, ss_b0, ss_c0, ss_d0, ss_e0, ss_a1, ss_b1, ss_c1, ss_d1, ss_e1, ss_a2, ss_b2, ss_c2, ss_d2, ss_e2, ss_a3, ss_b3, ss_c3, ss_d3, ss_e3, ss_a4, ss_b4, ss_c4, ss_d4, ss_e4, ss_a5, ss_b5, ss_c5, ss_d5, ss_e5, ss_a8, ss_b8, ss_c8, ss_d8, ss_e8, ss_a32, ss_b32, ss_c32, ss_d32, ss_e32, ss_a40, ss_b40, ss_c40, ss_d40, ss_e40, ss_a48, ss_b48, ss_c48, ss_d48, ss_e48, ss_a64, ss_b64, ss_c64, ss_d64, ss_e64, ss_m2, ss_m3, ss_m4, ss_m8, ss_p2, ss_p3, ss_p4, ss_p8, ss_48p, ss_in, nI_add, nI_1, nI_clamp, nI_leI, nI_ltI, nI_eq, forall_eq, true_and, and_true, ss_yh h56, Int32.add_zero]
        refine ⟨fun z => absurd z hl, fun _ => ss_br (fun hb => ?_) (fun hb => ?_)⟩
        · rw [show ss_hp (nI cl) (ss_ve a_vRow a_vFrom a_vTo a_vInt v) = false from hb] at st
          exact st
        · rw [show ss_hp (nI cl) (ss_ve a_vRow a_vFrom a_vTo a_vInt v) = true from hb] at st
          exact st
  exact ⟨nv + 1, key (nv + 1) 0 (by omega) (by omega)⟩
end
theorem i_vc_state {k : Nat} {u : SX} {v : SY} (I : i_Rel k u v) (hk : k + 6 ≤ 3072) (v1 : Int32) : wpX_state (fun r => wpY_state (fun r' => r' = r ∧ i_Rel (k + 6) u v) v v1) u v1 := by
  refine ss_re (P := fun u v => wpX_state (fun r => wpY_state (fun r' => r' = r ∧ i_Rel (k + 6) u v) v v1) u v1) ?_ I
  intro sg na N cl rw nv wv f_kept f_many f_seen a_row a_from a_to a_held a_sort a_bits a_base a_least a_greatest a_words a_dictionary a_dRow a_dFrom a_dTo a_dValue a_wRow a_wFrom a_wTo a_wValue a_open a_start a_changed a_change a_changes a_fresh a_gone a_column a_low a_high a_found a_value a_vRow a_vFrom a_vTo a_vInt a_sRow a_sInt a_kept R
  have same : i_Rel (k + 6) (nI sg, nI na, f_kept, nI cl, nI rw, f_many, a_row, a_from, a_to, a_held, a_sort, a_bits, a_base, a_least, a_greatest, a_words, a_dictionary, a_dRow, a_dFrom, a_dTo, a_dValue, a_wRow, a_wFrom, a_wTo, a_wValue, a_open, a_start, a_changed, a_change, a_changes, a_fresh, a_gone, a_column, a_low, a_high, a_found, a_value) (nI nv, nI cl, nI rw, f_seen, a_vRow, a_vFrom, a_vTo, a_vInt, a_open, a_start, a_changes, a_changed, a_fresh, a_gone, a_change, a_column, a_low, a_high, a_sRow, a_sInt, a_kept) := ss_ri sg na N cl rw nv wv f_kept f_many f_seen a_row a_from a_to a_held a_sort a_bits a_base a_least a_greatest a_words a_dictionary a_dRow a_dFrom a_dTo a_dValue a_wRow a_wFrom a_wTo a_wValue a_open a_start a_changed a_change a_changes a_fresh a_gone a_column a_low a_high a_found a_value a_vRow a_vFrom a_vTo a_vInt a_sRow a_sInt a_kept (ss_rup sg na N cl rw nv wv f_kept f_many f_seen a_row a_from a_to a_held a_sort a_bits a_base a_least a_greatest a_words a_dictionary a_dRow a_dFrom a_dTo a_dValue a_wRow a_wFrom a_wTo a_wValue a_open a_start a_changed a_change a_changes a_fresh a_gone a_column a_low a_high a_found a_value a_vRow a_vFrom a_vTo a_vInt a_sRow a_sInt a_kept (by omega) R)
  obtain ⟨r1, r2, r3, r4, r5, r6, r7, r8, r9, r10, r11, r12, r13, r14⟩ := R
  have out : ¬ (v1 = 0 ∨ v1 = 1 ∨ v1 = 2 ∨ v1 = 3 ∨ v1 = 4) → wpY_state (fun r' => r' = -1 ∧ i_Rel (k + 6) (nI sg, nI na, f_kept, nI cl, nI rw, f_many, a_row, a_from, a_to, a_held, a_sort, a_bits, a_base, a_least, a_greatest, a_words, a_dictionary, a_dRow, a_dFrom, a_dTo, a_dValue, a_wRow, a_wFrom, a_wTo, a_wValue, a_open, a_start, a_changed, a_change, a_changes, a_fresh, a_gone, a_column, a_low, a_high, a_found, a_value) (nI nv, nI cl, nI rw, f_seen, a_vRow, a_vFrom, a_vTo, a_vInt, a_open, a_start, a_changes, a_changed, a_fresh, a_gone, a_change, a_column, a_low, a_high, a_sRow, a_sInt, a_kept)) (nI nv, nI cl, nI rw, f_seen, a_vRow, a_vFrom, a_vTo, a_vInt, a_open, a_start, a_changes, a_changed, a_fresh, a_gone, a_change, a_column, a_low, a_high, a_sRow, a_sInt, a_kept) v1 := by
    intro hn
    refine ⟨fun z => absurd (Or.inl z) hn, fun _ => ⟨fun z => absurd (Or.inr (Or.inl z)) hn, fun _ => ⟨fun z => absurd (Or.inr (Or.inr (Or.inl z))) hn, fun _ => ⟨fun z => absurd (Or.inr (Or.inr (Or.inr (Or.inl z)))) hn, fun _ => ⟨fun z => absurd (Or.inr (Or.inr (Or.inr (Or.inr z)))) hn, fun _ => ⟨fun z => absurd (Or.inr (Or.inr (Or.inr (Or.inl z)))) hn, fun _ => ⟨fun z => absurd (Or.inr (Or.inr (Or.inr (Or.inr z)))) hn, fun _ => ⟨rfl, same⟩⟩⟩⟩⟩⟩⟩⟩
  refine ⟨fun hlt => out ?_, fun hge => ⟨fun hgt => out ?_, fun hle => ?_⟩⟩
  · rintro (rfl | rfl | rfl | rfl | rfl) <;> exact absurd hlt (by decide)
  · rintro (rfl | rfl | rfl | rfl | rfl) <;> exact absurd hgt (by decide)
  · obtain ⟨j, hj, rfl⟩ := nI_of2 (M := 4) (n := 4) (by decide) hge (Int32.not_lt.mp hle)
    rcases (by omega : j = 0 ∨ j = 1 ∨ j = 2 ∨ j = 3 ∨ j = 4) with rfl | rfl | rfl | rfl | rfl
    · exact ⟨fun _ => ⟨fun _ => ⟨rfl, same⟩, fun z => absurd rfl z⟩, fun z => absurd rfl z⟩
    · exact ⟨fun z => absurd z (by decide), fun _ => ⟨fun _ => ⟨fun z => absurd z (by decide), fun _ => ⟨fun _ => ⟨rfl, same⟩, fun z => absurd rfl z⟩⟩, fun z => absurd rfl z⟩⟩
    · refine ⟨fun z => absurd z (by decide), fun _ => ⟨fun z => absurd z (by decide), fun _ => ⟨fun _ => ?_, fun z => absurd rfl z⟩⟩⟩
      refine ss_xln (wv := wv) r3 r5 ⟨fun z => absurd z (by decide), fun _ => ⟨fun z => absurd z (by decide), fun _ => ⟨fun _ => ss_yal (by omega) ⟨?_, same⟩, fun z => absurd rfl z⟩⟩⟩
      rw [ss_lrC r13 (fun x _ h => h) (fun x _ h => h)]
    · refine ⟨fun z => absurd z (by decide), fun _ => ⟨fun z => absurd z (by decide), fun _ => ⟨fun z => absurd z (by decide), fun _ => ⟨fun _ => ?_, fun z => absurd rfl z⟩⟩⟩⟩
      refine ss_xst3 ⟨fun z => absurd z (by decide), fun _ => ⟨fun z => absurd z (by decide), fun _ => ⟨fun z => absurd z (by decide), fun _ => ⟨fun _ => ss_yst3 ⟨rfl, same⟩, fun z => absurd rfl z⟩⟩⟩⟩
    · refine ⟨fun z => absurd z (by decide), fun _ => ⟨fun z => absurd z (by decide), fun _ => ⟨fun z => absurd z (by decide), fun _ => ⟨fun z => absurd z (by decide), fun _ => ⟨fun _ => ?_, fun z => absurd rfl z⟩⟩⟩⟩⟩
      refine ss_xst4 (wv := wv) r3 r5 ⟨fun z => absurd z (by decide), fun _ => ⟨fun z => absurd z (by decide), fun _ => ⟨fun z => absurd z (by decide), fun _ => ⟨fun z => absurd z (by decide), fun _ => ⟨fun _ => ss_yst4 (by omega) ⟨?_, same⟩, fun z => absurd rfl z⟩⟩⟩⟩⟩
      have e : ∀ L, ss_Wf cl rw L → L.countP ss_nvp = L.countP (ss_hp (nI cl)) := by
        intro L W
        refine ss_ccg fun x hx => ?_
        unfold ss_nvp ss_hp
        rw [Bool.eq_iff_iff, decide_eq_true_eq, ss_now (by omega) (W.1 x hx)]
      rw [e _ r8]
      exact congrArg nI (ss_lrC r13 (fun x _ h => ss_lvC h) (fun x _ h => ss_lvC h)).symm
end
section
/-! plain laws of lists of values -/
def ss_bef (x y : ss_P) : Bool := decide (x.2 < y.2) || (decide (x.2 = y.2) && decide (x.1 < y.1))
theorem ss_befT {x y : ss_P} : ss_bef x y = true ↔ x.2 < y.2 ∨ (x.2 = y.2 ∧ x.1 < y.1) := by
  simp [ss_bef]
theorem ss_befL {x y : ss_P} (h : ss_le x y) (hn : ¬ x.1 = y.1) : ss_bef x y = true := by
  rw [ss_befT]
  rcases h with h | ⟨h1, h2⟩
  · exact Or.inl h
  · refine Or.inr ⟨h1, ?_⟩
    rcases Int32.lt_or_eq_of_le h2 with h | h
    · exact h
    · exact absurd h hn
theorem ss_befN {x y : ss_P} (h : ss_le y x) : ss_bef x y = false := by
  rw [← Bool.not_eq_true, ss_befT]
  rintro (h1 | ⟨h1, h2⟩)
  · rcases h with h | ⟨h, -⟩
    · exact absurd (Int32.lt_trans h h1) Int32.lt_irrefl
    · rw [h] at h1; exact absurd h1 Int32.lt_irrefl
  · rcases h with h | ⟨-, h⟩
    · rw [h1] at h; exact absurd h Int32.lt_irrefl
    · exact absurd h (Int32.not_le.mpr h2)
/-- in order, one's place is the count of those before it -/
theorem ss_cnti {g : Nat → ss_P} {n i : Nat} (hst : ∀ a b, a < b → b < n → ss_le (g a) (g b) ∧ ¬ (g a).1 = (g b).1) (hi : i < n) : (ss_ls g n).countP (fun x => ss_bef x (g i)) = i := by
  have key : ∀ m, m ≤ n → (ss_ls g m).countP (fun x => ss_bef x (g i)) = min m i := by
    intro m
    induction m with
    | zero => intro _; rw [Nat.zero_min]; rfl
    | succ m ih =>
      intro hm
      rw [ss_lsS, ss_cP, ih (by omega)]
      rcases (by omega : m < i ∨ m = i ∨ i < m) with h | h | h
      · rw [if_pos (ss_befL (hst m i h hi).1 (hst m i h hi).2)]; omega
      · subst h; rw [ss_befN (ss_ler _)]; simp
      · rw [ss_befN (hst i m h (by omega)).1]; simp; omega
  rw [key n (Nat.le_refl _)]; omega
/-- rows all different -/
def ss_Df (l : List ss_P) : Prop := l.Pairwise (fun x y => ¬ x.1 = y.1)
theorem ss_DfP {l l' : List ss_P} (P : List.Perm l l') (h : ss_Df l) : ss_Df l' := h.perm P (fun h z => h z.symm)
theorem ss_DfU {l : List ss_P} (h : ss_Df l) {x y : ss_P} (hx : x ∈ l) (hy : y ∈ l) (e : x.1 = y.1) : x = y := by
  have := List.Pairwise.forall_of_forall_of_flip (R := fun a b => a = b ∨ ¬ a.1 = b.1) (fun _ _ => Or.inl rfl) (h.imp fun z => Or.inr z) (h.imp fun z => Or.inr (fun w => z w.symm)) hx hy
  rcases this with h | h
  · exact h
  · exact absurd e h
theorem ss_DfI {g : Nat → ss_P} {n : Nat} (h : ss_Df (ss_ls g n)) {a b : Nat} (hab : a < b) (hb : b < n) : ¬ (g a).1 = (g b).1 := by
  have := List.pairwise_iff_getElem.mp h a b (by rw [ss_lsL]; omega) (by rw [ss_lsL]; omega) hab
  rw [ss_lsG, ss_lsG] at this
  exact this
/-- sums do not ask for the order -/
def ss_sm (l : List Int32) : Int64 := l.foldl (fun s v => s + v.toInt64) 0
theorem ss_smP {l l' : List Int32} (P : List.Perm l l') : ss_sm l = ss_sm l' := by
  refine P.foldl_eq' (fun x _ y _ z => ?_) 0
  rw [Int64.add_assoc, Int64.add_assoc, Int64.add_comm x.toInt64]
theorem ss_smS {l : List Int32} {v : Int32} : ss_sm (l ++ [v]) = ss_sm l + v.toInt64 := by
  simp [ss_sm]
theorem ss_l64 {a b : Int32} : a.toInt64 ≤ b.toInt64 ↔ a ≤ b := by
  rw [Int64.le_iff_toInt_le, Int32.toInt_toInt64, Int32.toInt_toInt64, Int32.le_iff_toInt_le]
theorem ss_n64 {a : Int32} : ¬ a.toInt64 = 10000000000 := by
  intro h
  have := congrArg Int64.toInt h
  rw [Int32.toInt_toInt64] at this
  have h2 := a.toInt_lt
  have e : (10000000000 : Int64).toInt = 10000000000 := by decide
  rw [e] at this
  omega
/-- least, greatest -/
def ss_mi (l : List Int32) (m : Int32) : Prop := m ∈ l ∧ ∀ v, v ∈ l → m ≤ v
def ss_mx (l : List Int32) (m : Int32) : Prop := m ∈ l ∧ ∀ v, v ∈ l → v ≤ m
theorem ss_miU {l l' : List Int32} (P : List.Perm l l') {a b : Int32} (h1 : ss_mi l a) (h2 : ss_mi l' b) : a = b :=
  Int32.le_antisymm (h1.2 b (P.mem_iff.mpr h2.1)) (h2.2 a (P.mem_iff.mp h1.1))
theorem ss_mxU {l l' : List Int32} (P : List.Perm l l') {a b : Int32} (h1 : ss_mx l a) (h2 : ss_mx l' b) : a = b :=
  Int32.le_antisymm (h2.2 a (P.mem_iff.mp h1.1)) (h1.2 b (P.mem_iff.mpr h2.1))
/-- the first of its value -/
def ss_fi (g : Nat → Int32) (i : Nat) : Bool := decide (∀ j, j < i → ¬ g j = g i)
theorem ss_fiT {g : Nat → Int32} {i : Nat} : ss_fi g i = true ↔ ∀ j, j < i → ¬ g j = g i := decide_eq_true_iff
def ss_nb (g : Nat → Int32) (n : Nat) : List Int32 := ss_fl (ss_fi g) g n
theorem ss_nbM {g : Nat → Int32} : ∀ {n : Nat} {x : Int32}, x ∈ ss_nb g n ↔ x ∈ ss_ls g n := by
  intro n
  induction n with
  | zero => intro x; simp [ss_nb, ss_fl, ss_ls]
  | succ n ih =>
    intro x
    unfold ss_nb at *
    rw [ss_flS, ss_lsS, List.mem_append, List.mem_append, ih]
    by_cases h : ss_fi g n = true
    · rw [if_pos h]
    · rw [if_neg h]
      have : ∃ j, j < n ∧ g j = g n := by
        rw [ss_fiT] at h
        refine Classical.byContradiction fun hn => h fun j hj e => hn ⟨j, hj, e⟩
      obtain ⟨j, hj, e⟩ := this
      constructor
      · rintro (h' | h')
        · exact Or.inl h'
        · exact absurd h' (List.not_mem_nil)
      · rintro (h' | h')
        · exact Or.inl h'
        · rw [List.mem_singleton] at h'
          refine Or.inl ?_
          rw [h', ← e]
          exact ss_lsI hj
theorem ss_nbN {g : Nat → Int32} : ∀ {n : Nat}, (ss_nb g n).Nodup := by
  intro n
  induction n with
  | zero => simp [ss_nb, ss_fl]
  | succ n ih =>
    have e : ss_nb g (n + 1) = ss_nb g n ++ (if ss_fi g n = true then [g n] else []) := ss_flS
    rw [e]
    by_cases h : ss_fi g n = true
    · rw [if_pos h, List.nodup_append]
      refine ⟨ih, by simp, fun a ha b hb => ?_⟩
      rw [List.mem_singleton] at hb
      rw [ss_nbM, ss_lsM] at ha
      obtain ⟨j, hj, rfl⟩ := ha
      rw [hb]
      exact ss_fiT.mp h j hj
    · rw [if_neg h, List.append_nil]; exact ih
theorem ss_nbP {g g' : Nat → Int32} {n n' : Nat} (P : List.Perm (ss_ls g n) (ss_ls g' n')) : List.Perm (ss_nb g n) (ss_nb g' n') := by
  rw [List.perm_ext_iff_of_nodup ss_nbN ss_nbN]
  intro x
  rw [ss_nbM, ss_nbM]
  exact P.mem_iff
/-- how many values are below one -/
def ss_bl (g : Nat → Int32) (n : Nat) (v : Int32) : Nat := (ss_nb g n).countP (fun x => decide (x < v))
theorem ss_blP {g g' : Nat → Int32} {n n' : Nat} {v : Int32} (P : List.Perm (ss_ls g n) (ss_ls g' n')) : ss_bl g n v = ss_bl g' n' v := (ss_nbP P).countP_eq _
theorem ss_blS {g : Nat → Int32} {n : Nat} {v w : Int32} (hv : v ∈ ss_ls g n) (h : v < w) : ss_bl g n v < ss_bl g n w := by
  unfold ss_bl
  have hv' := ss_nbM.mpr hv
  have P := List.perm_cons_erase hv'
  rw [P.countP_eq, P.countP_eq, List.countP_cons, List.countP_cons]
  have : ((ss_nb g n).erase v).countP (fun x => decide (x < v)) ≤ ((ss_nb g n).erase v).countP (fun x => decide (x < w)) := by
    refine List.countP_mono_left fun x _ hx => ?_
    rw [decide_eq_true_eq] at hx ⊢
    exact Int32.lt_trans hx h
  rw [if_neg (by rw [decide_eq_true_eq]; exact Int32.lt_irrefl), if_pos (by rw [decide_eq_true_eq]; exact h)]
  omega
theorem ss_blI {g : Nat → Int32} {n : Nat} {v w : Int32} (hv : v ∈ ss_ls g n) (hw : w ∈ ss_ls g n) (h : ss_bl g n v = ss_bl g n w) : v = w := by
  by_cases h1 : v < w
  · have := ss_blS (g := g) (n := n) hv h1; omega
  · by_cases h2 : w < v
    · have := ss_blS (g := g) (n := n) hw h2; omega
    · exact Int32.le_antisymm (Int32.not_lt.mp h2) (Int32.not_lt.mp h1)
theorem ss_blL {g : Nat → Int32} {n : Nat} {v : Int32} (hv : v ∈ ss_ls g n) : ss_bl g n v < (ss_nb g n).length := by
  unfold ss_bl
  have hv' := ss_nbM.mpr hv
  have P := List.perm_cons_erase hv'
  rw [P.countP_eq, P.length_eq, List.countP_cons, List.length_cons, if_neg (by rw [decide_eq_true_eq]; exact Int32.lt_irrefl)]
  have := List.countP_le_length (p := fun x => decide (x < v)) (l := (ss_nb g n).erase v)
  omega
theorem ss_nbL {g : Nat → Int32} {n : Nat} : (ss_nb g n).length ≤ n := ss_flL
theorem ss_nbS {g : Nat → Int32} {n : Nat} : (ss_nb g (n + 1)).length = (ss_nb g n).length + (if ss_fi g n = true then 1 else 0) := by
  have e : ss_nb g (n + 1) = ss_nb g n ++ (if ss_fi g n = true then [g n] else []) := ss_flS
  rw [e, List.length_append]
  by_cases h : ss_fi g n = true
  · rw [if_pos h, if_pos h]; rfl
  · rw [if_neg h, if_neg h]; rfl
/-- in order: the first of its value is the one unlike its neighbour -/
theorem ss_fiO {g : Nat → Int32} {n i : Nat} (hO : ∀ a b, a ≤ b → b < n → g a ≤ g b) (hi : i < n) : ss_fi g i = true ↔ i = 0 ∨ ¬ g i = g (i - 1) := by
  rw [ss_fiT]
  constructor
  · intro h
    rcases (by omega : i = 0 ∨ 0 < i) with h' | h'
    · exact Or.inl h'
    · exact Or.inr fun e => h (i - 1) (by omega) e.symm
  · rintro (rfl | h) j hj e
    · omega
    · have h1 := hO j (i - 1) (by omega) (by omega)
      have h2 := hO (i - 1) i (by omega) hi
      rw [e] at h1
      exact h (Int32.le_antisymm h1 h2)
/-- in order: the values below a group's are those before it -/
theorem ss_blO {g : Nat → Int32} {n i : Nat} (hO : ∀ a b, a ≤ b → b < n → g a ≤ g b) (hi : i < n) (hf : ss_fi g i = true) : ss_bl g n (g i) = (ss_nb g i).length := by
  have key : ∀ m, m ≤ n → (ss_nb g m).countP (fun x => decide (x < g i)) = (ss_nb g (min m i)).length := by
    intro m
    induction m with
    | zero => intro _; rw [Nat.zero_min]; rfl
    | succ m ih =>
      intro hm
      have e : ss_nb g (m + 1) = ss_nb g m ++ (if ss_fi g m = true then [g m] else []) := ss_flS
      rw [e, List.countP_append, ih (by omega)]
      by_cases h : m < i
      · rw [show min (m + 1) i = min m i + 1 by omega, ss_nbS, show min m i = m by omega]
        congr 1
        by_cases h2 : ss_fi g m = true
        · rw [if_pos h2, if_pos h2, List.countP_singleton, if_pos]
          rw [decide_eq_true_eq]
          rcases Int32.lt_or_eq_of_le (hO m i (by omega) hi) with h3 | h3
          · exact h3
          · exact absurd h3 (ss_fiT.mp hf m h)
        · rw [if_neg h2, if_neg h2]; rfl
      · rw [show min (m + 1) i = min m i by omega]
        have : (if ss_fi g m = true then [g m] else []).countP (fun x => decide (x < g i)) = 0 := by
          by_cases h2 : ss_fi g m = true
          · rw [if_pos h2, List.countP_singleton, if_neg]
            rw [decide_eq_true_eq]
            exact Int32.not_lt.mpr (hO i m (by omega) (by omega))
          · rw [if_neg h2]; rfl
        omega
  have := key n (Nat.le_refl _)
  rw [show min n i = i by omega] at this
  exact this
/-- in order: one value's places are a stretch -/
theorem ss_stre {g : Nat → ss_P} {n a b : Nat} (hO : ∀ i j, i ≤ j → j < n → (g i).2 ≤ (g j).2) (hab : a < b) (hb : b ≤ n) (hf : a = 0 ∨ ¬ (g a).2 = (g (a - 1)).2) (hin : ∀ i, a ≤ i → i < b → (g i).2 = (g a).2) (hl : b = n ∨ ¬ (g b).2 = (g a).2) :
    (ss_ls g n).filter (fun x => decide (x.2 = (g a).2)) = ss_ls (fun i => g (a + i)) (b - a) := by
  obtain ⟨d, rfl⟩ : ∃ d, b = a + d := ⟨b - a, by omega⟩
  obtain ⟨e, rfl⟩ : ∃ e, n = a + d + e := ⟨n - (a + d), by omega⟩
  rw [Nat.add_sub_cancel_left, ss_lsA, ss_lsA, List.filter_append, List.filter_append]
  have f1 : (ss_ls g a).filter (fun x => decide (x.2 = (g a).2)) = [] := by
    rw [List.filter_eq_nil_iff]
    intro x hx
    obtain ⟨i, hi, rfl⟩ := ss_lsM.mp hx
    rw [decide_eq_true_eq]
    intro z
    rcases hf with h | h
    · omega
    · have h1 := hO i (a - 1) (by omega) (by omega)
      have h2 := hO (a - 1) a (by omega) (by omega)
      rw [z] at h1
      exact h (Int32.le_antisymm h1 h2)
  have f2 : (ss_ls (fun i => g (a + i)) d).filter (fun x => decide (x.2 = (g a).2)) = ss_ls (fun i => g (a + i)) d := by
    rw [List.filter_eq_self]
    intro x hx
    obtain ⟨i, hi, rfl⟩ := ss_lsM.mp hx
    rw [decide_eq_true_eq]
    exact hin (a + i) (by omega) (by omega)
  have f3 : (ss_ls (fun i => g (a + d + i)) e).filter (fun x => decide (x.2 = (g a).2)) = [] := by
    rw [List.filter_eq_nil_iff]
    intro x hx
    obtain ⟨i, hi, rfl⟩ := ss_lsM.mp hx
    rw [decide_eq_true_eq]
    intro z
    rcases hl with h | h
    · omega
    · have h1 := hO a (a + d) (by omega) (by omega)
      have h2 := hO (a + d) (a + d + i) (by omega) (by omega)
      rw [z] at h2
      exact h (Int32.le_antisymm h2 h1)
  rw [f1, f2, f3, List.nil_append, List.append_nil]
end
section
section
variable {f_segments f_added f_kept f_clock f_rows f_many : Int32} {a_row a_from a_to a_held a_sort a_bits a_base a_least a_greatest a_dictionary a_dRow a_dFrom a_dTo a_dValue a_wRow a_wFrom a_wTo a_wValue a_open a_start a_changed a_change a_changes a_fresh a_gone a_column a_low a_high a_found a_value : Nat → Int32} {a_words : Nat → Int64}
variable {mn : Nat}
theorem ss_xrk {post : Int32 → SX → Prop} {r : Int32} (hm : mn ≤ 128)
    (h1 : ∀ i, i < mn → a_found i = r → post (nI ((ss_ls (fun i => (a_found i, a_value i)) mn).countP (fun x => ss_bef x (a_found i, a_value i)))) (f_segments, f_added, f_kept, f_clock, f_rows, nI mn, a_row, a_from, a_to, a_held, a_sort, a_bits, a_base, a_least, a_greatest, a_words, a_dictionary, a_dRow, a_dFrom, a_dTo, a_dValue, a_wRow, a_wFrom, a_wTo, a_wValue, a_open, a_start, a_changed, a_change, a_changes, a_fresh, a_gone, a_column, a_low, a_high, a_found, a_value))
    (h0 : (∀ i, i < mn → ¬ a_found i = r) → post (-1) (f_segments, f_added, f_kept, f_clock, f_rows, nI mn, a_row, a_from, a_to, a_held, a_sort, a_bits, a_base, a_least, a_greatest, a_words, a_dictionary, a_dRow, a_dFrom, a_dTo, a_dValue, a_wRow, a_wFrom, a_wTo, a_wValue, a_open, a_start, a_changed, a_change, a_changes, a_fresh, a_gone, a_column, a_low, a_high, a_found, a_value)) : ∃ n23, wX_rank_23 post r 0 f_segments f_added f_kept f_clock f_rows (nI mn) a_row a_from a_to a_held a_sort a_bits a_base a_least a_greatest a_words a_dictionary a_dRow a_dFrom a_dTo a_dValue a_wRow a_wFrom a_wTo a_wValue a_open a_start a_changed a_change a_changes a_fresh a_gone a_column a_low a_high a_found a_value n23 0 := by
  have k63 : ∀ a, a < mn → a_found a = r → ∀ f i, i ≤ mn → mn < f + i → wX_rank_63 post r (nI a) f_segments f_added f_kept f_clock f_rows (nI mn) a_row a_from a_to a_held a_sort a_bits a_base a_least a_greatest a_words a_dictionary a_dRow a_dFrom a_dTo a_dValue a_wRow a_wFrom a_wTo a_wValue a_open a_start a_changed a_change a_changes a_fresh a_gone a_column a_low a_high a_found a_value f (nI ((ss_ls (fun i => (a_found i, a_value i)) i).countP (fun x => ss_bef x (a_found a, a_value a)))) (nI i) := by
    intro a ha er f
    induction f with
    | zero => intro i h1 h2; omega
    | succ f ih =>
      intro i hi hf
      have b1 : (ss_ls (fun i => (a_found i, a_value i)) i).countP (fun x => ss_bef x (a_found a, a_value a)) ≤ i := by
        have := List.countP_le_length (p := fun x => ss_bef x (a_found a, a_value a)) (l := ss_ls (fun i => (a_found i, a_value i)) i)
        rw [ss_lsL] at this; exact this
      have st := ih (i + 1)
      rw [ss_lsS, ss_cP] at st
      have up : i < mn → ss_bef (a_found i, a_value i) (a_found a, a_value a) = true → wX_rank_63 post r (nI a) f_segments f_added f_kept f_clock f_rows (nI mn) a_row a_from a_to a_held a_sort a_bits a_base a_least a_greatest a_words a_dictionary a_dRow a_dFrom a_dTo a_dValue a_wRow a_wFrom a_wTo a_wValue a_open a_start a_changed a_change a_changes a_fresh a_gone a_column a_low a_high a_found a_value f (nI ((ss_ls (fun i => (a_found i, a_value i)) i).countP (fun x => ss_bef x (a_found a, a_value a)) + 1)) (nI (i + 1)) := by
        intro hlt hb
        rw [if_pos hb] at st
        exact st (by omega) (by omega)
      have no : i < mn → ¬ ss_bef (a_found i, a_value i) (a_found a, a_value a) = true → wX_rank_63 post r (nI a) f_segments f_added f_kept f_clock f_rows (nI mn) a_row a_from a_to a_held a_sort a_bits a_base a_least a_greatest a_words a_dictionary a_dRow a_dFrom a_dTo a_dValue a_wRow a_wFrom a_wTo a_wValue a_open a_start a_changed a_change a_changes a_fresh a_gone a_column a_low a_high a_found a_value f (nI ((ss_ls (fun i => (a_found i, a_value i)) i).countP (fun x => ss_bef x (a_found a, a_value a)))) (nI (i + 1)) := by
        intro hlt hb
        rw [if_neg hb] at st
        exact st (by omega) (by omega)
      simp (disch := omega) only [wX_rank_63, ss_a0, ss_b0, ss_c0, ss_d0, ss_e0, ss_a1, ss_b1, ss_c1, ss_d1, ss_e1, ss_a2, ss_b2, ss_c2, ss_d2, ss_e2, ss_a3, ss_b3, ss_c3, ss_d3, ss_e3, ss_a4, ss_b4, ss_c4, ss_d4, ss_e4, ss_a5, ss_b5, ss_c5, ss_d5, ss_e5, ss_a8, ss_b8, ss_c8, ss_d8, ss_e8, ss_a32, ss_b32, ss_c32, ss_d32, ss_e32, ss_a40, ss_b40, ss_c40, ss_d40, ss_e40, ss_a48, ss_b48, ss_c48, ss_d48, ss_e48, ss_a64, ss_b64, ss_c64, ss_d64, ss_e64, ss_m2, ss_m3, ss_m4, ss_m8, ss_p2, ss_p3, ss_p4, ss_p8, ss_48p, ss_in, nI_add, nI_1, nI_clamp, nI_leI, nI_ltI, nI_eq, forall_eq, true_and, and_true]
      refine ⟨fun z => ?_, fun z => ⟨by omega, by omega, fun e1 => up (by omega) (ss_befT.mpr (Or.inl e1)), fun e1 => ⟨by omega, by omega, fun e2 => ⟨by omega, fun e3 => no (by omega) ?_, fun e3 => up (by omega) (ss_befT.mpr (Or.inr ⟨e2, ?_⟩))⟩, fun e2 => no (by omega) ?_⟩⟩⟩
      · rw [show i = mn by omega]; exact h1 a ha er
      · rw [ss_befT]
        rintro (h | ⟨-, h⟩)
        · exact e1 h
        · rw [show (a_found a, a_value a).1 = r from er] at h
          exact absurd e3 (Int32.not_le.mpr h)
      · show a_found i < a_found a
        rw [er]; exact Int32.not_le.mp e3
      · rw [ss_befT]
        rintro (h | ⟨h, -⟩)
        · exact e1 h
        · exact e2 h
  have k23 : ∀ f i, i ≤ mn → mn < f + i → (∀ j, j < i → ¬ a_found j = r) → wX_rank_23 post r 0 f_segments f_added f_kept f_clock f_rows (nI mn) a_row a_from a_to a_held a_sort a_bits a_base a_least a_greatest a_words a_dictionary a_dRow a_dFrom a_dTo a_dValue a_wRow a_wFrom a_wTo a_wValue a_open a_start a_changed a_change a_changes a_fresh a_gone a_column a_low a_high a_found a_value f (nI i) := by
    intro f
    induction f with
    | zero => intro i h1 h2; omega
    | succ f ih =>
      intro i hi hf hno
      simp (disch := omega) only [wX_rank_23, wX_rank_49, ss_a0, ss_b0, ss_c0, ss_d0, ss_e0, ss_a1, ss_b1, ss_c1, ss_d1, ss_e1, ss_a2, ss_b2, ss_c2, ss_d2, ss_e2, ss_a3, ss_b3, ss_c3, ss_d3, ss_e3, ss_a4, ss_b4, ss_c4, ss_d4, ss_e4, ss_a5, ss_b5, ss_c5, ss_d5, ss_e5, ss_a8, ss_b8, ss_c8, ss_d8, ss_e8, ss_a32, ss_b32, ss_c32, ss_d32, ss_e32, ss_a40, ss_b40, ss_c40, ss_d40, ss_e40, ss_a48, ss_b48, ss_c48, ss_d48, ss_e48, ss_a64, ss_b64, ss_c64, ss_d64, ss_e64, ss_m2, ss_m3, ss_m4, ss_m8, ss_p2, ss_p3, ss_p4, ss_p8, ss_48p, ss_in, nI_add, nI_1, nI_clamp, nI_leI, nI_ltI, nI_eq, forall_eq, true_and, and_true]
      refine ⟨fun z => ⟨fun _ => h0 fun j hj => hno j (by omega), fun z' => absurd (by omega) z'⟩, fun z => ⟨by omega, fun e => ⟨fun z' => absurd z' (by omega), fun _ => ⟨mn + 1, ?_⟩⟩, fun e => ih (i + 1) (by omega) (by omega) fun j hj => ?_⟩⟩
      · exact k63 i (by omega) e (mn + 1) 0 (by omega) (by omega)
      · rcases (by omega : j < i ∨ j = i) with h' | rfl
        · exact hno j h'
        · exact e
  exact ⟨mn + 1, k23 (mn + 1) 0 (by omega) (by omega) (fun j hj => by omega)⟩
theorem ss_xa51 {post : Int64 → SX → Prop} (hm : mn ≤ 128) (hO : ∀ a b, a ≤ b → b < mn → a_value a ≤ a_value b) (h : post (nI (ss_nb a_value mn).length).toInt64 (f_segments, f_added, f_kept, f_clock, f_rows, nI mn, a_row, a_from, a_to, a_held, a_sort, a_bits, a_base, a_least, a_greatest, a_words, a_dictionary, a_dRow, a_dFrom, a_dTo, a_dValue, a_wRow, a_wFrom, a_wTo, a_wValue, a_open, a_start, a_changed, a_change, a_changes, a_fresh, a_gone, a_column, a_low, a_high, a_found, a_value)) : ∃ n51, wX_ask_51 post f_segments f_added f_kept f_clock f_rows (nI mn) a_row a_from a_to a_held a_sort a_bits a_base a_least a_greatest a_words a_dictionary a_dRow a_dFrom a_dTo a_dValue a_wRow a_wFrom a_wTo a_wValue a_open a_start a_changed a_change a_changes a_fresh a_gone a_column a_low a_high a_found a_value n51 0 0 := by
  have key : ∀ f i, i ≤ mn → mn < f + i → wX_ask_51 post f_segments f_added f_kept f_clock f_rows (nI mn) a_row a_from a_to a_held a_sort a_bits a_base a_least a_greatest a_words a_dictionary a_dRow a_dFrom a_dTo a_dValue a_wRow a_wFrom a_wTo a_wValue a_open a_start a_changed a_change a_changes a_fresh a_gone a_column a_low a_high a_found a_value f (nI (ss_nb a_value i).length) (nI i) := by
    intro f
    induction f with
    | zero => intro i h1 h2; omega
    | succ f ih =>
      intro i hi hf
      have hl := ss_nbL (g := a_value) (n := i)
      by_cases hlt : mn ≤ i
      · simp (disch := omega) only [wX_ask_51, ss_a0, ss_b0, ss_c0, ss_d0, ss_e0, ss_a1, ss_b1, ss_c1, ss_d1, ss_e1, ss_a2, ss_b2, ss_c2, ss_d2, ss_e2, ss_a3, ss_b3, ss_c3, ss_d3, ss_e3, ss_a4, ss_b4, ss_c4, ss_d4, ss_e4, ss_a5, ss_b5, ss_c5, ss_d5, ss_e5, ss_a8, ss_b8, ss_c8, ss_d8, ss_e8, ss_a32, ss_b32, ss_c32, ss_d32, ss_e32, ss_a40, ss_b40, ss_c40, ss_d40, ss_e40, ss_a48, ss_b48, ss_c48, ss_d48, ss_e48, ss_a64, ss_b64, ss_c64, ss_d64, ss_e64, ss_m2, ss_m3, ss_m4, ss_m8, ss_p2, ss_p3, ss_p4, ss_p8, ss_48p, ss_in, nI_add, nI_1, nI_clamp, nI_leI, nI_ltI, nI_eq, forall_eq, true_and, and_true]
        refine ⟨fun _ => ?_, fun z => absurd hlt z⟩
        rw [show i = mn by omega]; exact h
      · have st := ih (i + 1) (by omega) (by omega)
        rw [ss_nbS] at st
        have hfi := ss_fiO (g := a_value) (n := mn) (i := i) hO (by omega)
        by_cases i0 : i = 0
        · rw [if_pos (hfi.mpr (Or.inl i0))] at st
          simp (disch := omega) only [wX_ask_51, ss_a0, ss_b0, ss_c0, ss_d0, ss_e0, ss_a1, ss_b1, ss_c1, ss_d1, ss_e1, ss_a2, ss_b2, ss_c2, ss_d2, ss_e2, ss_a3, ss_b3, ss_c3, ss_d3, ss_e3, ss_a4, ss_b4, ss_c4, ss_d4, ss_e4, ss_a5, ss_b5, ss_c5, ss_d5, ss_e5, ss_a8, ss_b8, ss_c8, ss_d8, ss_e8, ss_a32, ss_b32, ss_c32, ss_d32, ss_e32, ss_a40, ss_b40, ss_c40, ss_d40, ss_e40, ss_a48, ss_b48, ss_c48, ss_d48, ss_e48, ss_a64, ss_b64, ss_c64, ss_d64, ss_e64, ss_m2, ss_m3, ss_m4, ss_m8, ss_p2, ss_p3, ss_p4, ss_p8, ss_48p, ss_in, nI_add, nI_1, nI_clamp, nI_leI, nI_ltI, nI_eq, forall_eq, true_and, and_true]
          exact ⟨fun z => absurd z hlt, fun _ => ⟨fun _ => st, fun z => absurd i0 z⟩⟩
        · have es : nI i - 1 = nI (i - 1) := ss_s1 (by omega)
          simp (disch := omega) only [wX_ask_51, ss_a0, ss_b0, ss_c0, ss_d0, ss_e0, ss_a1, ss_b1, ss_c1, ss_d1, ss_e1, ss_a2, ss_b2, ss_c2, ss_d2, ss_e2, ss_a3, ss_b3, ss_c3, ss_d3, ss_e3, ss_a4, ss_b4, ss_c4, ss_d4, ss_e4, ss_a5, ss_b5, ss_c5, ss_d5, ss_e5, ss_a8, ss_b8, ss_c8, ss_d8, ss_e8, ss_a32, ss_b32, ss_c32, ss_d32, ss_e32, ss_a40, ss_b40, ss_c40, ss_d40, ss_e40, ss_a48, ss_b48, ss_c48, ss_d48, ss_e48, ss_a64, ss_b64, ss_c64, ss_d64, ss_e64, ss_m2, ss_m3, ss_m4, ss_m8, ss_p2, ss_p3, ss_p4, ss_p8, ss_48p, ss_in, nI_add, nI_1, nI_clamp, nI_leI, nI_ltI, nI_eq, forall_eq, true_and, and_true, es]
          refine ⟨fun z => absurd z hlt, fun _ => ⟨fun z => absurd z i0, fun _ => ⟨by omega, by omega, fun e => ?_, fun e => ?_⟩⟩⟩
          · rw [if_neg (fun z => ?_)] at st
            · exact st
            · rcases hfi.mp z with z | z
              · exact i0 z
              · exact z e
          · rw [if_pos (hfi.mpr (Or.inr e))] at st
            exact st
  exact ⟨mn + 1, key (mn + 1) 0 (by omega) (by omega)⟩
theorem ss_xa123 {post : Int64 → SX → Prop} {wh : Int32} {b0 : Int64} (hm : mn ≤ 128) (hb0 : mn = 0 → b0 = 0) (hb1 : 0 < mn → b0 = (a_value 0).toInt64)
    (h1 : wh = 1 → post (ss_sm (ss_ls a_value mn)) (f_segments, f_added, f_kept, f_clock, f_rows, nI mn, a_row, a_from, a_to, a_held, a_sort, a_bits, a_base, a_least, a_greatest, a_words, a_dictionary, a_dRow, a_dFrom, a_dTo, a_dValue, a_wRow, a_wFrom, a_wTo, a_wValue, a_open, a_start, a_changed, a_change, a_changes, a_fresh, a_gone, a_column, a_low, a_high, a_found, a_value)) (h20 : ¬ wh = 1 → mn = 0 → post 0 (f_segments, f_added, f_kept, f_clock, f_rows, nI mn, a_row, a_from, a_to, a_held, a_sort, a_bits, a_base, a_least, a_greatest, a_words, a_dictionary, a_dRow, a_dFrom, a_dTo, a_dValue, a_wRow, a_wFrom, a_wTo, a_wValue, a_open, a_start, a_changed, a_change, a_changes, a_fresh, a_gone, a_column, a_low, a_high, a_found, a_value))
    (h2 : wh = 2 → ∀ m, ss_mi (ss_ls a_value mn) m → post m.toInt64 (f_segments, f_added, f_kept, f_clock, f_rows, nI mn, a_row, a_from, a_to, a_held, a_sort, a_bits, a_base, a_least, a_greatest, a_words, a_dictionary, a_dRow, a_dFrom, a_dTo, a_dValue, a_wRow, a_wFrom, a_wTo, a_wValue, a_open, a_start, a_changed, a_change, a_changes, a_fresh, a_gone, a_column, a_low, a_high, a_found, a_value)) (h3 : ¬ wh = 1 → ¬ wh = 2 → ∀ m, ss_mx (ss_ls a_value mn) m → post m.toInt64 (f_segments, f_added, f_kept, f_clock, f_rows, nI mn, a_row, a_from, a_to, a_held, a_sort, a_bits, a_base, a_least, a_greatest, a_words, a_dictionary, a_dRow, a_dFrom, a_dTo, a_dValue, a_wRow, a_wFrom, a_wTo, a_wValue, a_open, a_start, a_changed, a_change, a_changes, a_fresh, a_gone, a_column, a_low, a_high, a_found, a_value)) : ∃ n123, wX_ask_123 post wh f_segments f_added f_kept f_clock f_rows (nI mn) a_row a_from a_to a_held a_sort a_bits a_base a_least a_greatest a_words a_dictionary a_dRow a_dFrom a_dTo a_dValue a_wRow a_wFrom a_wTo a_wValue a_open a_start a_changed a_change a_changes a_fresh a_gone a_column a_low a_high a_found a_value n123 0 b0 0 := by
  have key : ∀ f i m, i ≤ mn → mn < f + i → 0 < mn → m ∈ ss_ls a_value mn → (wh = 2 → ∀ j, j < i → m ≤ a_value j) → (¬ wh = 2 → ∀ j, j < i → a_value j ≤ m) → wX_ask_123 post wh f_segments f_added f_kept f_clock f_rows (nI mn) a_row a_from a_to a_held a_sort a_bits a_base a_least a_greatest a_words a_dictionary a_dRow a_dFrom a_dTo a_dValue a_wRow a_wFrom a_wTo a_wValue a_open a_start a_changed a_change a_changes a_fresh a_gone a_column a_low a_high a_found a_value f (ss_sm (ss_ls a_value i)) m.toInt64 (nI i) := by
    intro f
    induction f with
    | zero => intro i m h1 h2; omega
    | succ f ih =>
      intro i m hi hf hpos hmem l1 l2
      by_cases hlt : mn ≤ i
      · have e : i = mn := by omega
        subst e
        simp (disch := omega) only [wX_ask_123, ss_a0, ss_b0, ss_c0, ss_d0, ss_e0, ss_a1, ss_b1, ss_c1, ss_d1, ss_e1, ss_a2, ss_b2, ss_c2, ss_d2, ss_e2, ss_a3, ss_b3, ss_c3, ss_d3, ss_e3, ss_a4, ss_b4, ss_c4, ss_d4, ss_e4, ss_a5, ss_b5, ss_c5, ss_d5, ss_e5, ss_a8, ss_b8, ss_c8, ss_d8, ss_e8, ss_a32, ss_b32, ss_c32, ss_d32, ss_e32, ss_a40, ss_b40, ss_c40, ss_d40, ss_e40, ss_a48, ss_b48, ss_c48, ss_d48, ss_e48, ss_a64, ss_b64, ss_c64, ss_d64, ss_e64, ss_m2, ss_m3, ss_m4, ss_m8, ss_p2, ss_p3, ss_p4, ss_p8, ss_48p, ss_in, nI_add, nI_1, nI_clamp, nI_leI, nI_ltI, nI_eq, forall_eq, true_and, and_true]
        refine ⟨fun _ => ⟨h1, fun hw => ?_⟩, fun z => absurd hlt z⟩
        by_cases hw2 : wh = 2
        · refine h2 hw2 m ⟨hmem, fun v hv => ?_⟩
          obtain ⟨j, hj, rfl⟩ := ss_lsM.mp hv
          exact l1 hw2 j hj
        · refine h3 hw hw2 m ⟨hmem, fun v hv => ?_⟩
          obtain ⟨j, hj, rfl⟩ := ss_lsM.mp hv
          exact l2 hw2 j hj
      · have nx : ∀ m', m' ∈ ss_ls a_value mn → (wh = 2 → m' ≤ m ∧ m' ≤ a_value i) → (¬ wh = 2 → m ≤ m' ∧ a_value i ≤ m') → wX_ask_123 post wh f_segments f_added f_kept f_clock f_rows (nI mn) a_row a_from a_to a_held a_sort a_bits a_base a_least a_greatest a_words a_dictionary a_dRow a_dFrom a_dTo a_dValue a_wRow a_wFrom a_wTo a_wValue a_open a_start a_changed a_change a_changes a_fresh a_gone a_column a_low a_high a_found a_value f (ss_sm (ss_ls a_value i) + (a_value i).toInt64) m'.toInt64 (nI (i + 1)) := by
          intro m' hm' q1 q2
          have := ih (i + 1) m' (by omega) (by omega) hpos hm' (fun e j hj => ?_) (fun e j hj => ?_)
          · rw [ss_lsS, ss_smS] at this; exact this
          · rcases (by omega : j < i ∨ j = i) with h' | rfl
            · exact Int32.le_trans (q1 e).1 (l1 e j h')
            · exact (q1 e).2
          · rcases (by omega : j < i ∨ j = i) with h' | rfl
            · exact Int32.le_trans (l2 e j h') (q2 e).1
            · exact (q2 e).2
        have hmi : a_value i ∈ ss_ls a_value mn := ss_lsI (by omega)
        simp (disch := omega) only [wX_ask_123, wX_ask_181, ss_a0, ss_b0, ss_c0, ss_d0, ss_e0, ss_a1, ss_b1, ss_c1, ss_d1, ss_e1, ss_a2, ss_b2, ss_c2, ss_d2, ss_e2, ss_a3, ss_b3, ss_c3, ss_d3, ss_e3, ss_a4, ss_b4, ss_c4, ss_d4, ss_e4, ss_a5, ss_b5, ss_c5, ss_d5, ss_e5, ss_a8, ss_b8, ss_c8, ss_d8, ss_e8, ss_a32, ss_b32, ss_c32, ss_d32, ss_e32, ss_a40, ss_b40, ss_c40, ss_d40, ss_e40, ss_a48, ss_b48, ss_c48, ss_d48, ss_e48, ss_a64, ss_b64, ss_c64, ss_d64, ss_e64, ss_m2, ss_m3, ss_m4, ss_m8, ss_p2, ss_p3, ss_p4, ss_p8, ss_48p, ss_in, nI_add, nI_1, nI_clamp, nI_leI, nI_ltI, nI_eq, forall_eq, true_and, and_true, ss_l64]
        refine ⟨fun z => absurd z hlt, fun _ => ⟨by omega, fun hw => ⟨by omega, fun hle => ?_, fun hle => ⟨by omega, ?_⟩⟩, fun hw => ⟨by omega, fun hle => ?_, fun hle => ⟨by omega, ?_⟩⟩⟩⟩
        · exact nx m hmem (fun _ => ⟨Int32.le_refl _, hle⟩) (fun z => absurd hw z)
        · exact nx _ hmi (fun _ => ⟨Int32.le_of_lt (Int32.not_le.mp hle), Int32.le_refl _⟩) (fun z => absurd hw z)
        · exact nx m hmem (fun z => absurd z hw) (fun _ => ⟨Int32.le_refl _, hle⟩)
        · exact nx _ hmi (fun z => absurd z hw) (fun _ => ⟨Int32.le_of_lt (Int32.not_le.mp hle), Int32.le_refl _⟩)
  rcases (by omega : mn = 0 ∨ 0 < mn) with e | hpos
  · rw [hb0 e]
    subst e
    refine ⟨1, ⟨fun _ => ⟨fun hw => ?_, fun hw => h20 hw rfl⟩, fun z => absurd (Int32.le_refl _) z⟩⟩
    exact h1 hw
  · rw [hb1 hpos]
    exact ⟨mn + 1, key (mn + 1) 0 (a_value 0) (by omega) (by omega) hpos (ss_lsI hpos) (fun _ j hj => by omega) (fun _ j hj => by omega)⟩
/-- sum or greatest of the cells of a stretch -/
theorem ss_xgt {post : Int64 → Prop} {t : Int32} {a b c : Nat} {sums : Bool} {cv : Nat → Int32} (hab : a < b) (hb : b ≤ 128)
    (hcell : ∀ i, a ≤ i → i < b → ∀ post' : Int64 → Prop, post' (cv i).toInt64 → wpX_cell post' (f_segments, f_added, f_kept, f_clock, f_rows, nI mn, a_row, a_from, a_to, a_held, a_sort, a_bits, a_base, a_least, a_greatest, a_words, a_dictionary, a_dRow, a_dFrom, a_dTo, a_dValue, a_wRow, a_wFrom, a_wTo, a_wValue, a_open, a_start, a_changed, a_change, a_changes, a_fresh, a_gone, a_column, a_low, a_high, a_found, a_value) t (a_found i) (nI c))
    (h1 : sums = true → post (ss_sm (ss_ls (fun i => cv (a + i)) (b - a)))) (h0 : sums = false → ∀ m, ss_mx (ss_ls (fun i => cv (a + i)) (b - a)) m → post m.toInt64) :
    wpX_gathered post (f_segments, f_added, f_kept, f_clock, f_rows, nI mn, a_row, a_from, a_to, a_held, a_sort, a_bits, a_base, a_least, a_greatest, a_words, a_dictionary, a_dRow, a_dFrom, a_dTo, a_dValue, a_wRow, a_wFrom, a_wTo, a_wValue, a_open, a_start, a_changed, a_change, a_changes, a_fresh, a_gone, a_column, a_low, a_high, a_found, a_value) t (nI c) (nI a) (nI b) (ss_bi sums) := by
  have hn : ∀ m : Int32, m.toInt64 = 10000000000 ↔ False := fun m => ⟨fun z => ss_n64 z, False.elim⟩
  have key : ∀ f i m, a < i → i ≤ b → b < f + i → m ∈ ss_ls (fun i => cv (a + i)) (b - a) → (∀ j, a ≤ j → j < i → cv j ≤ m) → wX_gathered_11 post t (nI c) (nI b) (ss_bi sums) f_segments f_added f_kept f_clock f_rows (nI mn) a_row a_from a_to a_held a_sort a_bits a_base a_least a_greatest a_words a_dictionary a_dRow a_dFrom a_dTo a_dValue a_wRow a_wFrom a_wTo a_wValue a_open a_start a_changed a_change a_changes a_fresh a_gone a_column a_low a_high a_found a_value f (ss_sm (ss_ls (fun i => cv (a + i)) (i - a))) m.toInt64 (nI i) := by
    intro f
    induction f with
    | zero => intro i m h1 h2; omega
    | succ f ih =>
      intro i m hai hi hf hmem hle
      by_cases hlt : b ≤ i
      · have e : i = b := by omega
        subst e
        simp (disch := omega) only [wX_gathered_11, ss_a0, ss_b0, ss_c0, ss_d0, ss_e0, ss_a1, ss_b1, ss_c1, ss_d1, ss_e1, ss_a2, ss_b2, ss_c2, ss_d2, ss_e2, ss_a3, ss_b3, ss_c3, ss_d3, ss_e3, ss_a4, ss_b4, ss_c4, ss_d4, ss_e4, ss_a5, ss_b5, ss_c5, ss_d5, ss_e5, ss_a8, ss_b8, ss_c8, ss_d8, ss_e8, ss_a32, ss_b32, ss_c32, ss_d32, ss_e32, ss_a40, ss_b40, ss_c40, ss_d40, ss_e40, ss_a48, ss_b48, ss_c48, ss_d48, ss_e48, ss_a64, ss_b64, ss_c64, ss_d64, ss_e64, ss_m2, ss_m3, ss_m4, ss_m8, ss_p2, ss_p3, ss_p4, ss_p8, ss_48p, ss_in, nI_add, nI_1, nI_clamp, nI_leI, nI_ltI, nI_eq, forall_eq, true_and, and_true]
        refine ⟨fun _ => ss_br (fun e => h0 e m ⟨hmem, fun v hv => ?_⟩) h1, fun z => absurd hlt z⟩
        obtain ⟨j, hj, rfl⟩ := ss_lsM.mp hv
        exact hle (a + j) (by omega) (by omega)
      · have hmi : cv i ∈ ss_ls (fun i => cv (a + i)) (b - a) := by
          have := ss_lsI (g := fun i => cv (a + i)) (n := b - a) (i := i - a) (by omega)
          rw [show a + (i - a) = i by omega] at this
          exact this
        have es : ss_sm (ss_ls (fun i => cv (a + i)) (i + 1 - a)) = ss_sm (ss_ls (fun i => cv (a + i)) (i - a)) + (cv i).toInt64 := by
          rw [show i + 1 - a = i - a + 1 by omega, ss_lsS, ss_smS, show a + (i - a) = i by omega]
        simp (disch := omega) only [wX_gathered_11, ss_a0, ss_b0, ss_c0, ss_d0, ss_e0, ss_a1, ss_b1, ss_c1, ss_d1, ss_e1, ss_a2, ss_b2, ss_c2, ss_d2, ss_e2, ss_a3, ss_b3, ss_c3, ss_d3, ss_e3, ss_a4, ss_b4, ss_c4, ss_d4, ss_e4, ss_a5, ss_b5, ss_c5, ss_d5, ss_e5, ss_a8, ss_b8, ss_c8, ss_d8, ss_e8, ss_a32, ss_b32, ss_c32, ss_d32, ss_e32, ss_a40, ss_b40, ss_c40, ss_d40, ss_e40, ss_a48, ss_b48, ss_c48, ss_d48, ss_e48, ss_a64, ss_b64, ss_c64, ss_d64, ss_e64, ss_m2, ss_m3, ss_m4, ss_m8, ss_p2, ss_p3, ss_p4, ss_p8, ss_48p, ss_in, nI_add, nI_1, nI_clamp, nI_leI, nI_ltI, nI_eq, forall_eq, true_and, and_true]
        refine ⟨fun z => absurd z hlt, fun _ => ⟨by omega, hcell i (by omega) (by omega) _ ?_⟩⟩
        simp only [hn, ss_l64]
        refine ⟨fun z => z.elim, fun _ => ⟨fun h => ?_, fun h => ?_⟩⟩
        · have := ih (i + 1) m (by omega) (by omega) (by omega) hmem (fun j h1 h2 => ?_)
          · rw [es] at this; exact this
          · rcases (by omega : j < i ∨ j = i) with h' | rfl
            · exact hle j h1 h'
            · exact h
        · have := ih (i + 1) (cv i) (by omega) (by omega) (by omega) hmi (fun j h1 h2 => ?_)
          · rw [es] at this; exact this
          · rcases (by omega : j < i ∨ j = i) with h' | rfl
            · exact Int32.le_trans (hle j h1 h') (Int32.le_of_lt (Int32.not_le.mp h))
            · exact Int32.le_refl _
  have hma : cv a ∈ ss_ls (fun i => cv (a + i)) (b - a) := ss_lsI (g := fun i => cv (a + i)) (n := b - a) (i := 0) (by omega)
  have st : ∀ fu, b + 1 ≤ fu → wX_gathered_11 post t (nI c) (nI b) (ss_bi sums) f_segments f_added f_kept f_clock f_rows (nI mn) a_row a_from a_to a_held a_sort a_bits a_base a_least a_greatest a_words a_dictionary a_dRow a_dFrom a_dTo a_dValue a_wRow a_wFrom a_wTo a_wValue a_open a_start a_changed a_change a_changes a_fresh a_gone a_column a_low a_high a_found a_value (fu + 1) 0 10000000000 (nI a) := by
    intro fu hfu
    simp (disch := omega) only [wX_gathered_11, ss_a0, ss_b0, ss_c0, ss_d0, ss_e0, ss_a1, ss_b1, ss_c1, ss_d1, ss_e1, ss_a2, ss_b2, ss_c2, ss_d2, ss_e2, ss_a3, ss_b3, ss_c3, ss_d3, ss_e3, ss_a4, ss_b4, ss_c4, ss_d4, ss_e4, ss_a5, ss_b5, ss_c5, ss_d5, ss_e5, ss_a8, ss_b8, ss_c8, ss_d8, ss_e8, ss_a32, ss_b32, ss_c32, ss_d32, ss_e32, ss_a40, ss_b40, ss_c40, ss_d40, ss_e40, ss_a48, ss_b48, ss_c48, ss_d48, ss_e48, ss_a64, ss_b64, ss_c64, ss_d64, ss_e64, ss_m2, ss_m3, ss_m4, ss_m8, ss_p2, ss_p3, ss_p4, ss_p8, ss_48p, ss_in, nI_add, nI_1, nI_clamp, nI_leI, nI_ltI, nI_eq, forall_eq, true_and, and_true]
    refine ⟨fun z => absurd z (by omega), fun _ => ⟨by omega, hcell a (by omega) hab _ ⟨fun _ => ?_, fun z => absurd trivial z⟩⟩⟩
    have := key fu (a + 1) (cv a) (by omega) (by omega) (by omega) hma (fun j h1 h2 => by rw [show j = a by omega]; exact Int32.le_refl _)
    rw [show a + 1 - a = 0 + 1 by omega, ss_lsS, ss_smS] at this
    exact this
  exact ⟨b + 2, st (b + 1) (Nat.le_refl _)⟩
theorem ss_xg132 {post : Int64 → SX → Prop} {t wh : Int32} {a c : Nat} (ha : a < mn) (hm : mn ≤ 128)
    (h : ∀ b, a < b → b ≤ mn → (∀ i, a ≤ i → i < b → a_value i = a_value a) → (b = mn ∨ ¬ a_value b = a_value a) → wX_group_164 post t wh (nI c) (nI a) (nI b) f_segments f_added f_kept f_clock f_rows (nI mn) a_row a_from a_to a_held a_sort a_bits a_base a_least a_greatest a_words a_dictionary a_dRow a_dFrom a_dTo a_dValue a_wRow a_wFrom a_wTo a_wValue a_open a_start a_changed a_change a_changes a_fresh a_gone a_column a_low a_high a_found a_value) :
    ∃ n132, wX_group_132 post t wh (nI c) (nI a) f_segments f_added f_kept f_clock f_rows (nI mn) a_row a_from a_to a_held a_sort a_bits a_base a_least a_greatest a_words a_dictionary a_dRow a_dFrom a_dTo a_dValue a_wRow a_wFrom a_wTo a_wValue a_open a_start a_changed a_change a_changes a_fresh a_gone a_column a_low a_high a_found a_value n132 (nI a) := by
  have key : ∀ f b, a ≤ b → b ≤ mn → mn < f + b → (∀ i, a ≤ i → i < b → a_value i = a_value a) → wX_group_132 post t wh (nI c) (nI a) f_segments f_added f_kept f_clock f_rows (nI mn) a_row a_from a_to a_held a_sort a_bits a_base a_least a_greatest a_words a_dictionary a_dRow a_dFrom a_dTo a_dValue a_wRow a_wFrom a_wTo a_wValue a_open a_start a_changed a_change a_changes a_fresh a_gone a_column a_low a_high a_found a_value f (nI b) := by
    intro f
    induction f with
    | zero => intro b h1 h2; omega
    | succ f ih =>
      intro b hab hb hf hin
      simp (disch := omega) only [wX_group_132, ss_a0, ss_b0, ss_c0, ss_d0, ss_e0, ss_a1, ss_b1, ss_c1, ss_d1, ss_e1, ss_a2, ss_b2, ss_c2, ss_d2, ss_e2, ss_a3, ss_b3, ss_c3, ss_d3, ss_e3, ss_a4, ss_b4, ss_c4, ss_d4, ss_e4, ss_a5, ss_b5, ss_c5, ss_d5, ss_e5, ss_a8, ss_b8, ss_c8, ss_d8, ss_e8, ss_a32, ss_b32, ss_c32, ss_d32, ss_e32, ss_a40, ss_b40, ss_c40, ss_d40, ss_e40, ss_a48, ss_b48, ss_c48, ss_d48, ss_e48, ss_a64, ss_b64, ss_c64, ss_d64, ss_e64, ss_m2, ss_m3, ss_m4, ss_m8, ss_p2, ss_p3, ss_p4, ss_p8, ss_48p, ss_in, nI_add, nI_1, nI_clamp, nI_leI, nI_ltI, nI_eq, forall_eq, true_and, and_true]
      refine ⟨fun z => h b (by omega) hb hin (Or.inl (by omega)), fun z => ⟨by omega, by omega, fun e => ih (b + 1) (by omega) (by omega) (by omega) fun i h1 h2 => ?_, fun e => h b ?_ hb hin (Or.inr e)⟩⟩
      · rcases (by omega : i < b ∨ i = b) with h' | rfl
        · exact hin i h1 h'
        · exact e
      · rcases (by omega : a < b ∨ a = b) with h' | rfl
        · exact h'
        · exact absurd rfl e
  exact ⟨mn + 1, key (mn + 1) a (by omega) (by omega) (by omega) (fun i h1 h2 => by omega)⟩
/-- the group's beginning -/
theorem ss_xg51 {post : Int64 → SX → Prop} {t wh : Int32} {c kk : Nat} (hm : mn ≤ 128) (hkk : kk < 2 ^ 31) (hO : ∀ a b, a ≤ b → b < mn → a_value a ≤ a_value b)
    (h0 : (ss_nb a_value mn).length ≤ kk → post 0 (f_segments, f_added, f_kept, f_clock, f_rows, nI mn, a_row, a_from, a_to, a_held, a_sort, a_bits, a_base, a_least, a_greatest, a_words, a_dictionary, a_dRow, a_dFrom, a_dTo, a_dValue, a_wRow, a_wFrom, a_wTo, a_wValue, a_open, a_start, a_changed, a_change, a_changes, a_fresh, a_gone, a_column, a_low, a_high, a_found, a_value))
    (h1 : ∀ a, a < mn → ss_fi a_value a = true → (ss_nb a_value a).length = kk → wX_group_103 post t wh (nI c) (nI a) f_segments f_added f_kept f_clock f_rows (nI mn) a_row a_from a_to a_held a_sort a_bits a_base a_least a_greatest a_words a_dictionary a_dRow a_dFrom a_dTo a_dValue a_wRow a_wFrom a_wTo a_wValue a_open a_start a_changed a_change a_changes a_fresh a_gone a_column a_low a_high a_found a_value) :
    ∃ n51, wX_group_51 post t (nI kk) wh (nI c) f_segments f_added f_kept f_clock f_rows (nI mn) a_row a_from a_to a_held a_sort a_bits a_base a_least a_greatest a_words a_dictionary a_dRow a_dFrom a_dTo a_dValue a_wRow a_wFrom a_wTo a_wValue a_open a_start a_changed a_change a_changes a_fresh a_gone a_column a_low a_high a_found a_value n51 0 0 := by
  have nbm : ∀ i, (ss_nb a_value i).length ≤ i := fun i => ss_nbL
  have end0 : (ss_nb a_value mn).length ≤ kk → wX_group_103 post t wh (nI c) (nI mn) f_segments f_added f_kept f_clock f_rows (nI mn) a_row a_from a_to a_held a_sort a_bits a_base a_least a_greatest a_words a_dictionary a_dRow a_dFrom a_dTo a_dValue a_wRow a_wFrom a_wTo a_wValue a_open a_start a_changed a_change a_changes a_fresh a_gone a_column a_low a_high a_found a_value := fun hle => ⟨fun _ => h0 hle, fun z => absurd rfl z⟩
  -- at a border, or within a group
  have key : ∀ f i n, i ≤ mn → mn < f + i → n ≤ kk → n ≤ i → (((i = mn ∨ ss_fi a_value i = true) ∧ n = (ss_nb a_value i).length) ∨ (i < mn ∧ ss_fi a_value i = false ∧ n + 1 = (ss_nb a_value i).length ∧ n < kk)) → wX_group_51 post t (nI kk) wh (nI c) f_segments f_added f_kept f_clock f_rows (nI mn) a_row a_from a_to a_held a_sort a_bits a_base a_least a_greatest a_words a_dictionary a_dRow a_dFrom a_dTo a_dValue a_wRow a_wFrom a_wTo a_wValue a_open a_start a_changed a_change a_changes a_fresh a_gone a_column a_low a_high a_found a_value f (nI i) (nI n) := by
    intro f
    induction f with
    | zero => intro i n h1 h2; omega
    | succ f ih =>
      intro i n hi hf hn hni hI
      by_cases hlt : mn ≤ i
      · have e : i = mn := by omega
        subst e
        simp (disch := omega) only [wX_group_51, ss_a0, ss_b0, ss_c0, ss_d0, ss_e0, ss_a1, ss_b1, ss_c1, ss_d1, ss_e1, ss_a2, ss_b2, ss_c2, ss_d2, ss_e2, ss_a3, ss_b3, ss_c3, ss_d3, ss_e3, ss_a4, ss_b4, ss_c4, ss_d4, ss_e4, ss_a5, ss_b5, ss_c5, ss_d5, ss_e5, ss_a8, ss_b8, ss_c8, ss_d8, ss_e8, ss_a32, ss_b32, ss_c32, ss_d32, ss_e32, ss_a40, ss_b40, ss_c40, ss_d40, ss_e40, ss_a48, ss_b48, ss_c48, ss_d48, ss_e48, ss_a64, ss_b64, ss_c64, ss_d64, ss_e64, ss_m2, ss_m3, ss_m4, ss_m8, ss_p2, ss_p3, ss_p4, ss_p8, ss_48p, ss_in, nI_add, nI_1, nI_clamp, nI_leI, nI_ltI, nI_eq, forall_eq, true_and, and_true]
        refine ⟨fun _ => end0 ?_, fun z => absurd hlt z⟩
        rcases hI with ⟨-, e⟩ | ⟨h, -⟩
        · omega
        · omega
      · by_cases hnk : kk ≤ n
        · simp (disch := omega) only [wX_group_51, ss_a0, ss_b0, ss_c0, ss_d0, ss_e0, ss_a1, ss_b1, ss_c1, ss_d1, ss_e1, ss_a2, ss_b2, ss_c2, ss_d2, ss_e2, ss_a3, ss_b3, ss_c3, ss_d3, ss_e3, ss_a4, ss_b4, ss_c4, ss_d4, ss_e4, ss_a5, ss_b5, ss_c5, ss_d5, ss_e5, ss_a8, ss_b8, ss_c8, ss_d8, ss_e8, ss_a32, ss_b32, ss_c32, ss_d32, ss_e32, ss_a40, ss_b40, ss_c40, ss_d40, ss_e40, ss_a48, ss_b48, ss_c48, ss_d48, ss_e48, ss_a64, ss_b64, ss_c64, ss_d64, ss_e64, ss_m2, ss_m3, ss_m4, ss_m8, ss_p2, ss_p3, ss_p4, ss_p8, ss_48p, ss_in, nI_add, nI_1, nI_clamp, nI_leI, nI_ltI, nI_eq, forall_eq, true_and, and_true]
          refine ⟨fun z => absurd z hlt, fun _ => ⟨fun _ => ?_, fun z => absurd hnk z⟩⟩
          rcases hI with ⟨h, e⟩ | ⟨-, -, -, h⟩
          · rcases h with h | h
            · omega
            · exact h1 i (by omega) h (by omega)
          · omega
        · have hlen : (ss_nb a_value (i + 1)).length = n + 1 := by
            rw [ss_nbS]
            rcases hI with ⟨h, e⟩ | ⟨-, h, e, -⟩
            · rcases h with h | h
              · omega
              · rw [if_pos h]; omega
            · rw [h]; simp; omega
          have es : nI (i + 1) - 1 = nI i := nI_pred i
          simp (disch := omega) only [wX_group_51, ss_a0, ss_b0, ss_c0, ss_d0, ss_e0, ss_a1, ss_b1, ss_c1, ss_d1, ss_e1, ss_a2, ss_b2, ss_c2, ss_d2, ss_e2, ss_a3, ss_b3, ss_c3, ss_d3, ss_e3, ss_a4, ss_b4, ss_c4, ss_d4, ss_e4, ss_a5, ss_b5, ss_c5, ss_d5, ss_e5, ss_a8, ss_b8, ss_c8, ss_d8, ss_e8, ss_a32, ss_b32, ss_c32, ss_d32, ss_e32, ss_a40, ss_b40, ss_c40, ss_d40, ss_e40, ss_a48, ss_b48, ss_c48, ss_d48, ss_e48, ss_a64, ss_b64, ss_c64, ss_d64, ss_e64, ss_m2, ss_m3, ss_m4, ss_m8, ss_p2, ss_p3, ss_p4, ss_p8, ss_48p, ss_in, nI_add, nI_1, nI_clamp, nI_leI, nI_ltI, nI_eq, forall_eq, true_and, and_true, es]
          refine ⟨fun z => absurd z hlt, fun _ => ⟨fun z => absurd z hnk, fun _ => ⟨fun e => ?_, fun e => ⟨by omega, by omega, fun e2 => ?_, fun e2 => ?_⟩⟩⟩⟩
          · exact ih (i + 1) (n + 1) (by omega) (by omega) (by omega) (by omega) (Or.inl ⟨Or.inl e, hlen.symm⟩)
          · have hfi : ss_fi a_value (i + 1) = false := by
              rw [← Bool.not_eq_true, ss_fiO hO (by omega)]
              rintro (z | z)
              · omega
              · exact z e2
            exact ih (i + 1) n (by omega) (by omega) (by omega) (by omega) (Or.inr ⟨by omega, hfi, hlen.symm, by omega⟩)
          · have hfi : ss_fi a_value (i + 1) = true := (ss_fiO hO (by omega)).mpr (Or.inr e2)
            exact ih (i + 1) (n + 1) (by omega) (by omega) (by omega) (by omega) (Or.inl ⟨Or.inr hfi, hlen.symm⟩)
  refine ⟨mn + 1, key (mn + 1) 0 0 (by omega) (by omega) (by omega) (by omega) (Or.inl ⟨Or.inr ?_, rfl⟩)⟩
  rw [ss_fiT]; intro j hj; omega
end
end
section
section
variable {f_segments f_added f_kept f_clock f_rows f_many : Int32} {a_row a_from a_to a_held a_sort a_bits a_base a_least a_greatest a_dictionary a_dRow a_dFrom a_dTo a_dValue a_wRow a_wFrom a_wTo a_wValue a_open a_start a_changed a_change a_changes a_fresh a_gone a_column a_low a_high a_found a_value : Nat → Int32} {a_words : Nat → Int64}
variable {f_versions f_seen : Int32} {a_vRow a_vFrom a_vTo a_vInt a_sRow a_sInt a_kept : Nat → Int32}
variable {sn c : Nat}
def ss_gv (si : Nat → Int32) (c i : Nat) : Int32 := si (3 * i + c)
theorem ss_yfi {post : Int32 → Prop} {k : Nat} (hk : k < 64) (hc : c < 3) (h : post (ss_bi (ss_fi (ss_gv a_sInt c) k))) : wpY_first post (f_versions, f_clock, f_rows, nI sn, a_vRow, a_vFrom, a_vTo, a_vInt, a_open, a_start, a_changes, a_changed, a_fresh, a_gone, a_change, a_column, a_low, a_high, a_sRow, a_sInt, a_kept) (nI k) (nI c) := by
  have key : ∀ f j, j ≤ k → k < f + j → (∀ i, i < j → ¬ ss_gv a_sInt c i = ss_gv a_sInt c k) → wY_first_2 post (nI k) (nI c) f_versions f_clock f_rows (nI sn) a_vRow a_vFrom a_vTo a_vInt a_open a_start a_changes a_changed a_fresh a_gone a_change a_column a_low a_high a_sRow a_sInt a_kept f (nI j) := by
    intro f
    induction f with
    | zero => intro j h1 h2; omega
    | succ f ih =>
      intro j hj hf hno
      simp (disch := omega) only [wY_first_2, ss_a0, ss_b0, ss_c0, ss_d0, ss_e0, ss_a1, ss_b1, ss_c1, ss_d1, ss_e1, ss_a2, ss_b2, ss_c2, ss_d2, ss_e2, ss_a3, ss_b3, ss_c3, ss_d3, ss_e3, ss_a4, ss_b4, ss_c4, ss_d4, ss_e4, ss_a5, ss_b5, ss_c5, ss_d5, ss_e5, ss_a8, ss_b8, ss_c8, ss_d8, ss_e8, ss_a32, ss_b32, ss_c32, ss_d32, ss_e32, ss_a40, ss_b40, ss_c40, ss_d40, ss_e40, ss_a48, ss_b48, ss_c48, ss_d48, ss_e48, ss_a64, ss_b64, ss_c64, ss_d64, ss_e64, ss_m2, ss_m3, ss_m4, ss_m8, ss_p2, ss_p3, ss_p4, ss_p8, ss_48p, ss_in, nI_add, nI_1, nI_clamp, nI_leI, nI_ltI, nI_eq, forall_eq, true_and, and_true]
      refine ⟨fun z => ?_, fun z => ⟨by omega, by omega, fun e => ?_, fun e => ih (j + 1) (by omega) (by omega) fun i hi => ?_⟩⟩
      · have : ss_fi (ss_gv a_sInt c) k = true := ss_fiT.mpr fun i hi => hno i (by omega)
        rw [this] at h; exact h
      · have : ss_fi (ss_gv a_sInt c) k = false := by
          rw [← Bool.not_eq_true, ss_fiT]
          exact fun w => w j (by omega) e
        rw [this] at h; exact h
      · rcases (by omega : i < j ∨ i = j) with h' | rfl
        · exact hno i h'
        · exact e
  exact ⟨k + 1, key (k + 1) 0 (by omega) (by omega) (fun i hi => by omega)⟩
theorem ss_ydf {post : Int32 → Prop} (hs : sn ≤ 64) (hc : c < 3) (h : post (nI (ss_nb (ss_gv a_sInt c) sn).length)) : wpY_different post (f_versions, f_clock, f_rows, nI sn, a_vRow, a_vFrom, a_vTo, a_vInt, a_open, a_start, a_changes, a_changed, a_fresh, a_gone, a_change, a_column, a_low, a_high, a_sRow, a_sInt, a_kept) (nI c) := by
  have key : ∀ f i, i ≤ sn → sn < f + i → wY_different_4 post (nI c) f_versions f_clock f_rows (nI sn) a_vRow a_vFrom a_vTo a_vInt a_open a_start a_changes a_changed a_fresh a_gone a_change a_column a_low a_high a_sRow a_sInt a_kept f (nI (ss_nb (ss_gv a_sInt c) i).length) (nI i) := by
    intro f
    induction f with
    | zero => intro j h1 h2; omega
    | succ f ih =>
      intro i hi hf
      have hl := ss_nbL (g := ss_gv a_sInt c) (n := i)
      have st := ih (i + 1)
      rw [ss_nbS] at st
      simp (disch := omega) only [wY_different_4, ss_a0, ss_b0, ss_c0, ss_d0, ss_e0, ss_a1, ss_b1, ss_c1, ss_d1, ss_e1, ss_a2, ss_b2, ss_c2, ss_d2, ss_e2, ss_a3, ss_b3, ss_c3, ss_d3, ss_e3, ss_a4, ss_b4, ss_c4, ss_d4, ss_e4, ss_a5, ss_b5, ss_c5, ss_d5, ss_e5, ss_a8, ss_b8, ss_c8, ss_d8, ss_e8, ss_a32, ss_b32, ss_c32, ss_d32, ss_e32, ss_a40, ss_b40, ss_c40, ss_d40, ss_e40, ss_a48, ss_b48, ss_c48, ss_d48, ss_e48, ss_a64, ss_b64, ss_c64, ss_d64, ss_e64, ss_m2, ss_m3, ss_m4, ss_m8, ss_p2, ss_p3, ss_p4, ss_p8, ss_48p, ss_in, nI_add, nI_1, nI_clamp, nI_leI, nI_ltI, nI_eq, forall_eq, true_and, and_true]
      refine ⟨fun z => ?_, fun z => ss_yfi (by omega) hc (ss_br (fun e => ?_) (fun e => ?_))⟩
      · rw [show i = sn by omega]; exact h
      · rw [e] at st; exact st (by omega) (by omega)
      · rw [if_pos e] at st; exact st (by omega) (by omega)
  exact ⟨sn + 1, key (sn + 1) 0 (by omega) (by omega)⟩
theorem ss_ybl {post : Int32 → Prop} {v : Int32} (hs : sn ≤ 64) (hc : c < 3) (h : post (nI (ss_bl (ss_gv a_sInt c) sn v))) : wpY_below post (f_versions, f_clock, f_rows, nI sn, a_vRow, a_vFrom, a_vTo, a_vInt, a_open, a_start, a_changes, a_changed, a_fresh, a_gone, a_change, a_column, a_low, a_high, a_sRow, a_sInt, a_kept) v (nI c) := by
  have key : ∀ f i, i ≤ sn → sn < f + i → wY_below_5 post v (nI c) f_versions f_clock f_rows (nI sn) a_vRow a_vFrom a_vTo a_vInt a_open a_start a_changes a_changed a_fresh a_gone a_change a_column a_low a_high a_sRow a_sInt a_kept f (nI ((ss_nb (ss_gv a_sInt c) i).countP (fun x => decide (x < v)))) (nI i) := by
    intro f
    induction f with
    | zero => intro j h1 h2; omega
    | succ f ih =>
      intro i hi hf
      have hl := ss_nbL (g := ss_gv a_sInt c) (n := i)
      have hl2 := List.countP_le_length (p := fun x => decide (x < v)) (l := ss_nb (ss_gv a_sInt c) i)
      have st := ih (i + 1)
      have e : ss_nb (ss_gv a_sInt c) (i + 1) = ss_nb (ss_gv a_sInt c) i ++ (if ss_fi (ss_gv a_sInt c) i = true then [ss_gv a_sInt c i] else []) := ss_flS
      rw [e, List.countP_append] at st
      simp (disch := omega) only [wY_below_5, ss_a0, ss_b0, ss_c0, ss_d0, ss_e0, ss_a1, ss_b1, ss_c1, ss_d1, ss_e1, ss_a2, ss_b2, ss_c2, ss_d2, ss_e2, ss_a3, ss_b3, ss_c3, ss_d3, ss_e3, ss_a4, ss_b4, ss_c4, ss_d4, ss_e4, ss_a5, ss_b5, ss_c5, ss_d5, ss_e5, ss_a8, ss_b8, ss_c8, ss_d8, ss_e8, ss_a32, ss_b32, ss_c32, ss_d32, ss_e32, ss_a40, ss_b40, ss_c40, ss_d40, ss_e40, ss_a48, ss_b48, ss_c48, ss_d48, ss_e48, ss_a64, ss_b64, ss_c64, ss_d64, ss_e64, ss_m2, ss_m3, ss_m4, ss_m8, ss_p2, ss_p3, ss_p4, ss_p8, ss_48p, ss_in, nI_add, nI_1, nI_clamp, nI_leI, nI_ltI, nI_eq, forall_eq, true_and, and_true]
      refine ⟨fun z => ?_, fun z => ⟨by omega, fun hv => ?_, fun hv => ss_yfi (by omega) hc (ss_br (fun e => ?_) (fun e => ?_))⟩⟩
      · rw [show i = sn by omega]; exact h
      · have : (if ss_fi (ss_gv a_sInt c) i = true then [ss_gv a_sInt c i] else []).countP (fun x => decide (x < v)) = 0 := by
          by_cases h2 : ss_fi (ss_gv a_sInt c) i = true
          · rw [if_pos h2, List.countP_singleton, if_neg]
            rw [decide_eq_true_eq]
            exact Int32.not_lt.mpr hv
          · rw [if_neg h2]; rfl
        rw [this] at st
        exact st (by omega) (by omega)
      · rw [e] at st; exact st (by omega) (by omega)
      · have hlt : ss_gv a_sInt c i < v := Int32.not_le.mp hv
        rw [if_pos e, List.countP_singleton, if_pos (decide_eq_true hlt)] at st
        exact st (by omega) (by omega)
  exact ⟨sn + 1, key (sn + 1) 0 (by omega) (by omega)⟩
theorem ss_yto {post : Int64 → Prop} {wh : Int32} (hs : sn ≤ 64) (hpos : 0 < sn) (hc : c < 3) (h0 : wh = 0 → post (nI sn).toInt64) (h1 : wh = 1 → post (ss_sm (ss_ls (ss_gv a_sInt c) sn)))
    (h2 : wh = 2 → ∀ m, ss_mi (ss_ls (ss_gv a_sInt c) sn) m → post m.toInt64) (h3 : ¬ wh = 0 → ¬ wh = 1 → ¬ wh = 2 → ∀ m, ss_mx (ss_ls (ss_gv a_sInt c) sn) m → post m.toInt64) : wpY_total post (f_versions, f_clock, f_rows, nI sn, a_vRow, a_vFrom, a_vTo, a_vInt, a_open, a_start, a_changes, a_changed, a_fresh, a_gone, a_change, a_column, a_low, a_high, a_sRow, a_sInt, a_kept) (nI c) wh := by
  have key : ∀ f i m x, i ≤ sn → sn < f + i → m ∈ ss_ls (ss_gv a_sInt c) sn → x ∈ ss_ls (ss_gv a_sInt c) sn → (∀ j, j < i → m ≤ ss_gv a_sInt c j) → (∀ j, j < i → ss_gv a_sInt c j ≤ x) → wY_total_21 post (nI c) wh f_versions f_clock f_rows (nI sn) a_vRow a_vFrom a_vTo a_vInt a_open a_start a_changes a_changed a_fresh a_gone a_change a_column a_low a_high a_sRow a_sInt a_kept f (ss_sm (ss_ls (ss_gv a_sInt c) i)) m x (nI i) := by
    intro f
    induction f with
    | zero => intro i m x h1 h2; omega
    | succ f ih =>
      intro i m x hi hf hm hx l1 l2
      by_cases hlt : sn ≤ i
      · have e : i = sn := by omega
        subst e
        simp (disch := omega) only [wY_total_21, ss_a0, ss_b0, ss_c0, ss_d0, ss_e0, ss_a1, ss_b1, ss_c1, ss_d1, ss_e1, ss_a2, ss_b2, ss_c2, ss_d2, ss_e2, ss_a3, ss_b3, ss_c3, ss_d3, ss_e3, ss_a4, ss_b4, ss_c4, ss_d4, ss_e4, ss_a5, ss_b5, ss_c5, ss_d5, ss_e5, ss_a8, ss_b8, ss_c8, ss_d8, ss_e8, ss_a32, ss_b32, ss_c32, ss_d32, ss_e32, ss_a40, ss_b40, ss_c40, ss_d40, ss_e40, ss_a48, ss_b48, ss_c48, ss_d48, ss_e48, ss_a64, ss_b64, ss_c64, ss_d64, ss_e64, ss_m2, ss_m3, ss_m4, ss_m8, ss_p2, ss_p3, ss_p4, ss_p8, ss_48p, ss_in, nI_add, nI_1, nI_clamp, nI_leI, nI_ltI, nI_eq, forall_eq, true_and, and_true]
        refine ⟨fun _ => ⟨h0, fun n0 => ⟨h1, fun n1 => ⟨fun e2 => h2 e2 m ⟨hm, fun v hv => ?_⟩, fun n2 => h3 n0 n1 n2 x ⟨hx, fun v hv => ?_⟩⟩⟩⟩, fun z => absurd hlt z⟩
        · obtain ⟨j, hj, rfl⟩ := ss_lsM.mp hv
          exact l1 j hj
        · obtain ⟨j, hj, rfl⟩ := ss_lsM.mp hv
          exact l2 j hj
      · have nx : ∀ m' x', m' ∈ ss_ls (ss_gv a_sInt c) sn → x' ∈ ss_ls (ss_gv a_sInt c) sn → m' ≤ m → m' ≤ ss_gv a_sInt c i → x ≤ x' → ss_gv a_sInt c i ≤ x' → wY_total_21 post (nI c) wh f_versions f_clock f_rows (nI sn) a_vRow a_vFrom a_vTo a_vInt a_open a_start a_changes a_changed a_fresh a_gone a_change a_column a_low a_high a_sRow a_sInt a_kept f (ss_sm (ss_ls (ss_gv a_sInt c) i) + (ss_gv a_sInt c i).toInt64) m' x' (nI (i + 1)) := by
          intro m' x' hm' hx' q1 q2 q3 q4
          have := ih (i + 1) m' x' (by omega) (by omega) hm' hx' (fun j hj => ?_) (fun j hj => ?_)
          · rw [ss_lsS, ss_smS] at this; exact this
          · rcases (by omega : j < i ∨ j = i) with h' | rfl
            · exact Int32.le_trans q1 (l1 j h')
            · exact q2
          · rcases (by omega : j < i ∨ j = i) with h' | rfl
            · exact Int32.le_trans (l2 j h') q3
            · exact q4
        have hmi : ss_gv a_sInt c i ∈ ss_ls (ss_gv a_sInt c) sn := ss_lsI (by omega)
        have t60 : ∀ m', m' ∈ ss_ls (ss_gv a_sInt c) sn → m' ≤ m → m' ≤ ss_gv a_sInt c i → wY_total_60 post (wY_total_21 post (nI c) wh f_versions f_clock f_rows (nI sn) a_vRow a_vFrom a_vTo a_vInt a_open a_start a_changes a_changed a_fresh a_gone a_change a_column a_low a_high a_sRow a_sInt a_kept f) (nI c) wh (ss_sm (ss_ls (ss_gv a_sInt c) i) + (ss_gv a_sInt c i).toInt64) m' x (nI i) (ss_gv a_sInt c i) f_versions f_clock f_rows (nI sn) a_vRow a_vFrom a_vTo a_vInt a_open a_start a_changes a_changed a_fresh a_gone a_change a_column a_low a_high a_sRow a_sInt a_kept := by
          intro m' hm' q1 q2
          simp (disch := omega) only [wY_total_60, ss_a0, ss_b0, ss_c0, ss_d0, ss_e0, ss_a1, ss_b1, ss_c1, ss_d1, ss_e1, ss_a2, ss_b2, ss_c2, ss_d2, ss_e2, ss_a3, ss_b3, ss_c3, ss_d3, ss_e3, ss_a4, ss_b4, ss_c4, ss_d4, ss_e4, ss_a5, ss_b5, ss_c5, ss_d5, ss_e5, ss_a8, ss_b8, ss_c8, ss_d8, ss_e8, ss_a32, ss_b32, ss_c32, ss_d32, ss_e32, ss_a40, ss_b40, ss_c40, ss_d40, ss_e40, ss_a48, ss_b48, ss_c48, ss_d48, ss_e48, ss_a64, ss_b64, ss_c64, ss_d64, ss_e64, ss_m2, ss_m3, ss_m4, ss_m8, ss_p2, ss_p3, ss_p4, ss_p8, ss_48p, ss_in, nI_add, nI_1, nI_clamp, nI_leI, nI_ltI, nI_eq, forall_eq, true_and, and_true]
          exact ⟨fun h => nx m' x hm' hx q1 q2 (Int32.le_refl _) h, fun h => nx m' _ hm' hmi q1 q2 (Int32.le_of_lt (Int32.not_le.mp h)) (Int32.le_refl _)⟩
        simp (disch := omega) only [wY_total_21, ss_a0, ss_b0, ss_c0, ss_d0, ss_e0, ss_a1, ss_b1, ss_c1, ss_d1, ss_e1, ss_a2, ss_b2, ss_c2, ss_d2, ss_e2, ss_a3, ss_b3, ss_c3, ss_d3, ss_e3, ss_a4, ss_b4, ss_c4, ss_d4, ss_e4, ss_a5, ss_b5, ss_c5, ss_d5, ss_e5, ss_a8, ss_b8, ss_c8, ss_d8, ss_e8, ss_a32, ss_b32, ss_c32, ss_d32, ss_e32, ss_a40, ss_b40, ss_c40, ss_d40, ss_e40, ss_a48, ss_b48, ss_c48, ss_d48, ss_e48, ss_a64, ss_b64, ss_c64, ss_d64, ss_e64, ss_m2, ss_m3, ss_m4, ss_m8, ss_p2, ss_p3, ss_p4, ss_p8, ss_48p, ss_in, nI_add, nI_1, nI_clamp, nI_leI, nI_ltI, nI_eq, forall_eq, true_and, and_true]
        exact ⟨fun z => absurd z hlt, fun _ => ⟨by omega, fun h => t60 m hm (Int32.le_refl _) h, fun h => t60 _ hmi (Int32.le_of_lt (Int32.not_le.mp h)) (Int32.le_refl _)⟩⟩
  have e0 : a_sInt c = ss_gv a_sInt c 0 := by unfold ss_gv; rw [Nat.mul_zero, Nat.zero_add]
  have hm0 : ss_gv a_sInt c 0 ∈ ss_ls (ss_gv a_sInt c) sn := ss_lsI hpos
  simp (disch := omega) only [wpY_total, ss_a0, ss_b0, ss_c0, ss_d0, ss_e0, ss_a1, ss_b1, ss_c1, ss_d1, ss_e1, ss_a2, ss_b2, ss_c2, ss_d2, ss_e2, ss_a3, ss_b3, ss_c3, ss_d3, ss_e3, ss_a4, ss_b4, ss_c4, ss_d4, ss_e4, ss_a5, ss_b5, ss_c5, ss_d5, ss_e5, ss_a8, ss_b8, ss_c8, ss_d8, ss_e8, ss_a32, ss_b32, ss_c32, ss_d32, ss_e32, ss_a40, ss_b40, ss_c40, ss_d40, ss_e40, ss_a48, ss_b48, ss_c48, ss_d48, ss_e48, ss_a64, ss_b64, ss_c64, ss_d64, ss_e64, ss_m2, ss_m3, ss_m4, ss_m8, ss_p2, ss_p3, ss_p4, ss_p8, ss_48p, ss_in, nI_add, nI_1, nI_clamp, nI_leI, nI_ltI, nI_eq, forall_eq, true_and, and_true, e0]
  exact ⟨by omega, by omega, sn + 1, key (sn + 1) 0 _ _ (by omega) (by omega) hm0 hm0 (fun j hj => by omega) (fun j hj => by omega)⟩
theorem ss_ybe {post : Int32 → Prop} {j k : Nat} (hj : j < 64) (hk : k < 64) (hc : c < 3) (h : post (ss_bi (ss_bef (a_sRow j, ss_gv a_sInt c j) (a_sRow k, ss_gv a_sInt c k)))) : wpY_before post (f_versions, f_clock, f_rows, nI sn, a_vRow, a_vFrom, a_vTo, a_vInt, a_open, a_start, a_changes, a_changed, a_fresh, a_gone, a_change, a_column, a_low, a_high, a_sRow, a_sInt, a_kept) (nI j) (nI k) (nI c) := by
  have t1 : ss_bef (a_sRow j, ss_gv a_sInt c j) (a_sRow k, ss_gv a_sInt c k) = true → post 1 := fun e => by rw [e] at h; exact h
  have t0 : ¬ ss_bef (a_sRow j, ss_gv a_sInt c j) (a_sRow k, ss_gv a_sInt c k) = true → post 0 := fun e => by rw [Bool.not_eq_true] at e; rw [e] at h; exact h
  rw [ss_befT] at t1 t0
  simp (disch := omega) only [wpY_before, ss_a0, ss_b0, ss_c0, ss_d0, ss_e0, ss_a1, ss_b1, ss_c1, ss_d1, ss_e1, ss_a2, ss_b2, ss_c2, ss_d2, ss_e2, ss_a3, ss_b3, ss_c3, ss_d3, ss_e3, ss_a4, ss_b4, ss_c4, ss_d4, ss_e4, ss_a5, ss_b5, ss_c5, ss_d5, ss_e5, ss_a8, ss_b8, ss_c8, ss_d8, ss_e8, ss_a32, ss_b32, ss_c32, ss_d32, ss_e32, ss_a40, ss_b40, ss_c40, ss_d40, ss_e40, ss_a48, ss_b48, ss_c48, ss_d48, ss_e48, ss_a64, ss_b64, ss_c64, ss_d64, ss_e64, ss_m2, ss_m3, ss_m4, ss_m8, ss_p2, ss_p3, ss_p4, ss_p8, ss_48p, ss_in, nI_add, nI_1, nI_clamp, nI_leI, nI_ltI, nI_eq, forall_eq, true_and, and_true]
  refine ⟨by omega, by omega, fun e => t1 (Or.inl e), fun e => ⟨fun e2 => ⟨hj, hk, fun e3 => t0 ?_, fun e3 => t1 (Or.inr ⟨e2, Int32.not_le.mp e3⟩)⟩, fun e2 => t0 ?_⟩⟩
  · rintro (z | ⟨-, z⟩)
    · exact e z
    · exact absurd e3 (Int32.not_le.mpr z)
  · rintro (z | ⟨z, -⟩)
    · exact e z
    · exact e2 z
theorem ss_yra {post : Int32 → Prop} {k : Nat} (hs : sn ≤ 64) (hk : k < 64) (hc : c < 3) (h : post (nI ((ss_ls (fun i => (a_sRow i, ss_gv a_sInt c i)) sn).countP (fun x => ss_bef x (a_sRow k, ss_gv a_sInt c k))))) : wpY_rankOf post (f_versions, f_clock, f_rows, nI sn, a_vRow, a_vFrom, a_vTo, a_vInt, a_open, a_start, a_changes, a_changed, a_fresh, a_gone, a_change, a_column, a_low, a_high, a_sRow, a_sInt, a_kept) (nI k) (nI c) := by
  have key : ∀ f i, i ≤ sn → sn < f + i → wY_rankOf_5 post (nI k) (nI c) f_versions f_clock f_rows (nI sn) a_vRow a_vFrom a_vTo a_vInt a_open a_start a_changes a_changed a_fresh a_gone a_change a_column a_low a_high a_sRow a_sInt a_kept f (nI ((ss_ls (fun i => (a_sRow i, ss_gv a_sInt c i)) i).countP (fun x => ss_bef x (a_sRow k, ss_gv a_sInt c k)))) (nI i) := by
    intro f
    induction f with
    | zero => intro j h1 h2; omega
    | succ f ih =>
      intro i hi hf
      have hl2 := List.countP_le_length (p := fun x => ss_bef x (a_sRow k, ss_gv a_sInt c k)) (l := ss_ls (fun i => (a_sRow i, ss_gv a_sInt c i)) i)
      rw [ss_lsL] at hl2
      have st := ih (i + 1)
      rw [ss_lsS, ss_cP] at st
      simp (disch := omega) only [wY_rankOf_5, ss_a0, ss_b0, ss_c0, ss_d0, ss_e0, ss_a1, ss_b1, ss_c1, ss_d1, ss_e1, ss_a2, ss_b2, ss_c2, ss_d2, ss_e2, ss_a3, ss_b3, ss_c3, ss_d3, ss_e3, ss_a4, ss_b4, ss_c4, ss_d4, ss_e4, ss_a5, ss_b5, ss_c5, ss_d5, ss_e5, ss_a8, ss_b8, ss_c8, ss_d8, ss_e8, ss_a32, ss_b32, ss_c32, ss_d32, ss_e32, ss_a40, ss_b40, ss_c40, ss_d40, ss_e40, ss_a48, ss_b48, ss_c48, ss_d48, ss_e48, ss_a64, ss_b64, ss_c64, ss_d64, ss_e64, ss_m2, ss_m3, ss_m4, ss_m8, ss_p2, ss_p3, ss_p4, ss_p8, ss_48p, ss_in, nI_add, nI_1, nI_clamp, nI_leI, nI_ltI, nI_eq, forall_eq, true_and, and_true]
      refine ⟨fun z => ?_, fun z => ss_ybe (by omega) hk hc (ss_br (fun e => ?_) (fun e => ?_))⟩
      · rw [show i = sn by omega]; exact h
      · rw [e] at st; exact st (by omega) (by omega)
      · rw [if_pos e] at st; exact st (by omega) (by omega)
  exact ⟨sn + 1, key (sn + 1) 0 (by omega) (by omega)⟩
theorem ss_yor {post : Int32 → SY → Prop} {kI : Int32} (hs : sn ≤ 64) (hc : c < 3)
    (h1 : ∀ j, j < sn → nI ((ss_ls (fun i => (a_sRow i, ss_gv a_sInt c i)) sn).countP (fun x => ss_bef x (a_sRow j, ss_gv a_sInt c j))) = kI → post (a_sRow j) (f_versions, f_clock, f_rows, nI sn, a_vRow, a_vFrom, a_vTo, a_vInt, a_open, a_start, a_changes, a_changed, a_fresh, a_gone, a_change, a_column, a_low, a_high, a_sRow, a_sInt, a_kept))
    (h0 : (∀ j, j < sn → ¬ nI ((ss_ls (fun i => (a_sRow i, ss_gv a_sInt c i)) sn).countP (fun x => ss_bef x (a_sRow j, ss_gv a_sInt c j))) = kI) → post (-1) (f_versions, f_clock, f_rows, nI sn, a_vRow, a_vFrom, a_vTo, a_vInt, a_open, a_start, a_changes, a_changed, a_fresh, a_gone, a_change, a_column, a_low, a_high, a_sRow, a_sInt, a_kept)) : ∃ n22, wY_order_22 post (nI c) kI f_versions f_clock f_rows (nI sn) a_vRow a_vFrom a_vTo a_vInt a_open a_start a_changes a_changed a_fresh a_gone a_change a_column a_low a_high a_sRow a_sInt a_kept n22 0 := by
  have key : ∀ f i, i ≤ sn → sn < f + i → (∀ j, j < i → ¬ nI ((ss_ls (fun i => (a_sRow i, ss_gv a_sInt c i)) sn).countP (fun x => ss_bef x (a_sRow j, ss_gv a_sInt c j))) = kI) → wY_order_22 post (nI c) kI f_versions f_clock f_rows (nI sn) a_vRow a_vFrom a_vTo a_vInt a_open a_start a_changes a_changed a_fresh a_gone a_change a_column a_low a_high a_sRow a_sInt a_kept f (nI i) := by
    intro f
    induction f with
    | zero => intro j h1 h2; omega
    | succ f ih =>
      intro i hi hf hno
      simp (disch := omega) only [wY_order_22, ss_a0, ss_b0, ss_c0, ss_d0, ss_e0, ss_a1, ss_b1, ss_c1, ss_d1, ss_e1, ss_a2, ss_b2, ss_c2, ss_d2, ss_e2, ss_a3, ss_b3, ss_c3, ss_d3, ss_e3, ss_a4, ss_b4, ss_c4, ss_d4, ss_e4, ss_a5, ss_b5, ss_c5, ss_d5, ss_e5, ss_a8, ss_b8, ss_c8, ss_d8, ss_e8, ss_a32, ss_b32, ss_c32, ss_d32, ss_e32, ss_a40, ss_b40, ss_c40, ss_d40, ss_e40, ss_a48, ss_b48, ss_c48, ss_d48, ss_e48, ss_a64, ss_b64, ss_c64, ss_d64, ss_e64, ss_m2, ss_m3, ss_m4, ss_m8, ss_p2, ss_p3, ss_p4, ss_p8, ss_48p, ss_in, nI_add, nI_1, nI_clamp, nI_leI, nI_ltI, nI_eq, forall_eq, true_and, and_true]
      refine ⟨fun z => h0 fun j hj => hno j (by omega), fun z => ss_yra hs (by omega) hc ⟨fun e => ⟨by omega, h1 i (by omega) e⟩, fun e => ih (i + 1) (by omega) (by omega) fun j hj => ?_⟩⟩
      rcases (by omega : j < i ∨ j = i) with h' | rfl
      · exact hno j h'
      · exact e
  exact ⟨sn + 1, key (sn + 1) 0 (by omega) (by omega) (fun j hj => by omega)⟩
theorem ss_yrk {post : Int32 → SY → Prop} {r : Int32} (hs : sn ≤ 64) (hc : c < 3)
    (h1 : ∀ j, j < sn → a_sRow j = r → post (nI ((ss_ls (fun i => (a_sRow i, ss_gv a_sInt c i)) sn).countP (fun x => ss_bef x (a_sRow j, ss_gv a_sInt c j)))) (f_versions, f_clock, f_rows, nI sn, a_vRow, a_vFrom, a_vTo, a_vInt, a_open, a_start, a_changes, a_changed, a_fresh, a_gone, a_change, a_column, a_low, a_high, a_sRow, a_sInt, a_kept))
    (h0 : (∀ j, j < sn → ¬ a_sRow j = r) → post (-1) (f_versions, f_clock, f_rows, nI sn, a_vRow, a_vFrom, a_vTo, a_vInt, a_open, a_start, a_changes, a_changed, a_fresh, a_gone, a_change, a_column, a_low, a_high, a_sRow, a_sInt, a_kept)) : ∃ n22, wY_rank_22 post (nI c) r f_versions f_clock f_rows (nI sn) a_vRow a_vFrom a_vTo a_vInt a_open a_start a_changes a_changed a_fresh a_gone a_change a_column a_low a_high a_sRow a_sInt a_kept n22 0 := by
  have key : ∀ f i, i ≤ sn → sn < f + i → (∀ j, j < i → ¬ a_sRow j = r) → wY_rank_22 post (nI c) r f_versions f_clock f_rows (nI sn) a_vRow a_vFrom a_vTo a_vInt a_open a_start a_changes a_changed a_fresh a_gone a_change a_column a_low a_high a_sRow a_sInt a_kept f (nI i) := by
    intro f
    induction f with
    | zero => intro j h1 h2; omega
    | succ f ih =>
      intro i hi hf hno
      simp (disch := omega) only [wY_rank_22, ss_a0, ss_b0, ss_c0, ss_d0, ss_e0, ss_a1, ss_b1, ss_c1, ss_d1, ss_e1, ss_a2, ss_b2, ss_c2, ss_d2, ss_e2, ss_a3, ss_b3, ss_c3, ss_d3, ss_e3, ss_a4, ss_b4, ss_c4, ss_d4, ss_e4, ss_a5, ss_b5, ss_c5, ss_d5, ss_e5, ss_a8, ss_b8, ss_c8, ss_d8, ss_e8, ss_a32, ss_b32, ss_c32, ss_d32, ss_e32, ss_a40, ss_b40, ss_c40, ss_d40, ss_e40, ss_a48, ss_b48, ss_c48, ss_d48, ss_e48, ss_a64, ss_b64, ss_c64, ss_d64, ss_e64, ss_m2, ss_m3, ss_m4, ss_m8, ss_p2, ss_p3, ss_p4, ss_p8, ss_48p, ss_in, nI_add, nI_1, nI_clamp, nI_leI, nI_ltI, nI_eq, forall_eq, true_and, and_true]
      refine ⟨fun z => h0 fun j hj => hno j (by omega), fun z => ⟨by omega, fun e => ss_yra hs (by omega) hc (h1 i (by omega) e), fun e => ih (i + 1) (by omega) (by omega) fun j hj => ?_⟩⟩
      rcases (by omega : j < i ∨ j = i) with h' | rfl
      · exact hno j h'
      · exact e
  exact ⟨sn + 1, key (sn + 1) 0 (by omega) (by omega) (fun j hj => by omega)⟩
theorem ss_y141 {post : Int64 → SY → Prop} {wh : Int32} {n : Nat} {x0 : Int32} (hn : n ≤ 64) (hx0 : n = 0 → x0 = 0) (hx1 : 0 < n → x0 = a_kept 0)
    (h1 : wh = 1 → post (nI n).toInt64 (f_versions, f_clock, f_rows, nI sn, a_vRow, a_vFrom, a_vTo, a_vInt, a_open, a_start, a_changes, a_changed, a_fresh, a_gone, a_change, a_column, a_low, a_high, a_sRow, a_sInt, a_kept)) (h2 : wh = 2 → post (ss_sm (ss_ls a_kept n)) (f_versions, f_clock, f_rows, nI sn, a_vRow, a_vFrom, a_vTo, a_vInt, a_open, a_start, a_changes, a_changed, a_fresh, a_gone, a_change, a_column, a_low, a_high, a_sRow, a_sInt, a_kept)) (hz : ¬ wh = 1 → ¬ wh = 2 → n = 0 → post 0 (f_versions, f_clock, f_rows, nI sn, a_vRow, a_vFrom, a_vTo, a_vInt, a_open, a_start, a_changes, a_changed, a_fresh, a_gone, a_change, a_column, a_low, a_high, a_sRow, a_sInt, a_kept)) (h3 : ¬ wh = 1 → ¬ wh = 2 → ∀ m, ss_mx (ss_ls a_kept n) m → post m.toInt64 (f_versions, f_clock, f_rows, nI sn, a_vRow, a_vFrom, a_vTo, a_vInt, a_open, a_start, a_changes, a_changed, a_fresh, a_gone, a_change, a_column, a_low, a_high, a_sRow, a_sInt, a_kept)) : ∃ n141, wY_group_141 post wh (nI n) f_versions f_clock f_rows (nI sn) a_vRow a_vFrom a_vTo a_vInt a_open a_start a_changes a_changed a_fresh a_gone a_change a_column a_low a_high a_sRow a_sInt a_kept n141 0 x0 0 := by
  have key : ∀ f i m, i ≤ n → n < f + i → 0 < n → m ∈ ss_ls a_kept n → (∀ j, j < i → a_kept j ≤ m) → wY_group_141 post wh (nI n) f_versions f_clock f_rows (nI sn) a_vRow a_vFrom a_vTo a_vInt a_open a_start a_changes a_changed a_fresh a_gone a_change a_column a_low a_high a_sRow a_sInt a_kept f (ss_sm (ss_ls a_kept i)) m (nI i) := by
    intro f
    induction f with
    | zero => intro i m h1 h2; omega
    | succ f ih =>
      intro i m hi hf hpos hm l1
      by_cases hlt : n ≤ i
      · have e : i = n := by omega
        subst e
        simp (disch := omega) only [wY_group_141, ss_a0, ss_b0, ss_c0, ss_d0, ss_e0, ss_a1, ss_b1, ss_c1, ss_d1, ss_e1, ss_a2, ss_b2, ss_c2, ss_d2, ss_e2, ss_a3, ss_b3, ss_c3, ss_d3, ss_e3, ss_a4, ss_b4, ss_c4, ss_d4, ss_e4, ss_a5, ss_b5, ss_c5, ss_d5, ss_e5, ss_a8, ss_b8, ss_c8, ss_d8, ss_e8, ss_a32, ss_b32, ss_c32, ss_d32, ss_e32, ss_a40, ss_b40, ss_c40, ss_d40, ss_e40, ss_a48, ss_b48, ss_c48, ss_d48, ss_e48, ss_a64, ss_b64, ss_c64, ss_d64, ss_e64, ss_m2, ss_m3, ss_m4, ss_m8, ss_p2, ss_p3, ss_p4, ss_p8, ss_48p, ss_in, nI_add, nI_1, nI_clamp, nI_leI, nI_ltI, nI_eq, forall_eq, true_and, and_true]
        refine ⟨fun _ => ⟨h1, fun n1 => ⟨h2, fun n2 => h3 n1 n2 m ⟨hm, fun v hv => ?_⟩⟩⟩, fun z => absurd hlt z⟩
        obtain ⟨j, hj, rfl⟩ := ss_lsM.mp hv
        exact l1 j hj
      · have nx : ∀ m', m' ∈ ss_ls a_kept n → m ≤ m' → a_kept i ≤ m' → wY_group_141 post wh (nI n) f_versions f_clock f_rows (nI sn) a_vRow a_vFrom a_vTo a_vInt a_open a_start a_changes a_changed a_fresh a_gone a_change a_column a_low a_high a_sRow a_sInt a_kept f (ss_sm (ss_ls a_kept i) + (a_kept i).toInt64) m' (nI (i + 1)) := by
          intro m' hm' q1 q2
          have := ih (i + 1) m' (by omega) (by omega) hpos hm' (fun j hj => ?_)
          · rw [ss_lsS, ss_smS] at this; exact this
          · rcases (by omega : j < i ∨ j = i) with h' | rfl
            · exact Int32.le_trans (l1 j h') q1
            · exact q2
        have hmi : a_kept i ∈ ss_ls a_kept n := ss_lsI (by omega)
        simp (disch := omega) only [wY_group_141, ss_a0, ss_b0, ss_c0, ss_d0, ss_e0, ss_a1, ss_b1, ss_c1, ss_d1, ss_e1, ss_a2, ss_b2, ss_c2, ss_d2, ss_e2, ss_a3, ss_b3, ss_c3, ss_d3, ss_e3, ss_a4, ss_b4, ss_c4, ss_d4, ss_e4, ss_a5, ss_b5, ss_c5, ss_d5, ss_e5, ss_a8, ss_b8, ss_c8, ss_d8, ss_e8, ss_a32, ss_b32, ss_c32, ss_d32, ss_e32, ss_a40, ss_b40, ss_c40, ss_d40, ss_e40, ss_a48, ss_b48, ss_c48, ss_d48, ss_e48, ss_a64, ss_b64, ss_c64, ss_d64, ss_e64, ss_m2, ss_m3, ss_m4, ss_m8, ss_p2, ss_p3, ss_p4, ss_p8, ss_48p, ss_in, nI_add, nI_1, nI_clamp, nI_leI, nI_ltI, nI_eq, forall_eq, true_and, and_true]
        exact ⟨fun z => absurd z hlt, fun _ => ⟨by omega, by omega, fun h => nx m hm (Int32.le_refl _) h, fun h => ⟨by omega, nx _ hmi (Int32.le_of_lt (Int32.not_le.mp h)) (Int32.le_refl _)⟩⟩⟩
  rcases (by omega : n = 0 ∨ 0 < n) with e | hpos
  · rw [hx0 e]
    subst e
    refine ⟨1, ⟨fun _ => ⟨h1, fun n1 => ⟨h2, fun n2 => hz n1 n2 rfl⟩⟩, fun z => absurd (Int32.le_refl _) z⟩⟩
  · rw [hx1 hpos]
    exact ⟨n + 1, key (n + 1) 0 (a_kept 0) (by omega) (by omega) hpos (ss_lsI hpos) (fun j hj => by omega)⟩
theorem ss_y45 {post : Int64 → SY → Prop} {kI wh : Int32} {by_ : Nat} (hs : sn ≤ 64) (hb : by_ < 3) (hc : c < 3)
    (h0 : wh = 0 → ∀ i, i < sn → nI (ss_bl (ss_gv a_sInt by_) sn (ss_gv a_sInt by_ i)) = kI → ∀ kp : Nat → Int32, post (ss_gv a_sInt by_ i).toInt64 (f_versions, f_clock, f_rows, nI sn, a_vRow, a_vFrom, a_vTo, a_vInt, a_open, a_start, a_changes, a_changed, a_fresh, a_gone, a_change, a_column, a_low, a_high, a_sRow, a_sInt, kp))
    (hz : (∀ i, i < sn → ¬ nI (ss_bl (ss_gv a_sInt by_) sn (ss_gv a_sInt by_ i)) = kI) → ∀ kp : Nat → Int32, post 0 (f_versions, f_clock, f_rows, nI sn, a_vRow, a_vFrom, a_vTo, a_vInt, a_open, a_start, a_changes, a_changed, a_fresh, a_gone, a_change, a_column, a_low, a_high, a_sRow, a_sInt, kp))
    (h : ∀ kp : Nat → Int32, ∀ K : List Int32, K = ss_fl (fun i => decide (nI (ss_bl (ss_gv a_sInt by_) sn (ss_gv a_sInt by_ i)) = kI)) (ss_gv a_sInt c) sn → ¬ wh = 0 → ¬ K = [] → (wh = 1 → post (nI K.length).toInt64 (f_versions, f_clock, f_rows, nI sn, a_vRow, a_vFrom, a_vTo, a_vInt, a_open, a_start, a_changes, a_changed, a_fresh, a_gone, a_change, a_column, a_low, a_high, a_sRow, a_sInt, kp)) ∧ (wh = 2 → post (ss_sm K) (f_versions, f_clock, f_rows, nI sn, a_vRow, a_vFrom, a_vTo, a_vInt, a_open, a_start, a_changes, a_changed, a_fresh, a_gone, a_change, a_column, a_low, a_high, a_sRow, a_sInt, kp)) ∧ (¬ wh = 1 → ¬ wh = 2 → ∀ m, ss_mx K m → post m.toInt64 (f_versions, f_clock, f_rows, nI sn, a_vRow, a_vFrom, a_vTo, a_vInt, a_open, a_start, a_changes, a_changed, a_fresh, a_gone, a_change, a_column, a_low, a_high, a_sRow, a_sInt, kp))) :
    ∃ n45, wY_group_45 post (nI by_) kI wh (nI c) f_versions f_clock f_rows (nI sn) n45 0 0 a_vRow a_vFrom a_vTo a_vInt a_open a_start a_changes a_changed a_fresh a_gone a_change a_column a_low a_high a_sRow a_sInt a_kept := by
  have key : ∀ f i n (kp : Nat → Int32), i ≤ sn → sn < f + i → ss_ls kp n = ss_fl (fun i => decide (nI (ss_bl (ss_gv a_sInt by_) sn (ss_gv a_sInt by_ i)) = kI)) (ss_gv a_sInt c) i → (wh = 0 → n = 0) → wY_group_45 post (nI by_) kI wh (nI c) f_versions f_clock f_rows (nI sn) f (nI n) (nI i) a_vRow a_vFrom a_vTo a_vInt a_open a_start a_changes a_changed a_fresh a_gone a_change a_column a_low a_high a_sRow a_sInt kp := by
    intro f
    induction f with
    | zero => intro i n kp h1 h2; omega
    | succ f ih =>
      intro i n kp hi hf hL hw0
      have hn : n ≤ i := by
        have h1 := congrArg List.length hL
        rw [ss_lsL] at h1
        have := ss_flL (p := fun i => decide (nI (ss_bl (ss_gv a_sInt by_) sn (ss_gv a_sInt by_ i)) = kI)) (g := ss_gv a_sInt c) (n := i)
        omega
      by_cases hlt : sn ≤ i
      · have e : i = sn := by omega
        subst e
        simp (disch := omega) only [wY_group_45, ss_a0, ss_b0, ss_c0, ss_d0, ss_e0, ss_a1, ss_b1, ss_c1, ss_d1, ss_e1, ss_a2, ss_b2, ss_c2, ss_d2, ss_e2, ss_a3, ss_b3, ss_c3, ss_d3, ss_e3, ss_a4, ss_b4, ss_c4, ss_d4, ss_e4, ss_a5, ss_b5, ss_c5, ss_d5, ss_e5, ss_a8, ss_b8, ss_c8, ss_d8, ss_e8, ss_a32, ss_b32, ss_c32, ss_d32, ss_e32, ss_a40, ss_b40, ss_c40, ss_d40, ss_e40, ss_a48, ss_b48, ss_c48, ss_d48, ss_e48, ss_a64, ss_b64, ss_c64, ss_d64, ss_e64, ss_m2, ss_m3, ss_m4, ss_m8, ss_p2, ss_p3, ss_p4, ss_p8, ss_48p, ss_in, nI_add, nI_1, nI_clamp, nI_leI, nI_ltI, nI_eq, forall_eq, true_and, and_true]
        refine ⟨fun _ => ?_, fun z => absurd hlt z⟩
        by_cases n0 : n = 0
        · have hno : ∀ j, j < i → ¬ nI (ss_bl (ss_gv a_sInt by_) i (ss_gv a_sInt by_ j)) = kI := by
            intro j hj e
            have : ss_gv a_sInt c j ∈ ss_ls kp n := by
              rw [hL]
              exact ss_flM.mpr ⟨j, hj, decide_eq_true e, rfl⟩
            rw [n0] at this
            exact absurd this (List.not_mem_nil)
          have hp := hz hno kp
          refine ⟨fun _ => ss_y141 (by omega) (fun _ => rfl) (fun z => by omega) (fun _ => ?_) (fun _ => ?_) (fun _ _ _ => hp) (fun _ _ m hm => ?_), fun z => absurd (by omega) z⟩
          · rw [n0]; exact hp
          · rw [n0]; exact hp
          · rw [n0] at hm; exact absurd hm.1 (List.not_mem_nil)
        · have hwn : ¬ wh = 0 := fun z => n0 (hw0 z)
          have hK : ¬ ss_fl (fun i_1 => decide (nI (ss_bl (ss_gv a_sInt by_) i (ss_gv a_sInt by_ i_1)) = kI)) (ss_gv a_sInt c) i = [] := by
            rw [← hL]
            intro z
            have := congrArg List.length z
            rw [ss_lsL] at this
            exact n0 this
          obtain ⟨q1, q2, q3⟩ := h kp _ rfl hwn hK
          rw [← hL] at q1 q2 q3
          rw [ss_lsL] at q1
          exact ⟨fun z => absurd z (by omega), fun _ => ss_y141 (by omega) (fun z => absurd z n0) (fun _ => rfl) q1 q2 (fun _ _ z => absurd z n0) q3⟩
      · simp (disch := omega) only [wY_group_45, ss_a0, ss_b0, ss_c0, ss_d0, ss_e0, ss_a1, ss_b1, ss_c1, ss_d1, ss_e1, ss_a2, ss_b2, ss_c2, ss_d2, ss_e2, ss_a3, ss_b3, ss_c3, ss_d3, ss_e3, ss_a4, ss_b4, ss_c4, ss_d4, ss_e4, ss_a5, ss_b5, ss_c5, ss_d5, ss_e5, ss_a8, ss_b8, ss_c8, ss_d8, ss_e8, ss_a32, ss_b32, ss_c32, ss_d32, ss_e32, ss_a40, ss_b40, ss_c40, ss_d40, ss_e40, ss_a48, ss_b48, ss_c48, ss_d48, ss_e48, ss_a64, ss_b64, ss_c64, ss_d64, ss_e64, ss_m2, ss_m3, ss_m4, ss_m8, ss_p2, ss_p3, ss_p4, ss_p8, ss_48p, ss_in, nI_add, nI_1, nI_clamp, nI_leI, nI_ltI, nI_eq, forall_eq, true_and, and_true]
        refine ⟨fun z => absurd z hlt, fun _ => ⟨by omega, ss_ybl hs hb ⟨fun e => ⟨fun w0 => h0 w0 i (by omega) e kp, fun w0 => ⟨by omega, by omega, ?_⟩⟩, fun e => ?_⟩⟩⟩
        · refine ih (i + 1) (n + 1) _ (by omega) (by omega) ?_ (fun z => absurd z w0)
          have e' : nI (ss_bl (ss_gv a_sInt by_) sn (ss_gv a_sInt by_ i)) = kI := e
          rw [ss_flS, if_pos (decide_eq_true e'), ← hL, ss_lsS, pk_us]
          have e3 : ss_ls (upd kp n (a_sInt (3 * i + c))) n = ss_ls kp n := ss_lsC fun j hj => pk_un (by omega)
          rw [e3]
          rfl
        · refine ih (i + 1) n kp (by omega) (by omega) ?_ hw0
          rw [ss_flS, if_neg (by rw [decide_eq_true_eq]; exact e), List.append_nil]
          exact hL
  exact ⟨sn + 1, key (sn + 1) 0 0 a_kept (by omega) (by omega) (by simp [ss_ls, ss_fl]) (fun _ => rfl)⟩
end
end
section
section
variable {cl rw : Nat} {op st chs cr ch gone cow : Nat → Int32} {A B : List ss_V} {t : Int32} {ps : ss_T → Bool}
theorem ss_ctx (WA : ss_Wf cl rw A) (Tb : ss_Tb cl rw op st chs cr cow) (P : List.Perm (A.filter (ss_lv (nI cl) op st (-1))) (B.filter (ss_lv (nI cl) op st (-1)))) (ht : t = -1 ∨ ∃ j, j < 4 ∧ t = nI j ∧ ¬ op j = 0) :
    ∃ cq chl time, ss_Tq t cq chl chs cr ch gone ps ∧ ((t = -1 ∧ time = nI cl) ∨ ∃ j, j < 4 ∧ t = nI j ∧ time = st j ∧ ¬ op j = 0) ∧
      List.Perm ((A.filter (ss_Q time cq ps)).map ss_rc ++ chl) ((B.filter (ss_Q time cq ps)).map ss_rc ++ chl) ∧ ((A.filter (ss_Q time cq ps)).map ss_rc ++ chl).Pairwise (fun x y => ¬ x.1 = y.1) ∧ chl.length ≤ 8 ∧
      ∀ y, y ∈ (A.filter (ss_Q time cq ps)).map ss_rc ++ chl → ∀ c, c < 3 → ∀ z, ss_cz A cl st chs cr ch gone t y.1 c z → z = (ss_c y.2 c).toInt64 := by
  have hQh : ∀ time cq (x : ss_V), ss_Q time cq ps x = true → ss_h x.2.1 x.2.2.1 time = true ∧ cq x.1 = false ∧ ps x.2.2.2 = true := by
    intro time cq x hx
    unfold ss_Q at hx
    rw [Bool.and_eq_true, Bool.and_eq_true, Bool.not_eq_true'] at hx
    exact ⟨hx.1.1, hx.1.2, hx.2⟩
  -- the versions' part
  have hpw : ∀ time cq, ((A.filter (ss_Q time cq ps)).map ss_rc).Pairwise (fun x y => ¬ x.1 = y.1) := by
    intro time cq
    rw [List.pairwise_map]
    refine List.Pairwise.imp_of_mem ?_ (WA.2.filter _)
    intro x y hx hy hd e
    exact ss_djv (cl := cl) (rw := rw) hd e (hQh _ _ _ (List.mem_filter.mp hx).2).1 (hQh _ _ _ (List.mem_filter.mp hy).2).1
  rcases ht with rfl | ⟨j, hj, rfl, ho⟩
  · refine ⟨fun _ => false, [], nI cl, Or.inl ⟨rfl, rfl, rfl⟩, Or.inl ⟨rfl, rfl⟩, ?_, ?_, by simp, ?_⟩
    · rw [List.append_nil, List.append_nil]
      exact (ss_lrP P (fun x _ h => ss_lvC (hQh _ _ _ h).1) (fun x _ h => ss_lvC (hQh _ _ _ h).1)).map _
    · rw [List.append_nil]; exact hpw _ _
    · intro y hy c hc z hz
      rw [List.append_nil] at hy
      obtain ⟨x, hx, rfl⟩ := List.mem_map.mp hy
      obtain ⟨hxA, hxQ⟩ := List.mem_filter.mp hx
      have hh := (hQh _ _ _ hxQ).1
      rcases hz with ⟨-, hv⟩ | ⟨j, m, hj, e, -⟩
      · rcases hv with ⟨-, hno⟩ | ⟨x', hx', er, hh', ez⟩
        · exact (hno x hxA rfl hh).elim
        · rw [ez, ss_uq WA hx' hxA er hh' hh]; rfl
      · exact absurd e.symm (by rw [ss_n1e (by omega)]; exact id)
  · obtain ⟨-, m, hm8, hm, q3, q4, -⟩ := Tb j hj ho
    refine ⟨fun r => ss_ic cr r (8 * j) m, ss_fl (fun i => decide (gone (8 * j + i) = 0) && ps (ss_tr ch (8 * j + i))) (fun i => (cr (8 * j + i), ss_tr ch (8 * j + i))) m, st j, Or.inr ⟨j, m, hj, rfl, hm, hm8, rfl, rfl⟩, Or.inr ⟨j, hj, rfl, rfl, ho⟩, ?_, ?_, Nat.le_trans ss_flL hm8, ?_⟩
    · exact ((ss_lrP P (fun x _ h => ss_lvO hj ho (hQh _ _ _ h).1) (fun x _ h => ss_lvO hj ho (hQh _ _ _ h).1)).map _).append_right _
    · rw [List.pairwise_append]
      refine ⟨hpw _ _, ?_, ?_⟩
      · unfold ss_fl
        rw [List.pairwise_map]
        refine List.Pairwise.imp_of_mem ?_ ((List.nodup_range (n := m)).filter _)
        intro a b ha hb hne e
        exact hne (q4 a b (List.mem_range.mp (List.mem_filter.mp ha).1) (List.mem_range.mp (List.mem_filter.mp hb).1) e)
      · intro x' hx' y hy e
        obtain ⟨x, hx, rfl⟩ := List.mem_map.mp hx'
        obtain ⟨i, hi, -, rfl⟩ := ss_flM.mp hy
        have hq := (hQh _ _ _ (List.mem_filter.mp hx).2).2.1
        have : ss_ic cr x.1 (8 * j) m = true := (ss_icT (by omega)).mpr ⟨8 * j + i, by omega, by omega, e.symm⟩
        rw [this] at hq; exact nomatch hq
    · intro y hy c hc z hz
      have hz' : ((∀ i, 8 * j ≤ i → i < 8 * j + m → ¬ cr i = y.1) ∧ ss_vz A y.1 (st j) c z) ∨ ∃ i, 8 * j ≤ i ∧ i < 8 * j + m ∧ cr i = y.1 ∧ z = if gone i = 0 then (ch (3 * i + c)).toInt64 else 10000000000 := by
        rcases hz with ⟨e, -⟩ | ⟨j', m', hj', e, hm', hm8', hz⟩
        · exact absurd e (by rw [ss_n1e (by omega)]; exact id)
        · have := (nI_eq (by omega) (by omega)).mp e
          subst this
          have := (nI_eq (by omega) (by omega)).mp (hm.symm.trans hm')
          subst this
          rcases hz with h | ⟨i, a, b, d, -, f⟩
          · exact Or.inl h
          · exact Or.inr ⟨i, a, b, d, f⟩
      rcases List.mem_append.mp hy with hy | hy
      · obtain ⟨x, hx, rfl⟩ := List.mem_map.mp hy
        obtain ⟨hxA, hxQ⟩ := List.mem_filter.mp hx
        obtain ⟨hh, hq, -⟩ := hQh _ _ _ hxQ
        rcases hz' with ⟨-, hv⟩ | ⟨i, a, b, d, -⟩
        · rcases hv with ⟨-, hno⟩ | ⟨x', hx', er, hh', ez⟩
          · exact (hno x hxA rfl hh).elim
          · rw [ez, ss_uq WA hx' hxA er hh' hh]; rfl
        · have : ss_ic cr x.1 (8 * j) m = true := (ss_icT (by omega)).mpr ⟨i, a, b, d⟩
          rw [this] at hq; exact nomatch hq
      · obtain ⟨i, hi, hp, rfl⟩ := ss_flM.mp hy
        rw [Bool.and_eq_true, decide_eq_true_eq] at hp
        rcases hz' with ⟨hno, -⟩ | ⟨i', a, b, d, ez⟩
        · exact absurd rfl (hno (8 * j + i) (by omega) (by omega))
        · obtain ⟨i2, rfl⟩ : ∃ i2, i' = 8 * j + i2 := ⟨i' - 8 * j, by omega⟩
          have := q4 i2 i (by omega) hi d
          subst this
          rw [ez, if_pos hp.1]
          show _ = (ss_c (ss_tr ch (8 * j + i2)) c).toInt64
          rw [ss_ctr _ _ hc]
theorem ss_clt {α : Type} {l : List α} {p : α → Bool} {x : α} (hx : x ∈ l) (hp : p x = false) : l.countP p < l.length := by
  have h := List.countP_le_length (p := p) (l := l)
  rcases (by omega : l.countP p < l.length ∨ l.countP p = l.length) with h' | h'
  · exact h'
  · have := List.countP_eq_length.mp h' x hx
    rw [hp] at this; exact nomatch this
theorem ss_snL {sr si : Nat → Int32} {sn nv : Nat} {g : Nat → ss_V} {q : ss_V → Bool} {chl : List ss_R} (h : ss_ls (fun i => (sr i, ss_tr si i)) sn = ((ss_ls g nv).filter q).map ss_rc ++ chl) : sn ≤ nv + chl.length := by
  have h1 := congrArg List.length h
  rw [ss_lsL, List.length_append, List.length_map] at h1
  have := List.length_filter_le q (ss_ls g nv)
  rw [ss_lsL] at this
  omega
/-- the pairs of the reference -/
theorem ss_prs {sr si : Nat → Int32} {sn c : Nat} {L : List ss_R} (hc : c < 3) (h : ss_ls (fun i => (sr i, ss_tr si i)) sn = L) : ss_ls (fun i => (sr i, ss_gv si c i)) sn = L.map (ss_rv c) := by
  rw [← h, ss_lsF]
  refine ss_lsC fun i _ => ?_
  show (sr i, si (3 * i + c)) = (sr i, ss_c (ss_tr si i) c)
  rw [ss_ctr _ _ hc]
theorem ss_DfM {L : List ss_R} {c : Nat} (h : L.Pairwise (fun x y => ¬ x.1 = y.1)) : ss_Df (L.map (ss_rv c)) := by
  unfold ss_Df
  rw [List.pairwise_map]
  exact h
end
theorem i_vc_order {k : Nat} {u : SX} {v : SY} (I : i_Rel k u v) (hk : k + 6 ≤ 3072) (v1 : Int32) (v2 : Int32) (v3 : Int32) : wpX_order (fun r u' => wpY_order (fun r' v' => r' = r ∧ i_Rel (k + 6) u' v') v v1 v2 v3) u v1 v2 v3 := by
  refine ss_re (P := fun u v => wpX_order (fun r u' => wpY_order (fun r' v' => r' = r ∧ i_Rel (k + 6) u' v') v v1 v2 v3) u v1 v2 v3) ?_ I
  intro sg na N cl rw nv wv f_kept f_many f_seen a_row a_from a_to a_held a_sort a_bits a_base a_least a_greatest a_words a_dictionary a_dRow a_dFrom a_dTo a_dValue a_wRow a_wFrom a_wTo a_wValue a_open a_start a_changed a_change a_changes a_fresh a_gone a_column a_low a_high a_found a_value a_vRow a_vFrom a_vTo a_vInt a_sRow a_sInt a_kept R
  have R6 := ss_rup sg na N cl rw nv wv f_kept f_many f_seen a_row a_from a_to a_held a_sort a_bits a_base a_least a_greatest a_words a_dictionary a_dRow a_dFrom a_dTo a_dValue a_wRow a_wFrom a_wTo a_wValue a_open a_start a_changed a_change a_changes a_fresh a_gone a_column a_low a_high a_found a_value a_vRow a_vFrom a_vTo a_vInt a_sRow a_sInt a_kept (show k ≤ k + 6 by omega) R
  obtain ⟨r1, r2, r3, r4, r5, r6, r7, r8, r9, r10, r11, r12, r13, r14⟩ := R
  have n1 : ¬ (1 : Int32) = 0 := by decide
  have hN := r3.1
  unfold wpX_order
  unfold wpY_order
  rcases ss_ask (op := a_open) v1 v2 with ⟨ht, c, hc, rfl⟩ | ⟨hcl, hn⟩ | ⟨ht, hb, hb'⟩
  · obtain ⟨cq, chl, time, T, tm, hP, hD, hl8, -⟩ := ss_ctx (ch := a_change) (gone := a_gone) (ps := ss_ps a_column a_low a_high) r8 r10 r13 ht
    have tx : (v1 = -1 ∧ time = nI cl) ∨ ∃ j, j < 4 ∧ v1 = nI j ∧ time = a_start j := by
      rcases tm with h | ⟨j, a, b, d, -⟩
      · exact Or.inl h
      · exact Or.inr ⟨j, a, b, d⟩
    have e2 : (decide ((0 : Int32) ≤ nI c) && decide (nI c < 3)) = true := by
      simp (disch := omega) only [ss_a0, ss_b0, ss_c0, ss_d0, ss_e0, ss_a1, ss_b1, ss_c1, ss_d1, ss_e1, ss_a2, ss_b2, ss_c2, ss_d2, ss_e2, ss_a3, ss_b3, ss_c3, ss_d3, ss_e3, ss_a4, ss_b4, ss_c4, ss_d4, ss_e4, ss_a5, ss_b5, ss_c5, ss_d5, ss_e5, ss_a8, ss_b8, ss_c8, ss_d8, ss_e8, ss_a32, ss_b32, ss_c32, ss_d32, ss_e32, ss_a40, ss_b40, ss_c40, ss_d40, ss_e40, ss_a48, ss_b48, ss_c48, ss_d48, ss_e48, ss_a64, ss_b64, ss_c64, ss_d64, ss_e64, ss_m2, ss_m3, ss_m4, ss_m8, ss_p2, ss_p3, ss_p4, ss_p8, ss_48p, ss_in, nI_add, nI_1, nI_clamp, nI_leI, nI_ltI, nI_eq, forall_eq, true_and, and_true, Nat.zero_le, hc, decide_true, Bool.and_self]
    refine ss_xas1 ht hc ⟨fun z => absurd z n1, fun _ => ss_xse (wv := wv) T tx hc r7 r3 r4 r5 fun mn fd vl hL => ?_⟩
    have hmn : mn ≤ 88 := by
      have h1 := congrArg List.length hL
      rw [ss_lsL, List.length_map, List.length_append, List.length_map] at h1
      have := List.length_filter_le (ss_Q time cq (ss_ps a_column a_low a_high)) (ss_ls (ss_ve a_row a_from a_to wv) N ++ ss_ls (ss_ve a_dRow a_dFrom a_dTo a_dValue) na)
      rw [List.length_append, ss_lsL, ss_lsL] at this
      omega
    have hDf : ss_Df (ss_ls (fun i => (fd i, vl i)) mn) := by rw [hL]; exact ss_DfM hD
    have hFP : ∀ sn (sr si : Nat → Int32), ss_ls (fun i => (sr i, ss_tr si i)) sn = ((ss_ls (ss_ve a_vRow a_vFrom a_vTo a_vInt) nv).filter (ss_Q time cq (ss_ps a_column a_low a_high))).map ss_rc ++ chl → List.Perm (ss_ls (fun i => (fd i, vl i)) mn) (ss_ls (fun i => (sr i, ss_gv si c i)) sn) ∧ sn = mn ∧ sn ≤ 56 := by
      intro sn sr si hS
      have hsn := ss_snL hS
      have hl8' := hl8
      have P2 : List.Perm (ss_ls (fun i => (fd i, vl i)) mn) (ss_ls (fun i => (sr i, ss_gv si c i)) sn) := by
        rw [ss_prs hc hS, hL]; exact hP.map _
      have := P2.length_eq
      rw [ss_lsL, ss_lsL] at this
      exact ⟨P2, this.symm, by omega⟩
    -- nobody has the rank asked for
    have none : (∀ kk, v3 = nI kk → kk < mn → False) → ∀ u', i_Rel (k + 6) u' (nI nv, nI cl, nI rw, f_seen, a_vRow, a_vFrom, a_vTo, a_vInt, a_open, a_start, a_changes, a_changed, a_fresh, a_gone, a_change, a_column, a_low, a_high, a_sRow, a_sInt, a_kept) ∨ True → (∀ sn (sr si : Nat → Int32), i_Rel (k + 6) u' (nI nv, nI cl, nI rw, nI sn, a_vRow, a_vFrom, a_vTo, a_vInt, a_open, a_start, a_changes, a_changed, a_fresh, a_gone, a_change, a_column, a_low, a_high, sr, si, a_kept)) →
        wpY_look (fun r_1 u => match u with | (p1, p2, p3, p4, p5, p6, p7, p8, p9, p10, p11, p12, p13, p14, p15, p16, p17, p18, p19, p20, p21) => (r_1 = 0 → (-1 : Int32) = -1 ∧ i_Rel (k + 6) u' (p1, p2, p3, p4, p5, p6, p7, p8, p9, p10, p11, p12, p13, p14, p15, p16, p17, p18, p19, p20, p21)) ∧ (¬ r_1 = 0 → wpY_among (fun r_24 => (r_24 = 0 → (-1 : Int32) = -1 ∧ i_Rel (k + 6) u' (p1, p2, p3, p4, p5, p6, p7, p8, p9, p10, p11, p12, p13, p14, p15, p16, p17, p18, p19, p20, p21)) ∧ (¬ r_24 = 0 → ∃ n22, wY_order_22 (fun r' v' => r' = -1 ∧ i_Rel (k + 6) u' v') (nI c) v3 p1 p2 p3 p4 p5 p6 p7 p8 p9 p10 p11 p12 p13 p14 p15 p16 p17 p18 p19 p20 p21 n22 0)) (p1, p2, p3, p4, p5, p6, p7, p8, p9, p10, p11, p12, p13, p14, p15, p16, p17, p18, p19, p20, p21) (nI c) 3)) (nI nv, nI cl, nI rw, f_seen, a_vRow, a_vFrom, a_vTo, a_vInt, a_open, a_start, a_changes, a_changed, a_fresh, a_gone, a_change, a_column, a_low, a_high, a_sRow, a_sInt, a_kept) v1 := by
      intro hno u' _ hrel
      refine ss_ylk T tm r7 (by omega) fun sn sr si hS => ?_
      obtain ⟨P2, hsn, hs56⟩ := hFP sn sr si hS
      refine ⟨fun z => absurd z n1, fun _ => ?_⟩
      rw [ss_yw, e2]
      refine ⟨fun z => absurd z n1, fun _ => ss_yor (by omega) hc (fun j hj e => ?_) (fun _ => ⟨rfl, hrel sn sr si⟩)⟩
      refine (hno _ e.symm ?_).elim
      have := ss_clt (p := fun x => ss_bef x (sr j, ss_gv si c j)) (ss_lsI (g := fun i => (sr i, ss_gv si c i)) hj) (ss_befN (ss_ler _))
      rw [ss_lsL] at this
      omega
    refine ⟨fun hlt => ?_, fun hge => ⟨fun hlt => ?_, fun hnl => ?_⟩⟩
    · refine none (fun kk e _ => ?_) _ (Or.inr trivial) (fun sn sr si => ss_rj R6)
      rw [e] at hlt; exact nI_pos (by omega) hlt
    · obtain ⟨kk, hkk, rfl⟩ := nI_of hge
      rw [nI_ltI hkk (by omega)] at hlt
      refine ss_xsr (by omega) fun fd' vl' hP' hO' => ⟨vp_in_nI (by omega) (by omega), ?_⟩
      have hst : ∀ a b, a < b → b < mn → ss_le (fd' a, vl' a) (fd' b, vl' b) ∧ ¬ fd' a = fd' b := fun a b hab hb => ⟨hO' a b (by omega) hb, ss_DfI (g := fun i => (fd' i, vl' i)) (ss_DfP hP'.symm hDf) hab hb⟩
      rw [nI_clamp hkk]
      refine ss_ylk T tm r7 (by omega) fun sn sr si hS => ?_
      obtain ⟨P2, hsn, hs56⟩ := hFP sn sr si hS
      have P3 := hP'.trans P2
      refine ⟨fun z => absurd z n1, fun _ => ?_⟩
      rw [ss_yw, e2]
      have rk : ∀ i, i < mn → (ss_ls (fun i => (sr i, ss_gv si c i)) sn).countP (fun x => ss_bef x (fd' i, vl' i)) = i := by
        intro i hi
        rw [← P3.countP_eq]
        exact ss_cnti (g := fun i => (fd' i, vl' i)) hst hi
      refine ⟨fun z => absurd z n1, fun _ => ss_yor (by omega) hc (fun j hj e => ⟨?_, ss_rj R6⟩) (fun hno => ?_)⟩
      · obtain ⟨i, hi, ei⟩ := ss_lsM.mp (P3.mem_iff.mpr (ss_lsI (g := fun i => (sr i, ss_gv si c i)) hj))
        rw [← ei, rk i hi] at e
        have := (nI_eq (by omega) hkk).mp e
        subst this
        exact (congrArg Prod.fst ei).symm
      · obtain ⟨j, hj, ej⟩ := ss_lsM.mp (P3.mem_iff.mp (ss_lsI (g := fun i => (fd' i, vl' i)) hlt))
        refine absurd ?_ (hno j hj)
        rw [ej, rk kk hlt]
    · refine none (fun kk e hlt => hnl ?_) _ (Or.inr trivial) (fun sn sr si => ss_rj R6)
      rw [e, nI_ltI (by omega) (by omega)]; exact hlt
  · refine ss_xas0 (Or.inl ⟨hcl, hn⟩) ⟨fun _ => ss_ylk0 hcl hn ⟨fun _ => ⟨rfl, ss_rj R6⟩, fun z => absurd rfl z⟩, fun z => absurd rfl z⟩
  · obtain ⟨cq, chl, time, T, tm, hP, hD, hl8, -⟩ := ss_ctx (ch := a_change) (gone := a_gone) (ps := ss_ps a_column a_low a_high) r8 r10 r13 ht
    rw [Bool.not_eq_true] at hb'
    refine ss_xas0 (Or.inr hb) ⟨fun _ => ss_ylk T tm r7 (by omega) fun sn sr si hS => ?_, fun z => absurd rfl z⟩
    refine ⟨fun z => absurd z n1, fun _ => ?_⟩
    rw [ss_yw, hb']
    exact ⟨fun _ => ⟨rfl, ss_rj R6⟩, fun z => absurd rfl z⟩
end
section
theorem ss_mnL {fd vl : Nat → Int32} {mn N na c : Nat} {g d : Nat → ss_V} {q : ss_V → Bool} {chl : List ss_R} (h : ss_ls (fun i => (fd i, vl i)) mn = (((ss_ls g N ++ ss_ls d na).filter q).map ss_rc ++ chl).map (ss_rv c)) : mn ≤ N + na + chl.length := by
  have h1 := congrArg List.length h
  rw [ss_lsL, List.length_map, List.length_append, List.length_map] at h1
  have := List.length_filter_le q (ss_ls g N ++ ss_ls d na)
  rw [List.length_append, ss_lsL, ss_lsL] at this
  omega
theorem i_vc_rank {k : Nat} {u : SX} {v : SY} (I : i_Rel k u v) (hk : k + 6 ≤ 3072) (v1 : Int32) (v2 : Int32) (v3 : Int32) : wpX_rank (fun r u' => wpY_rank (fun r' v' => r' = r ∧ i_Rel (k + 6) u' v') v v1 v2 v3) u v1 v2 v3 := by
  refine ss_re (P := fun u v => wpX_rank (fun r u' => wpY_rank (fun r' v' => r' = r ∧ i_Rel (k + 6) u' v') v v1 v2 v3) u v1 v2 v3) ?_ I
  intro sg na N cl rw nv wv f_kept f_many f_seen a_row a_from a_to a_held a_sort a_bits a_base a_least a_greatest a_words a_dictionary a_dRow a_dFrom a_dTo a_dValue a_wRow a_wFrom a_wTo a_wValue a_open a_start a_changed a_change a_changes a_fresh a_gone a_column a_low a_high a_found a_value a_vRow a_vFrom a_vTo a_vInt a_sRow a_sInt a_kept R
  have R6 := ss_rup sg na N cl rw nv wv f_kept f_many f_seen a_row a_from a_to a_held a_sort a_bits a_base a_least a_greatest a_words a_dictionary a_dRow a_dFrom a_dTo a_dValue a_wRow a_wFrom a_wTo a_wValue a_open a_start a_changed a_change a_changes a_fresh a_gone a_column a_low a_high a_found a_value a_vRow a_vFrom a_vTo a_vInt a_sRow a_sInt a_kept (show k ≤ k + 6 by omega) R
  obtain ⟨r1, r2, r3, r4, r5, r6, r7, r8, r9, r10, r11, r12, r13, r14⟩ := R
  have n1 : ¬ (1 : Int32) = 0 := by decide
  have hN := r3.1
  unfold wpX_rank
  unfold wpY_rank
  rcases ss_ask (op := a_open) v1 v2 with ⟨ht, c, hc, rfl⟩ | ⟨hcl, hn⟩ | ⟨ht, hb, hb'⟩
  · obtain ⟨cq, chl, time, T, tm, hP, hD, hl8, -⟩ := ss_ctx (ch := a_change) (gone := a_gone) (ps := ss_ps a_column a_low a_high) r8 r10 r13 ht
    have tx : (v1 = -1 ∧ time = nI cl) ∨ ∃ j, j < 4 ∧ v1 = nI j ∧ time = a_start j := by
      rcases tm with h | ⟨j, a, b, d, -⟩
      · exact Or.inl h
      · exact Or.inr ⟨j, a, b, d⟩
    have e2 : (decide ((0 : Int32) ≤ nI c) && decide (nI c < 3)) = true := by
      simp (disch := omega) only [ss_a0, ss_b0, ss_c0, ss_d0, ss_e0, ss_a1, ss_b1, ss_c1, ss_d1, ss_e1, ss_a2, ss_b2, ss_c2, ss_d2, ss_e2, ss_a3, ss_b3, ss_c3, ss_d3, ss_e3, ss_a4, ss_b4, ss_c4, ss_d4, ss_e4, ss_a5, ss_b5, ss_c5, ss_d5, ss_e5, ss_a8, ss_b8, ss_c8, ss_d8, ss_e8, ss_a32, ss_b32, ss_c32, ss_d32, ss_e32, ss_a40, ss_b40, ss_c40, ss_d40, ss_e40, ss_a48, ss_b48, ss_c48, ss_d48, ss_e48, ss_a64, ss_b64, ss_c64, ss_d64, ss_e64, ss_m2, ss_m3, ss_m4, ss_m8, ss_p2, ss_p3, ss_p4, ss_p8, ss_48p, ss_in, nI_add, nI_1, nI_clamp, nI_leI, nI_ltI, nI_eq, forall_eq, true_and, and_true, Nat.zero_le, hc, decide_true, Bool.and_self]
    refine ss_xas1 ht hc ⟨fun z => absurd z n1, fun _ => ss_xse (wv := wv) T tx hc r7 r3 r4 r5 fun mn fd vl hL => ?_⟩
    have hmn := ss_mnL hL
    have hDf : ss_Df (ss_ls (fun i => (fd i, vl i)) mn) := by rw [hL]; exact ss_DfM hD
    have hFP : ∀ sn (sr si : Nat → Int32), ss_ls (fun i => (sr i, ss_tr si i)) sn = ((ss_ls (ss_ve a_vRow a_vFrom a_vTo a_vInt) nv).filter (ss_Q time cq (ss_ps a_column a_low a_high))).map ss_rc ++ chl → List.Perm (ss_ls (fun i => (fd i, vl i)) mn) (ss_ls (fun i => (sr i, ss_gv si c i)) sn) := by
      intro sn sr si hS
      rw [ss_prs hc hS, hL]; exact hP.map _
    refine ss_xrk (by omega) (fun i hi er => ?_) (fun hno => ?_)
    · refine ss_ylk T tm r7 (by omega) fun sn sr si hS => ⟨fun z => absurd z n1, fun _ => ?_⟩
      have hsn := ss_snL hS
      have P2 := hFP sn sr si hS
      rw [ss_yw, e2]
      refine ⟨fun z => absurd z n1, fun _ => ss_yrk (by omega) hc (fun j hj e => ⟨?_, ss_rj R6⟩) (fun hno => ?_)⟩
      · have hy : (sr j, ss_gv si c j) ∈ ss_ls (fun i => (fd i, vl i)) mn := P2.mem_iff.mpr (ss_lsI (g := fun i => (sr i, ss_gv si c i)) hj)
        have e3 : (fd i, vl i) = (sr j, ss_gv si c j) := ss_DfU hDf (ss_lsI (g := fun i => (fd i, vl i)) hi) hy (er.trans e.symm)
        rw [e3, P2.countP_eq]
      · obtain ⟨j, hj, ej⟩ := ss_lsM.mp (P2.mem_iff.mp (ss_lsI (g := fun i => (fd i, vl i)) hi))
        exact absurd ((congrArg Prod.fst ej).trans er) (hno j hj)
    · refine ss_ylk T tm r7 (by omega) fun sn sr si hS => ⟨fun z => absurd z n1, fun _ => ?_⟩
      have hsn := ss_snL hS
      have P2 := hFP sn sr si hS
      rw [ss_yw, e2]
      refine ⟨fun z => absurd z n1, fun _ => ss_yrk (by omega) hc (fun j hj e => ?_) (fun _ => ⟨rfl, ss_rj R6⟩)⟩
      obtain ⟨i, hi, ei⟩ := ss_lsM.mp (P2.mem_iff.mpr (ss_lsI (g := fun i => (sr i, ss_gv si c i)) hj))
      exact absurd ((congrArg Prod.fst ei).trans e) (hno i hi)
  · refine ss_xas0 (Or.inl ⟨hcl, hn⟩) ⟨fun _ => ss_ylk0 hcl hn ⟨fun _ => ⟨rfl, ss_rj R6⟩, fun z => absurd rfl z⟩, fun z => absurd rfl z⟩
  · obtain ⟨cq, chl, time, T, tm, hP, hD, hl8, -⟩ := ss_ctx (ch := a_change) (gone := a_gone) (ps := ss_ps a_column a_low a_high) r8 r10 r13 ht
    rw [Bool.not_eq_true] at hb'
    refine ss_xas0 (Or.inr hb) ⟨fun _ => ss_ylk T tm r7 (by omega) fun sn sr si hS => ?_, fun z => absurd rfl z⟩
    refine ⟨fun z => absurd z n1, fun _ => ?_⟩
    rw [ss_yw, hb']
    exact ⟨fun _ => ⟨rfl, ss_rj R6⟩, fun z => absurd rfl z⟩
/-- a number from 0 to n, as either side asks it -/
theorem ss_rng {w a b : Int32} {n : Nat} (hn : n < 100) (ha : a = nI n) (hb : b = nI (n + 1)) : (∃ i, i ≤ n ∧ w = nI i ∧ (decide (0 ≤ w) && decide (w ≤ a)) = true ∧ (decide (0 ≤ w) && decide (w < b)) = true) ∨ ((decide (0 ≤ w) && decide (w ≤ a)) = false ∧ (decide (0 ≤ w) && decide (w < b)) = false) := by
  subst ha hb
  rcases pk_ix w (n := n + 1) (by omega) with h | h | ⟨i, hi, rfl⟩
  · have : ¬ 0 ≤ w := Int32.not_le.mpr h
    refine Or.inr ⟨?_, ?_⟩
    · simp only [this, decide_false, Bool.false_and]
    · simp only [this, decide_false, Bool.false_and]
  · have h1 : ¬ w < nI (n + 1) := Int32.not_lt.mpr h
    have h2 : ¬ w ≤ nI n := fun z => h1 (Int32.lt_of_le_of_lt z (nI_lt (by omega) (by omega)))
    refine Or.inr ⟨?_, ?_⟩
    · simp only [h2, decide_false, Bool.and_false]
    · simp only [h1, decide_false, Bool.and_false]
  · have h0 : 0 ≤ nI i := nI_pos' (by omega)
    have h1 : nI i ≤ nI n := nI_le (by omega) (by omega)
    have h2 : nI i < nI (n + 1) := nI_lt hi (by omega)
    refine Or.inl ⟨i, by omega, rfl, ?_, ?_⟩
    · simp only [h0, h1, decide_true, Bool.and_self]
    · simp only [h0, h2, decide_true, Bool.and_self]
theorem i_vc_ask {k : Nat} {u : SX} {v : SY} (I : i_Rel k u v) (hk : k + 6 ≤ 3072) (v1 : Int32) (v2 : Int32) (v3 : Int32) : wpX_ask (fun r u' => wpY_ask (fun r' v' => r' = r ∧ i_Rel (k + 6) u' v') v v1 v2 v3) u v1 v2 v3 := by
  refine ss_re (P := fun u v => wpX_ask (fun r u' => wpY_ask (fun r' v' => r' = r ∧ i_Rel (k + 6) u' v') v v1 v2 v3) u v1 v2 v3) ?_ I
  intro sg na N cl rw nv wv f_kept f_many f_seen a_row a_from a_to a_held a_sort a_bits a_base a_least a_greatest a_words a_dictionary a_dRow a_dFrom a_dTo a_dValue a_wRow a_wFrom a_wTo a_wValue a_open a_start a_changed a_change a_changes a_fresh a_gone a_column a_low a_high a_found a_value a_vRow a_vFrom a_vTo a_vInt a_sRow a_sInt a_kept R
  have R6 := ss_rup sg na N cl rw nv wv f_kept f_many f_seen a_row a_from a_to a_held a_sort a_bits a_base a_least a_greatest a_words a_dictionary a_dRow a_dFrom a_dTo a_dValue a_wRow a_wFrom a_wTo a_wValue a_open a_start a_changed a_change a_changes a_fresh a_gone a_column a_low a_high a_found a_value a_vRow a_vFrom a_vTo a_vInt a_sRow a_sInt a_kept (show k ≤ k + 6 by omega) R
  obtain ⟨r1, r2, r3, r4, r5, r6, r7, r8, r9, r10, r11, r12, r13, r14⟩ := R
  have n1 : ¬ (1 : Int32) = 0 := by decide
  have hN := r3.1
  unfold wpX_ask
  unfold wpY_ask
  rcases ss_ask (op := a_open) v1 v3 with ⟨ht, c, hc, rfl⟩ | ⟨hcl, hn⟩ | ⟨ht, hb, hb'⟩
  · obtain ⟨cq, chl, time, T, tm, hP, hD, hl8, -⟩ := ss_ctx (ch := a_change) (gone := a_gone) (ps := ss_ps a_column a_low a_high) r8 r10 r13 ht
    have tx : (v1 = -1 ∧ time = nI cl) ∨ ∃ j, j < 4 ∧ v1 = nI j ∧ time = a_start j := by
      rcases tm with h | ⟨j, a, b, d, -⟩
      · exact Or.inl h
      · exact Or.inr ⟨j, a, b, d⟩
    have e2 : (decide ((0 : Int32) ≤ nI c) && decide (nI c < 3)) = true := by
      simp (disch := omega) only [ss_a0, ss_b0, ss_c0, ss_d0, ss_e0, ss_a1, ss_b1, ss_c1, ss_d1, ss_e1, ss_a2, ss_b2, ss_c2, ss_d2, ss_e2, ss_a3, ss_b3, ss_c3, ss_d3, ss_e3, ss_a4, ss_b4, ss_c4, ss_d4, ss_e4, ss_a5, ss_b5, ss_c5, ss_d5, ss_e5, ss_a8, ss_b8, ss_c8, ss_d8, ss_e8, ss_a32, ss_b32, ss_c32, ss_d32, ss_e32, ss_a40, ss_b40, ss_c40, ss_d40, ss_e40, ss_a48, ss_b48, ss_c48, ss_d48, ss_e48, ss_a64, ss_b64, ss_c64, ss_d64, ss_e64, ss_m2, ss_m3, ss_m4, ss_m8, ss_p2, ss_p3, ss_p4, ss_p8, ss_48p, ss_in, nI_add, nI_1, nI_clamp, nI_leI, nI_ltI, nI_eq, forall_eq, true_and, and_true, Nat.zero_le, hc, decide_true, Bool.and_self]
    refine ss_xas1 ht hc ⟨fun z => absurd z n1, fun _ => ?_⟩
    rw [ss_xw]
    rcases ss_rng (w := v2) (a := 4) (b := 5) (n := 4) (by omega) rfl rfl with ⟨w, hw, rfl, w1, w2⟩ | ⟨w1, w2⟩
    · rw [w1]
      refine ⟨fun z => absurd z n1, fun _ => ss_xse (wv := wv) T tx hc r7 r3 r4 r5 fun mn fd vl hL => ?_⟩
      have hmn := ss_mnL hL
      have hFP : ∀ sn (sr si : Nat → Int32), ss_ls (fun i => (sr i, ss_tr si i)) sn = ((ss_ls (ss_ve a_vRow a_vFrom a_vTo a_vInt) nv).filter (ss_Q time cq (ss_ps a_column a_low a_high))).map ss_rc ++ chl → List.Perm (ss_ls vl mn) (ss_ls (ss_gv si c) sn) ∧ sn = mn := by
        intro sn sr si hS
        have P2 : List.Perm (ss_ls (fun i => (fd i, vl i)) mn) (ss_ls (fun i => (sr i, ss_gv si c i)) sn) := by
          rw [ss_prs hc hS, hL]; exact hP.map _
        have := P2.length_eq
        rw [ss_lsL, ss_lsL] at this
        have P3 := P2.map Prod.snd
        rw [ss_lsF, ss_lsF] at P3
        exact ⟨P3, this.symm⟩
      have z0 : (nI 0).toInt64 = 0 := rfl
      refine ⟨fun e0 => ?_, fun e0 => ⟨fun e4 => ?_, fun e4 => ?_⟩⟩
      · -- how many
        refine ss_ylk T tm r7 (by omega) fun sn sr si hS => ⟨fun z => absurd z n1, fun _ => ?_⟩
        have hsn := ss_snL hS
        obtain ⟨P3, es⟩ := hFP sn sr si hS
        rw [ss_yw, e2]
        refine ⟨fun z => absurd z n1, fun _ => ?_⟩
        rw [ss_yw, w2]
        refine ⟨fun z => absurd z n1, fun _ => ⟨fun z => ⟨?_, ss_rj R6⟩, fun z => ⟨fun z4 => ?_, fun _ => ?_⟩⟩⟩
        · rw [ss_e0 (by omega)] at z
          rw [← es, z]; rfl
        · rw [e0] at z4; exact absurd z4 (by decide)
        · rw [ss_e0 (by omega)] at z
          refine ss_yto (by omega) (by omega) hc (fun _ => ⟨by rw [es], ss_rj R6⟩) (fun z => ?_) (fun z => ?_) (fun z => absurd e0 z)
          · rw [e0] at z; exact absurd z (by decide)
          · rw [e0] at z; exact absurd z (by decide)
      · -- how many different ones
        refine ss_xsr (by omega) fun fd' vl' hP' hO' => ?_
        have hO : ∀ a b, a ≤ b → b < mn → vl' a ≤ vl' b := by
          intro a b hab hb
          rcases hO' a b hab hb with h | ⟨h, -⟩
          · exact Int32.le_of_lt h
          · exact Int32.le_of_eq h
        refine ss_xa51 (by omega) hO ?_
        refine ss_ylk T tm r7 (by omega) fun sn sr si hS => ⟨fun z => absurd z n1, fun _ => ?_⟩
        have hsn := ss_snL hS
        obtain ⟨P3, es⟩ := hFP sn sr si hS
        have P4 := hP'.map Prod.snd
        rw [ss_lsF, ss_lsF] at P4
        have enb := (ss_nbP (P4.trans P3)).length_eq
        rw [ss_yw, e2]
        refine ⟨fun z => absurd z n1, fun _ => ?_⟩
        rw [ss_yw, w2]
        refine ⟨fun z => absurd z n1, fun _ => ⟨fun z => ⟨?_, ss_rj R6⟩, fun z => ⟨fun _ => ?_, fun z4 => absurd e4 z4⟩⟩⟩
        · rw [ss_e0 (by omega)] at z
          have : (ss_nb vl' mn).length = 0 := by
            have := ss_nbL (g := vl') (n := mn)
            omega
          rw [this]; rfl
        · exact ss_ydf (by omega) hc ⟨by rw [enb], ss_rj R6⟩
      · -- sum, least, greatest
        have fin : ∀ r : Int64, ∀ u', (∀ sn (sr si : Nat → Int32), i_Rel (k + 6) u' (nI nv, nI cl, nI rw, nI sn, a_vRow, a_vFrom, a_vTo, a_vInt, a_open, a_start, a_changes, a_changed, a_fresh, a_gone, a_change, a_column, a_low, a_high, sr, si, a_kept)) → (mn = 0 → r = 0) → (nI w = 1 → r = ss_sm (ss_ls vl mn)) → (nI w = 2 → 0 < mn → ∃ m, ss_mi (ss_ls vl mn) m ∧ r = m.toInt64) → (¬ nI w = 1 → ¬ nI w = 2 → 0 < mn → ∃ m, ss_mx (ss_ls vl mn) m ∧ r = m.toInt64) →
            wpY_ask (fun r' v' => r' = r ∧ i_Rel (k + 6) u' v') (nI nv, nI cl, nI rw, f_seen, a_vRow, a_vFrom, a_vTo, a_vInt, a_open, a_start, a_changes, a_changed, a_fresh, a_gone, a_change, a_column, a_low, a_high, a_sRow, a_sInt, a_kept) v1 (nI w) (nI c) := by
          intro r u' hrel q0 q1 q2 q3
          unfold wpY_ask
          refine ss_ylk T tm r7 (by omega) fun sn sr si hS => ⟨fun z => absurd z n1, fun _ => ?_⟩
          have hsn := ss_snL hS
          obtain ⟨P3, es⟩ := hFP sn sr si hS
          rw [ss_yw, e2]
          refine ⟨fun z => absurd z n1, fun _ => ?_⟩
          rw [ss_yw, w2]
          refine ⟨fun z => absurd z n1, fun _ => ⟨fun z => ⟨?_, hrel sn sr si⟩, fun z => ⟨fun z4 => absurd z4 e4, fun _ => ?_⟩⟩⟩
          · rw [ss_e0 (by omega)] at z
            exact (q0 (by omega)).symm
          · rw [ss_e0 (by omega)] at z
            refine ss_yto (by omega) (by omega) hc (fun z => absurd z e0) (fun z1 => ⟨?_, hrel sn sr si⟩) (fun z2 m hm => ⟨?_, hrel sn sr si⟩) (fun _ z1 z2 m hm => ⟨?_, hrel sn sr si⟩)
            · rw [q1 z1, ss_smP P3]
            · obtain ⟨m', hm', e⟩ := q2 z2 (by omega)
              rw [e, ss_miU P3 hm' hm]
            · obtain ⟨m', hm', e⟩ := q3 z1 z2 (by omega)
              rw [e, ss_mxU P3 hm' hm]
        have x123 : ∀ b0 : Int64, (mn = 0 → b0 = 0) → (0 < mn → b0 = (vl 0).toInt64) → ∃ n123, wX_ask_123 (fun r u' => wpY_ask (fun r' v' => r' = r ∧ i_Rel (k + 6) u' v') (nI nv, nI cl, nI rw, f_seen, a_vRow, a_vFrom, a_vTo, a_vInt, a_open, a_start, a_changes, a_changed, a_fresh, a_gone, a_change, a_column, a_low, a_high, a_sRow, a_sInt, a_kept) v1 (nI w) (nI c)) (nI w) (nI sg) (nI na) f_kept (nI cl) (nI rw) (nI mn) a_row a_from a_to a_held a_sort a_bits a_base a_least a_greatest a_words a_dictionary a_dRow a_dFrom a_dTo a_dValue a_wRow a_wFrom a_wTo a_wValue a_open a_start a_changed a_change a_changes a_fresh a_gone a_column a_low a_high fd vl n123 0 b0 0 := by
          intro b0 hb0 hb1
          refine ss_xa123 (by omega) hb0 hb1 (fun e1 => ?_) (fun n1' em => ?_) (fun e2' m hm => ?_) (fun n1' n2' m hm => ?_)
          · refine fin _ _ (fun sn sr si => ss_rj R6) (fun em => ?_) (fun _ => rfl) (fun z _ => ?_) (fun z => absurd e1 z)
            · rw [em]; rfl
            · rw [e1] at z; exact absurd z (by decide)
          · exact fin _ _ (fun sn sr si => ss_rj R6) (fun _ => rfl) (fun z => absurd z n1') (fun _ hp => by omega) (fun _ _ hp => by omega)
          · refine fin _ _ (fun sn sr si => ss_rj R6) (fun em => ?_) (fun z => ?_) (fun _ _ => ⟨m, hm, rfl⟩) (fun _ z => absurd e2' z)
            · rw [em] at hm; exact absurd hm.1 (List.not_mem_nil)
            · rw [e2'] at z; exact absurd z (by decide)
          · refine fin _ _ (fun sn sr si => ss_rj R6) (fun em => ?_) (fun z => absurd z n1') (fun z => absurd z n2') (fun _ _ _ => ⟨m, hm, rfl⟩)
            rw [em] at hm; exact absurd hm.1 (List.not_mem_nil)
        refine ⟨fun hle => x123 0 (fun _ => rfl) (fun hp => ?_), fun hle => nm_e (x123 _ (fun em => ?_) (fun _ => rfl))⟩
        · rw [ss_b0 (by omega)] at hle; omega
        · rw [ss_b0 (by omega)] at hle; omega
    · rw [w1]
      refine ⟨fun _ => ?_, fun z => absurd rfl z⟩
      refine ss_ylk T tm r7 (by omega) fun sn sr si hS => ⟨fun z => absurd z n1, fun _ => ?_⟩
      rw [ss_yw, e2]
      refine ⟨fun z => absurd z n1, fun _ => ?_⟩
      rw [ss_yw, w2]
      exact ⟨fun _ => ⟨rfl, ss_rj R6⟩, fun z => absurd rfl z⟩
  · refine ss_xas0 (Or.inl ⟨hcl, hn⟩) ⟨fun _ => ss_ylk0 hcl hn ⟨fun _ => ⟨rfl, ss_rj R6⟩, fun z => absurd rfl z⟩, fun z => absurd rfl z⟩
  · obtain ⟨cq, chl, time, T, tm, hP, hD, hl8, -⟩ := ss_ctx (ch := a_change) (gone := a_gone) (ps := ss_ps a_column a_low a_high) r8 r10 r13 ht
    rw [Bool.not_eq_true] at hb'
    refine ss_xas0 (Or.inr hb) ⟨fun _ => ss_ylk T tm r7 (by omega) fun sn sr si hS => ?_, fun z => absurd rfl z⟩
    refine ⟨fun z => absurd z n1, fun _ => ?_⟩
    rw [ss_yw, hb']
    exact ⟨fun _ => ⟨rfl, ss_rj R6⟩, fun z => absurd rfl z⟩
end
section
theorem ss_Du {α : Type} {f : α → Int32} {L : List α} (h : L.Pairwise (fun x y => ¬ f x = f y)) {x y : α} (hx : x ∈ L) (hy : y ∈ L) (e : f x = f y) : x = y := by
  have := List.Pairwise.forall_of_forall_of_flip (R := fun a b => a = b ∨ ¬ f a = f b) (fun _ _ => Or.inl rfl) (h.imp fun z => Or.inr z) (h.imp fun z => Or.inr (fun w => z w.symm)) hx hy
  rcases this with h | h
  · exact h
  · exact absurd e h
/-- rows all different: a cell is a function of its row -/
theorem ss_lku {L : List ss_R} (c : Nat) (h : L.Pairwise (fun x y => ¬ x.1 = y.1)) : ∃ cv : Int32 → Int32, ∀ y, y ∈ L → cv y.1 = ss_c y.2 c := by
  refine ⟨fun r => ((L.find? (fun y => decide (y.1 = r))).map (fun y => ss_c y.2 c)).getD 0, fun y hy => ?_⟩
  cases e : L.find? (fun z => decide (z.1 = y.1)) with
  | none =>
    have := List.find?_eq_none.mp e y hy
    simp at this
  | some z =>
    have h1 := List.find?_some e
    rw [decide_eq_true_eq] at h1
    have h2 := List.mem_of_find?_eq_some e
    have := ss_Du (f := Prod.fst) h h2 hy h1
    subst this
    simp [e]
theorem ss_flR {α β : Type} {f : Nat → α} {n : Nat} {q : α → Bool} {h : α → β} : ((ss_ls f n).filter q).map h = ss_fl (fun i => q (f i)) (fun i => h (f i)) n := by
  unfold ss_ls ss_fl
  rw [List.filter_map, List.map_map]
  rfl
theorem ss_flC {α : Type} {p q : Nat → Bool} {f g : Nat → α} {n : Nat} (h1 : ∀ i, i < n → p i = q i) (h2 : ∀ i, i < n → f i = g i) : ss_fl p f n = ss_fl q g n := by
  unfold ss_fl
  rw [List.filter_congr fun i hi => h1 i (List.mem_range.mp hi)]
  exact List.map_congr_left fun i hi => h2 i (List.mem_range.mp (List.mem_filter.mp hi).1)
theorem i_vc_group {k : Nat} {u : SX} {v : SY} (I : i_Rel k u v) (hk : k + 6 ≤ 3072) (v1 : Int32) (v2 : Int32) (v3 : Int32) (v4 : Int32) (v5 : Int32) : wpX_group (fun r u' => wpY_group (fun r' v' => r' = r ∧ i_Rel (k + 6) u' v') v v1 v2 v3 v4 v5) u v1 v2 v3 v4 v5 := by
  refine ss_re (P := fun u v => wpX_group (fun r u' => wpY_group (fun r' v' => r' = r ∧ i_Rel (k + 6) u' v') v v1 v2 v3 v4 v5) u v1 v2 v3 v4 v5) ?_ I
  intro sg na N cl rw nv wv f_kept f_many f_seen a_row a_from a_to a_held a_sort a_bits a_base a_least a_greatest a_words a_dictionary a_dRow a_dFrom a_dTo a_dValue a_wRow a_wFrom a_wTo a_wValue a_open a_start a_changed a_change a_changes a_fresh a_gone a_column a_low a_high a_found a_value a_vRow a_vFrom a_vTo a_vInt a_sRow a_sInt a_kept R
  have R6 := ss_rup sg na N cl rw nv wv f_kept f_many f_seen a_row a_from a_to a_held a_sort a_bits a_base a_least a_greatest a_words a_dictionary a_dRow a_dFrom a_dTo a_dValue a_wRow a_wFrom a_wTo a_wValue a_open a_start a_changed a_change a_changes a_fresh a_gone a_column a_low a_high a_found a_value a_vRow a_vFrom a_vTo a_vInt a_sRow a_sInt a_kept (show k ≤ k + 6 by omega) R
  obtain ⟨r1, r2, r3, r4, r5, r6, r7, r8, r9, r10, r11, r12, r13, r14⟩ := R
  have n1 : ¬ (1 : Int32) = 0 := by decide
  have hN := r3.1
  unfold wpX_group
  rcases ss_ask (op := a_open) v1 v2 with ⟨ht, c, hc, rfl⟩ | ⟨hcl, hn⟩ | ⟨ht, hb, hb'⟩
  · obtain ⟨cq, chl, time, T, tm, hP, hD, hl8, hcell⟩ := ss_ctx (ch := a_change) (gone := a_gone) (ps := ss_ps a_column a_low a_high) r8 r10 r13 ht
    have tx : (v1 = -1 ∧ time = nI cl) ∨ ∃ j, j < 4 ∧ v1 = nI j ∧ time = a_start j := by
      rcases tm with h | ⟨j, a, b, d, -⟩
      · exact Or.inl h
      · exact Or.inr ⟨j, a, b, d⟩
    have e2 : (decide ((0 : Int32) ≤ nI c) && decide (nI c < 3)) = true := by
      simp (disch := omega) only [ss_a0, ss_b0, ss_c0, ss_d0, ss_e0, ss_a1, ss_b1, ss_c1, ss_d1, ss_e1, ss_a2, ss_b2, ss_c2, ss_d2, ss_e2, ss_a3, ss_b3, ss_c3, ss_d3, ss_e3, ss_a4, ss_b4, ss_c4, ss_d4, ss_e4, ss_a5, ss_b5, ss_c5, ss_d5, ss_e5, ss_a8, ss_b8, ss_c8, ss_d8, ss_e8, ss_a32, ss_b32, ss_c32, ss_d32, ss_e32, ss_a40, ss_b40, ss_c40, ss_d40, ss_e40, ss_a48, ss_b48, ss_c48, ss_d48, ss_e48, ss_a64, ss_b64, ss_c64, ss_d64, ss_e64, ss_m2, ss_m3, ss_m4, ss_m8, ss_p2, ss_p3, ss_p4, ss_p8, ss_48p, ss_in, nI_add, nI_1, nI_clamp, nI_leI, nI_ltI, nI_eq, forall_eq, true_and, and_true, Nat.zero_le, hc, decide_true, Bool.and_self]
    refine ss_xas1 ht hc ⟨fun z => absurd z n1, fun _ => ?_⟩
    rw [ss_xw]
    rcases ss_rng (w := v5) (a := 2) (b := 3) (n := 2) (by omega) rfl rfl with ⟨c2, hc2, rfl, w1, w2⟩ | ⟨w1, w2⟩
    · rw [w1]
      refine ⟨fun z => absurd z n1, fun _ => ?_⟩
      rw [ss_xw]
      have hc3 : c2 < 3 := by omega
      rcases ss_rng (w := v4) (a := 3) (b := 4) (n := 3) (by omega) rfl rfl with ⟨wn, hwn, rfl, q1, q2⟩ | ⟨q1, q2⟩
      · rw [q1]
        refine ⟨fun z => absurd z n1, fun _ => ?_⟩
        -- the reference, down to its loop
        have yy : ∀ Q : Int64 → SY → Prop, (∀ sn (sr si : Nat → Int32), ss_ls (fun i => (sr i, ss_tr si i)) sn = ((ss_ls (ss_ve a_vRow a_vFrom a_vTo a_vInt) nv).filter (ss_Q time cq (ss_ps a_column a_low a_high))).map ss_rc ++ chl → sn ≤ 64 → ∃ n45, wY_group_45 Q (nI c) v3 (nI wn) (nI c2) (nI nv) (nI cl) (nI rw) (nI sn) n45 0 0 a_vRow a_vFrom a_vTo a_vInt a_open a_start a_changes a_changed a_fresh a_gone a_change a_column a_low a_high sr si a_kept) → wpY_group Q (nI nv, nI cl, nI rw, f_seen, a_vRow, a_vFrom, a_vTo, a_vInt, a_open, a_start, a_changes, a_changed, a_fresh, a_gone, a_change, a_column, a_low, a_high, a_sRow, a_sInt, a_kept) v1 (nI c) v3 (nI wn) (nI c2) := by
          intro Q hQ
          unfold wpY_group
          refine ss_ylk T tm r7 (by omega) fun sn sr si hS => ⟨fun z => absurd z n1, fun _ => ?_⟩
          have hsn := ss_snL hS
          rw [ss_yw, e2]
          refine ⟨fun z => absurd z n1, fun _ => ?_⟩
          rw [ss_yw, w2]
          refine ⟨fun z => absurd z n1, fun _ => ?_⟩
          rw [ss_yw, q2]
          exact ⟨fun z => absurd z n1, fun _ => hQ sn sr si hS (by omega)⟩
        refine ⟨fun h3 => ?_, fun h3 => ?_⟩
        · obtain ⟨kk, hkk, rfl⟩ := nI_of (Int32.not_lt.mpr h3)
          refine ss_xse (wv := wv) T tx hc r7 r3 r4 r5 fun mn fd vl hL => ?_
          have hmn := ss_mnL hL
          refine ss_xsr (by omega) fun fd' vl' hP' hO' => ?_
          have hO : ∀ a b, a ≤ b → b < mn → vl' a ≤ vl' b := by
            intro a b hab hb
            rcases hO' a b hab hb with h | ⟨h, -⟩
            · exact Int32.le_of_lt h
            · exact Int32.le_of_eq h
          have hFP : ∀ sn (sr si : Nat → Int32), ss_ls (fun i => (sr i, ss_tr si i)) sn = ((ss_ls (ss_ve a_vRow a_vFrom a_vTo a_vInt) nv).filter (ss_Q time cq (ss_ps a_column a_low a_high))).map ss_rc ++ chl → List.Perm (ss_ls vl' mn) (ss_ls (ss_gv si c) sn) := by
            intro sn sr si hS
            have P2 : List.Perm (ss_ls (fun i => (fd' i, vl' i)) mn) (ss_ls (fun i => (sr i, ss_gv si c i)) sn) := by
              refine hP'.trans ?_
              rw [ss_prs hc hS, hL]; exact hP.map _
            have P3 := P2.map Prod.snd
            rw [ss_lsF, ss_lsF] at P3
            exact P3
          refine ss_xg51 (by omega) hkk hO (fun hle => ?_) (fun a ha hfi hlen => ?_)
          · -- no such group
            refine yy _ fun sn sr si hS hs64 => ?_
            have P3 := hFP sn sr si hS
            have hno : ∀ i, i < sn → ¬ nI (ss_bl (ss_gv si c) sn (ss_gv si c i)) = nI kk := by
              intro i hi e
              have h1 := ss_blL (g := ss_gv si c) (n := sn) (v := ss_gv si c i) (ss_lsI hi)
              have h2 := ss_nbL (g := ss_gv si c) (n := sn)
              have h3 := (ss_nbP P3).length_eq
              have := (nI_eq (by omega) hkk).mp e
              omega
            refine ss_y45 hs64 hc hc3 (fun _ i hi e => absurd e (hno i hi)) (fun _ kp => ⟨rfl, ss_rj R6⟩) (fun kp K hK hw hne => ?_)
            refine absurd ?_ hne
            rw [hK]
            refine List.eq_nil_iff_forall_not_mem.mpr fun x hx => ?_
            obtain ⟨i, hi, hp, -⟩ := ss_flM.mp hx
            rw [decide_eq_true_eq] at hp
            exact hno i hi hp
          · -- the group of the value at a
            have hbl : ss_bl vl' mn (vl' a) = kk := (ss_blO hO ha hfi).trans hlen
            have mt : ∀ sn (sr si : Nat → Int32), ss_ls (fun i => (sr i, ss_tr si i)) sn = ((ss_ls (ss_ve a_vRow a_vFrom a_vTo a_vInt) nv).filter (ss_Q time cq (ss_ps a_column a_low a_high))).map ss_rc ++ chl → sn ≤ 64 → ∀ i, i < sn → (nI (ss_bl (ss_gv si c) sn (ss_gv si c i)) = nI kk ↔ ss_gv si c i = vl' a) := by
              intro sn sr si hS hs64 i hi
              have P3 := hFP sn sr si hS
              have hm1 : ss_gv si c i ∈ ss_ls vl' mn := P3.mem_iff.mpr (ss_lsI hi)
              have hm2 : vl' a ∈ ss_ls vl' mn := ss_lsI ha
              have h1 := ss_blL (g := ss_gv si c) (n := sn) (v := ss_gv si c i) (ss_lsI hi)
              have h2 := ss_nbL (g := ss_gv si c) (n := sn)
              rw [nI_eq (by omega) hkk, ← ss_blP P3]
              constructor
              · intro e
                exact ss_blI hm1 hm2 (e.trans hbl.symm)
              · intro e
                rw [e]; exact hbl
            have ex : ∀ sn (sr si : Nat → Int32), ss_ls (fun i => (sr i, ss_tr si i)) sn = ((ss_ls (ss_ve a_vRow a_vFrom a_vTo a_vInt) nv).filter (ss_Q time cq (ss_ps a_column a_low a_high))).map ss_rc ++ chl → ∃ i, i < sn ∧ ss_gv si c i = vl' a := by
              intro sn sr si hS
              exact ss_lsM.mp ((hFP sn sr si hS).mem_iff.mp (ss_lsI ha))
            have nam : ¬ nI a = nI mn := fun z => by
              have := (nI_eq (by omega) (by omega)).mp z
              omega
            refine ⟨fun z => absurd z nam, fun _ => ⟨fun w0 => ⟨vp_in_nI (by omega) (by omega), ?_⟩, fun w0 => ?_⟩⟩
            · rw [nI_clamp (by omega)]
              refine yy _ fun sn sr si hS hs64 => ?_
              obtain ⟨i0, hi0, e0⟩ := ex sn sr si hS
              refine ss_y45 hs64 hc hc3 (fun _ i hi e kp => ⟨?_, ss_rj R6⟩) (fun hno => absurd ((mt sn sr si hS hs64 i0 hi0).mpr e0) (hno i0 hi0)) (fun kp K hK hw => absurd w0 hw)
              rw [(mt sn sr si hS hs64 i hi).mp e]
            · refine ss_xg132 ha (by omega) fun b hab hb hin hlast => ?_
              obtain ⟨cv, hcv⟩ := ss_lku c2 hD
              -- the stretch's cells, and the reference's kept ones
              have hst := ss_stre (g := fun i => (fd' i, vl' i)) (n := mn) (a := a) (b := b) hO hab hb ((ss_fiO hO ha).mp hfi) hin hlast
              have hK : ∀ sn (sr si : Nat → Int32), ss_ls (fun i => (sr i, ss_tr si i)) sn = ((ss_ls (ss_ve a_vRow a_vFrom a_vTo a_vInt) nv).filter (ss_Q time cq (ss_ps a_column a_low a_high))).map ss_rc ++ chl → sn ≤ 64 →
                  List.Perm (ss_ls (fun i => cv (fd' (a + i))) (b - a)) (ss_fl (fun i => decide (nI (ss_bl (ss_gv si c) sn (ss_gv si c i)) = nI kk)) (ss_gv si c2) sn) := by
                intro sn sr si hS hs64
                have e1 : ss_fl (fun i => decide (nI (ss_bl (ss_gv si c) sn (ss_gv si c i)) = nI kk)) (ss_gv si c2) sn = ((ss_ls (fun i => (sr i, ss_tr si i)) sn).filter (fun y => decide (ss_c y.2 c = vl' a))).map (fun y => ss_c y.2 c2) := by
                  rw [ss_flR]
                  refine ss_flC (fun i hi => ?_) (fun i hi => ?_)
                  · refine decide_eq_decide.mpr ((mt sn sr si hS hs64 i hi).trans ?_)
                    show _ ↔ ss_c (ss_tr si i) c = vl' a
                    rw [ss_ctr _ _ hc]; exact Iff.rfl
                  · show _ = ss_c (ss_tr si i) c2
                    rw [ss_ctr _ _ hc3]; rfl
                have e2' : ss_ls (fun i => cv (fd' (a + i))) (b - a) = ((ss_ls (fun i => (fd' i, vl' i)) mn).filter (fun x => decide (x.2 = vl' a))).map (fun x => cv x.1) := by
                  rw [hst, ss_lsF]
                rw [e1, e2', hS]
                refine ((hP'.filter _).map _).trans ?_
                rw [hL, List.filter_map, List.map_map]
                have e3 : (((((ss_ls (ss_ve a_row a_from a_to wv) N ++ ss_ls (ss_ve a_dRow a_dFrom a_dTo a_dValue) na).filter (ss_Q time cq (ss_ps a_column a_low a_high))).map ss_rc) ++ chl).filter ((fun x => decide (x.2 = vl' a)) ∘ ss_rv c)).map ((fun x => cv x.1) ∘ ss_rv c) = (((((ss_ls (ss_ve a_row a_from a_to wv) N ++ ss_ls (ss_ve a_dRow a_dFrom a_dTo a_dValue) na).filter (ss_Q time cq (ss_ps a_column a_low a_high))).map ss_rc) ++ chl).filter (fun y => decide (ss_c y.2 c = vl' a))).map (fun y => ss_c y.2 c2) :=
                  List.map_congr_left fun y hy => hcv y (List.mem_filter.mp hy).1
                rw [e3]
                exact (hP.filter _).map _
              have hne : ∀ sn (sr si : Nat → Int32), ss_ls (fun i => (sr i, ss_tr si i)) sn = ((ss_ls (ss_ve a_vRow a_vFrom a_vTo a_vInt) nv).filter (ss_Q time cq (ss_ps a_column a_low a_high))).map ss_rc ++ chl → sn ≤ 64 → ¬ ∀ i, i < sn → ¬ nI (ss_bl (ss_gv si c) sn (ss_gv si c i)) = nI kk := by
                intro sn sr si hS hs64 hno
                obtain ⟨i0, hi0, e0⟩ := ex sn sr si hS
                exact hno i0 hi0 ((mt sn sr si hS hs64 i0 hi0).mpr e0)
              have gat : ∀ sums : Bool, (sums = true ↔ nI wn = 2) → ¬ nI wn = 1 → wpX_gathered (fun r => wpY_group (fun r' v' => r' = r ∧ i_Rel (k + 6) (nI sg, nI na, f_kept, nI cl, nI rw, nI mn, a_row, a_from, a_to, a_held, a_sort, a_bits, a_base, a_least, a_greatest, a_words, a_dictionary, a_dRow, a_dFrom, a_dTo, a_dValue, a_wRow, a_wFrom, a_wTo, a_wValue, a_open, a_start, a_changed, a_change, a_changes, a_fresh, a_gone, a_column, a_low, a_high, fd', vl') v') (nI nv, nI cl, nI rw, f_seen, a_vRow, a_vFrom, a_vTo, a_vInt, a_open, a_start, a_changes, a_changed, a_fresh, a_gone, a_change, a_column, a_low, a_high, a_sRow, a_sInt, a_kept) v1 (nI c) (nI kk) (nI wn) (nI c2)) (nI sg, nI na, f_kept, nI cl, nI rw, nI mn, a_row, a_from, a_to, a_held, a_sort, a_bits, a_base, a_least, a_greatest, a_words, a_dictionary, a_dRow, a_dFrom, a_dTo, a_dValue, a_wRow, a_wFrom, a_wTo, a_wValue, a_open, a_start, a_changed, a_change, a_changes, a_fresh, a_gone, a_column, a_low, a_high, fd', vl') v1 (nI c2) (nI a) (nI b) (ss_bi sums) := by
                intro sums hsums w1'
                refine ss_xgt (cv := fun i => cv (fd' i)) hab (by omega) (fun i hai hib post' hp' => ?_) (fun hs => ?_) (fun hs m hm => ?_)
                · refine ss_xce r3 r4 r5 hc3 (fun z hz => ?_) (ss_tm r10 ht)
                  have hmem : (fd' i, vl' i) ∈ (((((ss_ls (ss_ve a_row a_from a_to wv) N ++ ss_ls (ss_ve a_dRow a_dFrom a_dTo a_dValue) na).filter (ss_Q time cq (ss_ps a_column a_low a_high))).map ss_rc) ++ chl).map (ss_rv c)) := by
                    rw [← hL]
                    exact hP'.mem_iff.mp (ss_lsI (g := fun i => (fd' i, vl' i)) (by omega))
                  obtain ⟨y, hy, ey⟩ := List.mem_map.mp hmem
                  have ey1 : y.1 = fd' i := congrArg Prod.fst ey
                  rw [← ey1] at hz hp'
                  rw [hcell y hy c2 hc3 z hz, ← hcv y hy]
                  exact hp'
                · refine yy _ fun sn sr si hS hs64 => ?_
                  refine ss_y45 hs64 hc hc3 (fun z => absurd z w0) (fun hno => absurd hno (hne sn sr si hS hs64)) (fun kp K eK _ _ => ⟨fun z => absurd z w1', fun _ => ⟨?_, ss_rj R6⟩, fun _ z => absurd (hsums.mp hs) z⟩)
                  rw [eK]; exact (ss_smP (hK sn sr si hS hs64)).symm
                · refine yy _ fun sn sr si hS hs64 => ?_
                  refine ss_y45 hs64 hc hc3 (fun z => absurd z w0) (fun hno => absurd hno (hne sn sr si hS hs64)) (fun kp K eK _ _ => ⟨fun z => absurd z w1', fun z => ?_, fun _ _ m' hm' => ⟨?_, ss_rj R6⟩⟩)
                  · rw [hsums.mpr z] at hs; exact nomatch hs
                  · rw [eK] at hm'
                    rw [ss_mxU (hK sn sr si hS hs64) hm hm']
              refine ⟨fun w1' => ?_, fun w1' => ⟨fun w2' => ?_, fun w2' => ?_⟩⟩
              · rw [pk_sub (by omega)]
                refine yy _ fun sn sr si hS hs64 => ?_
                refine ss_y45 hs64 hc hc3 (fun z => absurd z w0) (fun hno => absurd hno (hne sn sr si hS hs64)) (fun kp K eK _ _ => ⟨fun _ => ⟨?_, ss_rj R6⟩, fun z => ?_, fun z => absurd w1' z⟩)
                · rw [eK, ← (hK sn sr si hS hs64).length_eq, ss_lsL]
                · rw [w1'] at z; exact absurd z (by decide)
              · exact gat true ⟨fun _ => w2', fun _ => rfl⟩ w1'
              · exact gat false ⟨fun z => (nomatch z), fun z => absurd z w2'⟩ w1'
        · refine yy _ fun sn sr si hS hs64 => ?_
          have hno : ∀ i, i < sn → ¬ nI (ss_bl (ss_gv si c) sn (ss_gv si c i)) = v3 := by
            intro i hi e
            have h1 := ss_blL (g := ss_gv si c) (n := sn) (v := ss_gv si c i) (ss_lsI hi)
            have h2 := ss_nbL (g := ss_gv si c) (n := sn)
            rw [← e] at h3
            exact h3 (nI_pos' (by omega))
          refine ss_y45 hs64 hc hc3 (fun _ i hi e => absurd e (hno i hi)) (fun _ kp => ⟨rfl, ss_rj R6⟩) (fun kp K hK hw hne => ?_)
          refine absurd ?_ hne
          rw [hK]
          refine List.eq_nil_iff_forall_not_mem.mpr fun x hx => ?_
          obtain ⟨i, hi, hp, -⟩ := ss_flM.mp hx
          rw [decide_eq_true_eq] at hp
          exact hno i hi hp
      · rw [q1]
        refine ⟨fun _ => ?_, fun z => absurd rfl z⟩
        unfold wpY_group
        refine ss_ylk T tm r7 (by omega) fun sn sr si hS => ⟨fun z => absurd z n1, fun _ => ?_⟩
        rw [ss_yw, e2]
        refine ⟨fun z => absurd z n1, fun _ => ?_⟩
        rw [ss_yw, w2]
        refine ⟨fun z => absurd z n1, fun _ => ?_⟩
        rw [ss_yw, q2]
        exact ⟨fun _ => ⟨rfl, ss_rj R6⟩, fun z => absurd rfl z⟩
    · rw [w1]
      refine ⟨fun _ => ?_, fun z => absurd rfl z⟩
      unfold wpY_group
      refine ss_ylk T tm r7 (by omega) fun sn sr si hS => ⟨fun z => absurd z n1, fun _ => ?_⟩
      rw [ss_yw, e2]
      refine ⟨fun z => absurd z n1, fun _ => ?_⟩
      rw [ss_yw, w2]
      exact ⟨fun _ => ⟨rfl, ss_rj R6⟩, fun z => absurd rfl z⟩
  · refine ss_xas0 (Or.inl ⟨hcl, hn⟩) ⟨fun _ => ?_, fun z => absurd rfl z⟩
    unfold wpY_group
    exact ss_ylk0 hcl hn ⟨fun _ => ⟨rfl, ss_rj R6⟩, fun z => absurd rfl z⟩
  · obtain ⟨cq, chl, time, T, tm, hP, hD, hl8, -⟩ := ss_ctx (ch := a_change) (gone := a_gone) (ps := ss_ps a_column a_low a_high) r8 r10 r13 ht
    rw [Bool.not_eq_true] at hb'
    refine ss_xas0 (Or.inr hb) ⟨fun _ => ?_, fun z => absurd rfl z⟩
    unfold wpY_group
    refine ss_ylk T tm r7 (by omega) fun sn sr si hS => ?_
    refine ⟨fun z => absurd z n1, fun _ => ?_⟩
    rw [ss_yw, hb']
    exact ⟨fun _ => ⟨rfl, ss_rj R6⟩, fun z => absurd rfl z⟩
end
section
/-! commit: counts -/
def ss_gn (gone : Nat → Int32) (b : Nat) : Nat → Nat
  | 0 => 0
  | i + 1 => ss_gn gone b i + (if gone (b + i) = 0 then 1 else 0)
def ss_rl (cow gone : Nat → Int32) (b : Nat) : Nat → Nat
  | 0 => 0
  | i + 1 => ss_rl cow gone b i + (if ¬ cow (b + i) = 0 ∧ ¬ gone (b + i) = 0 then 0 else 1)
theorem ss_gnL {gone : Nat → Int32} {b : Nat} : ∀ i, ss_gn gone b i ≤ i := by
  intro i
  induction i with
  | zero => exact Nat.le_refl _
  | succ i ih => rw [ss_gn]; split <;> omega
theorem ss_rlL {cow gone : Nat → Int32} {b : Nat} : ∀ i, ss_rl cow gone b i ≤ i := by
  intro i
  induction i with
  | zero => exact Nat.le_refl _
  | succ i ih => rw [ss_rl]; split <;> omega
theorem ss_gnM {gone : Nat → Int32} {b i j : Nat} (h : i ≤ j) : ss_gn gone b i ≤ ss_gn gone b j := by
  induction j with
  | zero => rw [show i = 0 by omega]; exact Nat.le_refl _
  | succ j ih =>
    rcases (by omega : i = j + 1 ∨ i ≤ j) with rfl | h'
    · exact Nat.le_refl _
    · have := ih h'
      rw [ss_gn]; omega
theorem ss_nwS {cr ch gone : Nat → Int32} {b c : Nat} {nc : Int32} : ss_nw cr ch gone b nc (c + 1) = ss_nw cr ch gone b nc c ++ (if gone (b + c) = 0 then [(cr (b + c), nc, 2147483647, ss_tr ch (b + c))] else []) := by
  unfold ss_nw
  rw [ss_flS]
  congr 1
  by_cases h : gone (b + c) = 0
  · rw [if_pos h, if_pos (decide_eq_true h)]
  · rw [if_neg h, if_neg (by rw [decide_eq_true_eq]; exact h)]
theorem ss_nwN {cr ch gone : Nat → Int32} {b : Nat} {nc : Int32} : ∀ c, (ss_nw cr ch gone b nc c).length = ss_gn gone b c := by
  intro c
  induction c with
  | zero => rfl
  | succ c ih =>
    rw [ss_nwS, List.length_append, ih, ss_gn]
    by_cases h : gone (b + c) = 0
    · rw [if_pos h, if_pos h]; rfl
    · rw [if_neg h, if_neg h]; rfl
section
variable {f_segments f_added f_kept f_clock f_rows f_many : Int32} {a_row a_from a_to a_held a_sort a_bits a_base a_least a_greatest a_dictionary a_dRow a_dFrom a_dTo a_dValue a_wRow a_wFrom a_wTo a_wValue a_open a_start a_changed a_change a_changes a_fresh a_gone a_column a_low a_high a_found a_value : Nat → Int32} {a_words : Nat → Int64}
variable {sg na cl rw N t c : Nat} {wv : Nat → Int32}
/-- the component's first loop, and what it decides -/
theorem ss_xc23 {post : Int32 → SX → Prop} (hcl : cl + 1 ≤ 3072) (S : ss_Seg sg N a_held a_row) (C : ss_Cols sg N a_sort a_bits a_base a_least a_greatest a_words a_dictionary wv) (hna : na ≤ 32)
    (W : ss_Wf cl rw (ss_ls (ss_ve a_row a_from a_to wv) N ++ ss_ls (ss_ve a_dRow a_dFrom a_dTo a_dValue) na)) (Tb : ss_Tb cl rw a_open a_start a_changes a_changed a_fresh)
    (Tl : ss_Tl a_open a_start a_changes a_changed a_fresh (ss_ls (ss_ve a_row a_from a_to wv) N ++ ss_ls (ss_ve a_dRow a_dFrom a_dTo a_dValue) na))
    (hcap : (ss_ls (ss_ve a_row a_from a_to wv) N ++ ss_ls (ss_ve a_dRow a_dFrom a_dTo a_dValue) na).countP (ss_lv (nI cl) a_open a_start (-1)) ≤ 40)
    (ht : t < 4) (ho : ¬ a_open t = 0) (hc : a_changes t = nI c) (hc8 : c ≤ 8)
    (hcf : ∀ i, i < c → a_fresh (8 * t + i) = 0 → (∃ y, y ∈ ss_ls (ss_ve a_row a_from a_to wv) N ++ ss_ls (ss_ve a_dRow a_dFrom a_dTo a_dValue) na ∧ ss_dq (a_changed (8 * t + i)) (a_start t) y) → post (-2) (nI sg, nI na, f_kept, nI cl, f_rows, f_many, a_row, a_from, a_to, a_held, a_sort, a_bits, a_base, a_least, a_greatest, a_words, a_dictionary, a_dRow, a_dFrom, a_dTo, a_dValue, a_wRow, a_wFrom, a_wTo, a_wValue, upd a_open t 0, a_start, a_changed, a_change, a_changes, a_fresh, a_gone, a_column, a_low, a_high, a_found, a_value))
    (h0 : ss_rl a_fresh a_gone (8 * t) c = 0 → post 0 (nI sg, nI na, f_kept, nI cl, f_rows, f_many, a_row, a_from, a_to, a_held, a_sort, a_bits, a_base, a_least, a_greatest, a_words, a_dictionary, a_dRow, a_dFrom, a_dTo, a_dValue, a_wRow, a_wFrom, a_wTo, a_wValue, upd a_open t 0, a_start, a_changed, a_change, a_changes, a_fresh, a_gone, a_column, a_low, a_high, a_found, a_value))
    (hF : (∀ i, i < c → a_fresh (8 * t + i) = 0 → ∃ x, x ∈ ss_ls (ss_ve a_row a_from a_to wv) N ++ ss_ls (ss_ve a_dRow a_dFrom a_dTo a_dValue) na ∧ x.1 = a_changed (8 * t + i) ∧ x.2.2.1 = 2147483647 ∧ ss_h x.2.1 x.2.2.1 (a_start t) = true) → 0 < ss_rl a_fresh a_gone (8 * t) c →
      40 < (ss_ls (ss_ve a_row a_from a_to wv) N ++ ss_ls (ss_ve a_dRow a_dFrom a_dTo a_dValue) na).countP (ss_bh cl a_open a_start t (ss_q a_changed a_fresh (8 * t) c)) + ss_gn a_gone (8 * t) c → post (-3) (nI sg, nI na, f_kept, nI cl, f_rows, f_many, a_row, a_from, a_to, a_held, a_sort, a_bits, a_base, a_least, a_greatest, a_words, a_dictionary, a_dRow, a_dFrom, a_dTo, a_dValue, a_wRow, a_wFrom, a_wTo, a_wValue, a_open, a_start, a_changed, a_change, a_changes, a_fresh, a_gone, a_column, a_low, a_high, a_found, a_value))
    (hG : (∀ i, i < c → a_fresh (8 * t + i) = 0 → ∃ x, x ∈ ss_ls (ss_ve a_row a_from a_to wv) N ++ ss_ls (ss_ve a_dRow a_dFrom a_dTo a_dValue) na ∧ x.1 = a_changed (8 * t + i) ∧ x.2.2.1 = 2147483647 ∧ ss_h x.2.1 x.2.2.1 (a_start t) = true) → 0 < ss_rl a_fresh a_gone (8 * t) c →
      (ss_ls (ss_ve a_row a_from a_to wv) N ++ ss_ls (ss_ve a_dRow a_dFrom a_dTo a_dValue) na).countP (ss_bh cl a_open a_start t (ss_q a_changed a_fresh (8 * t) c)) + ss_gn a_gone (8 * t) c ≤ 40 → na + ss_gn a_gone (8 * t) c ≤ 32 → wX_commit_192 post (nI t) (nI sg) (nI na) f_kept (nI cl) f_rows f_many a_row a_from a_to a_held a_sort a_bits a_base a_least a_greatest a_words a_dictionary a_dRow a_dFrom a_dTo a_dValue a_wRow a_wFrom a_wTo a_wValue a_open a_start a_changed a_change a_changes a_fresh a_gone a_column a_low a_high a_found a_value)
    (hH : (∀ i, i < c → a_fresh (8 * t + i) = 0 → ∃ x, x ∈ ss_ls (ss_ve a_row a_from a_to wv) N ++ ss_ls (ss_ve a_dRow a_dFrom a_dTo a_dValue) na ∧ x.1 = a_changed (8 * t + i) ∧ x.2.2.1 = 2147483647 ∧ ss_h x.2.1 x.2.2.1 (a_start t) = true) → 0 < ss_rl a_fresh a_gone (8 * t) c →
      (ss_ls (ss_ve a_row a_from a_to wv) N ++ ss_ls (ss_ve a_dRow a_dFrom a_dTo a_dValue) na).countP (ss_bh cl a_open a_start t (ss_q a_changed a_fresh (8 * t) c)) + ss_gn a_gone (8 * t) c ≤ 40 →
      ∀ sg kp (ro fr to he so bi ba le gr wr wf wt wl : Nat → Int32) (ws : Nat → Int64) (ds : Nat → Int32), kp ≤ 40 → ss_Seg sg kp he ro → ss_Cols sg kp so bi ba le gr ws ds wl →
      List.Perm (ss_ls (ss_ve ro fr to wl) kp) ((ss_ls (ss_ve a_row a_from a_to wv) N ++ ss_ls (ss_ve a_dRow a_dFrom a_dTo a_dValue) na).filter (ss_lv (nI cl) a_open a_start (-1))) →
      wX_commit_192 post (nI t) (nI sg) (nI 0) (nI kp) (nI cl) f_rows f_many ro fr to he so bi ba le gr ws ds a_dRow a_dFrom a_dTo a_dValue wr wf wt wl a_open a_start a_changed a_change a_changes a_fresh a_gone a_column a_low a_high a_found a_value) :
    wpX_commit post (nI sg, nI na, f_kept, nI cl, f_rows, f_many, a_row, a_from, a_to, a_held, a_sort, a_bits, a_base, a_least, a_greatest, a_words, a_dictionary, a_dRow, a_dFrom, a_dTo, a_dValue, a_wRow, a_wFrom, a_wTo, a_wValue, a_open, a_start, a_changed, a_change, a_changes, a_fresh, a_gone, a_column, a_low, a_high, a_found, a_value) (nI t) := by
  have hN := S.1
  generalize hV : ss_ls (ss_ve a_row a_from a_to wv) N ++ ss_ls (ss_ve a_dRow a_dFrom a_dTo a_dValue) na = V at *
  have hVL : ∀ p : ss_V → Bool, V.countP p ≤ 80 := by
    intro p
    have := List.countP_le_length (p := p) (l := V)
    rw [← hV, List.length_append, ss_lsL, ss_lsL] at this
    rw [hV] at this
    omega
  have key : ∀ f i fe, i ≤ c → c < f + i → (∀ j, j < i → a_fresh (8 * t + j) = 0 → ∃ x, x ∈ V ∧ x.1 = a_changed (8 * t + j) ∧ x.2.2.1 = 2147483647 ∧ ss_h x.2.1 x.2.2.1 (a_start t) = true) →
      fe + V.countP (ss_bh cl a_open a_start t (ss_q a_changed a_fresh (8 * t) i)) = V.countP (ss_lv (nI cl) a_open a_start (nI t)) → fe ≤ i →
      wX_commit_23 post (nI t) (nI sg) (nI na) f_kept (nI cl) f_rows f_many a_row a_from a_to a_held a_sort a_bits a_base a_least a_greatest a_words a_dictionary a_dRow a_dFrom a_dTo a_dValue a_wRow a_wFrom a_wTo a_wValue a_open a_start a_changed a_change a_changes a_fresh a_gone a_column a_low a_high a_found a_value f (nI (ss_rl a_fresh a_gone (8 * t) i)) (nI fe) (nI (ss_gn a_gone (8 * t) i)) (nI (8 * t + i)) := by
    intro f
    induction f with
    | zero => intro i fe h1 h2; omega
    | succ f ih =>
      intro i fe hi hf hNC hcnt hfe
      have l1 := ss_rlL (cow := a_fresh) (gone := a_gone) (b := 8 * t) i
      have l2 := ss_gnL (gone := a_gone) (b := 8 * t) i
      by_cases hlt : c ≤ i
      · have e : i = c := by omega
        subst e
        have lL := hVL (ss_lv (nI cl) a_open a_start (nI t))
        simp (disch := omega) only [wX_commit_23, ss_a0, ss_b0, ss_c0, ss_d0, ss_e0, ss_a1, ss_b1, ss_c1, ss_d1, ss_e1, ss_a2, ss_b2, ss_c2, ss_d2, ss_e2, ss_a3, ss_b3, ss_c3, ss_d3, ss_e3, ss_a4, ss_b4, ss_c4, ss_d4, ss_e4, ss_a5, ss_b5, ss_c5, ss_d5, ss_e5, ss_a8, ss_b8, ss_c8, ss_d8, ss_e8, ss_a32, ss_b32, ss_c32, ss_d32, ss_e32, ss_a40, ss_b40, ss_c40, ss_d40, ss_e40, ss_a48, ss_b48, ss_c48, ss_d48, ss_e48, ss_a64, ss_b64, ss_c64, ss_d64, ss_e64, ss_m2, ss_m3, ss_m4, ss_m8, ss_p2, ss_p3, ss_p4, ss_p8, ss_48p, ss_in, nI_add, nI_1, nI_clamp, nI_leI, nI_ltI, nI_eq, forall_eq, true_and, and_true, hc, ss_nb0]
        refine ⟨ht, fun _ => ⟨fun z => ⟨ht, h0 z⟩, fun z => ?_⟩, fun z => absurd (by omega) z⟩
        refine ss_xln (wv := wv) S hna ?_
        rw [hV, nI_add, pk_sub (by omega)]
        have ee : V.countP (ss_lv (nI cl) a_open a_start (nI t)) + ss_gn a_gone (8 * t) i - fe = V.countP (ss_bh cl a_open a_start t (ss_q a_changed a_fresh (8 * t) i)) + ss_gn a_gone (8 * t) i := by omega
        have lB := hVL (ss_bh cl a_open a_start t (ss_q a_changed a_fresh (8 * t) i))
        rw [ee, ss_b40 (by omega)]
        refine ⟨fun hle => ⟨fun h32 => hG hNC (by omega) hle ?_, fun h32 => ?_⟩, fun hle => hF hNC (by omega) (by omega)⟩
        · exact h32
        · refine ss_xrp (wv := wv) S C hna (by rw [hV]; exact hcap) fun sg' kp ro fr to he so bi ba le gr wr wf wt wl ws ds k1 k2 k3 k4 => ?_
          exact hH hNC (by omega) hle sg' kp ro fr to he so bi ba le gr wr wf wt wl ws ds k1 k2 k3 (hV ▸ k4)
      · have hic : i < c := by omega
        have q1 : ∀ r, ¬ a_fresh (8 * t + i) = 0 → ss_q a_changed a_fresh (8 * t) (i + 1) r = ss_q a_changed a_fresh (8 * t) i r := by
          intro r hfr
          rw [ss_q]; simp [hfr]
        -- behind the count of real changes
        have nx : ∀ fe', (∀ j, j < i + 1 → a_fresh (8 * t + j) = 0 → ∃ x, x ∈ V ∧ x.1 = a_changed (8 * t + j) ∧ x.2.2.1 = 2147483647 ∧ ss_h x.2.1 x.2.2.1 (a_start t) = true) → fe' + V.countP (ss_bh cl a_open a_start t (ss_q a_changed a_fresh (8 * t) (i + 1))) = V.countP (ss_lv (nI cl) a_open a_start (nI t)) → fe' ≤ i + 1 →
            wX_commit_23 post (nI t) (nI sg) (nI na) f_kept (nI cl) f_rows f_many a_row a_from a_to a_held a_sort a_bits a_base a_least a_greatest a_words a_dictionary a_dRow a_dFrom a_dTo a_dValue a_wRow a_wFrom a_wTo a_wValue a_open a_start a_changed a_change a_changes a_fresh a_gone a_column a_low a_high a_found a_value f (nI (ss_rl a_fresh a_gone (8 * t) (i + 1))) (nI fe') (nI (ss_gn a_gone (8 * t) (i + 1))) (nI (8 * t + i + 1)) := fun fe' a b d => ih (i + 1) fe' (by omega) (by omega) a b d
        have nxf : ¬ a_fresh (8 * t + i) = 0 → wX_commit_23 post (nI t) (nI sg) (nI na) f_kept (nI cl) f_rows f_many a_row a_from a_to a_held a_sort a_bits a_base a_least a_greatest a_words a_dictionary a_dRow a_dFrom a_dTo a_dValue a_wRow a_wFrom a_wTo a_wValue a_open a_start a_changed a_change a_changes a_fresh a_gone a_column a_low a_high a_found a_value f (nI (ss_rl a_fresh a_gone (8 * t) (i + 1))) (nI fe) (nI (ss_gn a_gone (8 * t) (i + 1))) (nI (8 * t + i + 1)) := by
          intro hfr
          refine nx fe (fun j hj h => ?_) ?_ (by omega)
          · rcases (by omega : j < i ∨ j = i) with h' | rfl
            · exact hNC j h' h
            · exact absurd h hfr
          · have : ss_q a_changed a_fresh (8 * t) (i + 1) = ss_q a_changed a_fresh (8 * t) i := funext fun r => q1 r hfr
            rw [this]; exact hcnt
        have s78 : ss_rl a_fresh a_gone (8 * t) (i + 1) = ss_rl a_fresh a_gone (8 * t) i + 1 → wX_commit_78 post (wX_commit_23 post (nI t) (nI sg) (nI na) f_kept (nI cl) f_rows f_many a_row a_from a_to a_held a_sort a_bits a_base a_least a_greatest a_words a_dictionary a_dRow a_dFrom a_dTo a_dValue a_wRow a_wFrom a_wTo a_wValue a_open a_start a_changed a_change a_changes a_fresh a_gone a_column a_low a_high a_found a_value f) (nI t) (nI (ss_rl a_fresh a_gone (8 * t) (i + 1))) (nI fe) (nI (ss_gn a_gone (8 * t) (i + 1))) (nI (8 * t + i)) (nI sg) (nI na) f_kept (nI cl) f_rows f_many a_row a_from a_to a_held a_sort a_bits a_base a_least a_greatest a_words a_dictionary a_dRow a_dFrom a_dTo a_dValue a_wRow a_wFrom a_wTo a_wValue a_open a_start a_changed a_change a_changes a_fresh a_gone a_column a_low a_high a_found a_value := by
          intro erl
          simp (disch := omega) only [wX_commit_78, ss_a0, ss_b0, ss_c0, ss_d0, ss_e0, ss_a1, ss_b1, ss_c1, ss_d1, ss_e1, ss_a2, ss_b2, ss_c2, ss_d2, ss_e2, ss_a3, ss_b3, ss_c3, ss_d3, ss_e3, ss_a4, ss_b4, ss_c4, ss_d4, ss_e4, ss_a5, ss_b5, ss_c5, ss_d5, ss_e5, ss_a8, ss_b8, ss_c8, ss_d8, ss_e8, ss_a32, ss_b32, ss_c32, ss_d32, ss_e32, ss_a40, ss_b40, ss_c40, ss_d40, ss_e40, ss_a48, ss_b48, ss_c48, ss_d48, ss_e48, ss_a64, ss_b64, ss_c64, ss_d64, ss_e64, ss_m2, ss_m3, ss_m4, ss_m8, ss_p2, ss_p3, ss_p4, ss_p8, ss_48p, ss_in, nI_add, nI_1, nI_clamp, nI_leI, nI_ltI, nI_eq, forall_eq, true_and, and_true, ss_nb0]
          refine ⟨by omega, fun hfr => ⟨by omega, ht, ?_⟩, nxf⟩
          obtain ⟨x0, hx0, ex0, hh0⟩ := (Tl t c ht ho hc hc8 i hic).1 hfr
          have cfl := ss_cfl (show cl ≤ 3072 by omega) W hx0 ex0 hh0
          refine ss_xdi (wv := wv) S hna (fun hd => ?_) (fun hnd => ?_)
          · rw [hV] at hd
            exact ⟨fun z => absurd z (by decide), fun _ => ⟨ht, hcf i hic hfr hd⟩⟩
          · rw [hV] at hnd
            have hto : x0.2.2.1 = 2147483647 := by
              refine Classical.byContradiction fun hn => ?_
              obtain ⟨y, hy, hdy⟩ := cfl.mpr hn
              exact hnd y hy hdy
            refine ⟨fun _ => ⟨by omega, ?_⟩, fun z => absurd rfl z⟩
            refine ss_xen (wv := wv) S hna ?_ fun x hx er hh => ?_
            · rw [hV]
              exact ⟨x0, hx0, ex0, (ss_now (by omega) (W.1 x0 hx0)).mpr hto⟩
            · rw [hV] at hx
              have hxto := (ss_now (by omega) (W.1 x hx)).mp hh
              have hS := ss_bhS hcl Tb W ht ho hc hc8 hic hfr hx er hxto
              have hNC' : ∀ j, j < i + 1 → a_fresh (8 * t + j) = 0 → ∃ x, x ∈ V ∧ x.1 = a_changed (8 * t + j) ∧ x.2.2.1 = 2147483647 ∧ ss_h x.2.1 x.2.2.1 (a_start t) = true := by
                intro j hj h
                rcases (by omega : j < i ∨ j = i) with h' | rfl
                · exact hNC j h' h
                · exact ⟨x0, hx0, ex0, hto, hh0⟩
              cases esn : ss_sn a_open a_start (nI t) x.2.1 4 with
              | true =>
                rw [esn] at hS
                refine ⟨fun _ => nx fe hNC' ?_ (by omega), fun z => absurd rfl z⟩
                simp at hS
                omega
              | false =>
                rw [esn] at hS
                refine ⟨fun z => absurd z (by decide), fun _ => ?_⟩
                have := nx (fe + 1) hNC' (by simp at hS; omega) (by omega)
                exact this
        have s62 : ss_rl a_fresh a_gone (8 * t) (i + 1) = ss_rl a_fresh a_gone (8 * t) i + 1 → wX_commit_62 post (wX_commit_23 post (nI t) (nI sg) (nI na) f_kept (nI cl) f_rows f_many a_row a_from a_to a_held a_sort a_bits a_base a_least a_greatest a_words a_dictionary a_dRow a_dFrom a_dTo a_dValue a_wRow a_wFrom a_wTo a_wValue a_open a_start a_changed a_change a_changes a_fresh a_gone a_column a_low a_high a_found a_value f) (nI t) (nI (ss_rl a_fresh a_gone (8 * t) i)) (nI fe) (nI (ss_gn a_gone (8 * t) i)) (nI (8 * t + i)) (nI sg) (nI na) f_kept (nI cl) f_rows f_many a_row a_from a_to a_held a_sort a_bits a_base a_least a_greatest a_words a_dictionary a_dRow a_dFrom a_dTo a_dValue a_wRow a_wFrom a_wTo a_wValue a_open a_start a_changed a_change a_changes a_fresh a_gone a_column a_low a_high a_found a_value := by
          intro erl
          have s := s78 erl
          simp (disch := omega) only [wX_commit_62, ss_a0, ss_b0, ss_c0, ss_d0, ss_e0, ss_a1, ss_b1, ss_c1, ss_d1, ss_e1, ss_a2, ss_b2, ss_c2, ss_d2, ss_e2, ss_a3, ss_b3, ss_c3, ss_d3, ss_e3, ss_a4, ss_b4, ss_c4, ss_d4, ss_e4, ss_a5, ss_b5, ss_c5, ss_d5, ss_e5, ss_a8, ss_b8, ss_c8, ss_d8, ss_e8, ss_a32, ss_b32, ss_c32, ss_d32, ss_e32, ss_a40, ss_b40, ss_c40, ss_d40, ss_e40, ss_a48, ss_b48, ss_c48, ss_d48, ss_e48, ss_a64, ss_b64, ss_c64, ss_d64, ss_e64, ss_m2, ss_m3, ss_m4, ss_m8, ss_p2, ss_p3, ss_p4, ss_p8, ss_48p, ss_in, nI_add, nI_1, nI_clamp, nI_leI, nI_ltI, nI_eq, forall_eq, true_and, and_true]
          refine ⟨by omega, fun hg => ?_, fun hg => ?_⟩
          · rw [erl, ss_gn, if_pos hg] at s; exact s
          · rw [erl, ss_gn, if_neg hg] at s; exact s
        simp (disch := omega) only [wX_commit_23, ss_a0, ss_b0, ss_c0, ss_d0, ss_e0, ss_a1, ss_b1, ss_c1, ss_d1, ss_e1, ss_a2, ss_b2, ss_c2, ss_d2, ss_e2, ss_a3, ss_b3, ss_c3, ss_d3, ss_e3, ss_a4, ss_b4, ss_c4, ss_d4, ss_e4, ss_a5, ss_b5, ss_c5, ss_d5, ss_e5, ss_a8, ss_b8, ss_c8, ss_d8, ss_e8, ss_a32, ss_b32, ss_c32, ss_d32, ss_e32, ss_a40, ss_b40, ss_c40, ss_d40, ss_e40, ss_a48, ss_b48, ss_c48, ss_d48, ss_e48, ss_a64, ss_b64, ss_c64, ss_d64, ss_e64, ss_m2, ss_m3, ss_m4, ss_m8, ss_p2, ss_p3, ss_p4, ss_p8, ss_48p, ss_in, nI_add, nI_1, nI_clamp, nI_leI, nI_ltI, nI_eq, forall_eq, true_and, and_true, hc]
        refine ⟨ht, fun z => absurd z (by omega), fun _ => ⟨by omega, fun hfr => s62 ?_, fun hfr => ⟨by omega, fun hg => s62 ?_, fun hg => ?_⟩⟩⟩
        · rw [ss_rl, if_neg (fun z => z.1 hfr)]
        · rw [ss_rl, if_neg (fun z => z.2 hg)]
        · have := nxf hfr
          rw [ss_rl, if_pos ⟨hfr, hg⟩, ss_gn, if_neg hg] at this
          exact this
  have b0 : V.countP (ss_bh cl a_open a_start t (ss_q a_changed a_fresh (8 * t) 0)) = V.countP (ss_lv (nI cl) a_open a_start (nI t)) := ss_ccg fun x hx => ss_bh0 hcl Tb ht (W.1 x hx)
  unfold wpX_commit
  refine ss_xo1 ht ho ⟨fun z => absurd z (by decide), fun _ => ?_⟩
  rw [ss_m8]
  refine nm_e ⟨c + 1, ?_⟩
  exact key (c + 1) 0 0 (by omega) (by omega) (fun j hj => by omega) (by rw [b0]; omega) (by omega)
end
end
section
section
variable {f_segments f_added f_kept f_clock f_rows f_many : Int32} {a_row a_from a_to a_held a_sort a_bits a_base a_least a_greatest a_dictionary a_dRow a_dFrom a_dTo a_dValue a_wRow a_wFrom a_wTo a_wValue a_open a_start a_changed a_change a_changes a_fresh a_gone a_column a_low a_high a_found a_value : Nat → Int32} {a_words : Nat → Int64}
variable {sg na cl rw N t c k : Nat} {wv : Nat → Int32}
theorem ss_xap66 {post : SX → Prop} (hk : k < 32) (hna : a_gone k = 0 → na < 32)
    (h1 : a_gone k = 0 → post (nI sg, nI (na + 1), f_kept, nI (cl + 1), f_rows, f_many, a_row, a_from, a_to, a_held, a_sort, a_bits, a_base, a_least, a_greatest, a_words, a_dictionary, upd a_dRow na (a_changed k), upd a_dFrom na (nI (cl + 1)), upd a_dTo na 2147483647, upd (upd (upd a_dValue (3 * na) (a_change (3 * k))) (3 * na + 1) (a_change (3 * k + 1))) (3 * na + 2) (a_change (3 * k + 2)), a_wRow, a_wFrom, a_wTo, a_wValue, a_open, a_start, a_changed, a_change, a_changes, a_fresh, a_gone, a_column, a_low, a_high, a_found, a_value))
    (h0 : ¬ a_gone k = 0 → post (nI sg, nI na, f_kept, nI (cl + 1), f_rows, f_many, a_row, a_from, a_to, a_held, a_sort, a_bits, a_base, a_least, a_greatest, a_words, a_dictionary, a_dRow, a_dFrom, a_dTo, a_dValue, a_wRow, a_wFrom, a_wTo, a_wValue, a_open, a_start, a_changed, a_change, a_changes, a_fresh, a_gone, a_column, a_low, a_high, a_found, a_value)) (hnb : na ≤ 32) : wX_apply_66 post (nI k) (nI sg) (nI na) f_kept (nI (cl + 1)) f_rows f_many a_row a_from a_to a_held a_sort a_bits a_base a_least a_greatest a_words a_dictionary a_dRow a_dFrom a_dTo a_dValue a_wRow a_wFrom a_wTo a_wValue a_open a_start a_changed a_change a_changes a_fresh a_gone a_column a_low a_high a_found a_value := by
  by_cases hg : a_gone k = 0
  · have hn := hna hg
    have st : ∀ f d (dv : Nat → Int32), d < 3 → wX_apply_117 post (nI k) (nI sg) (nI na) f_kept (nI (cl + 1)) f_rows f_many f (nI (d + 1)) a_row a_from a_to a_held a_sort a_bits a_base a_least a_greatest a_words a_dictionary (upd a_dRow na (a_changed k)) (upd a_dFrom na (nI (cl + 1))) (upd a_dTo na 2147483647) (upd dv (3 * na + d) (a_change (3 * k + d))) a_wRow a_wFrom a_wTo a_wValue a_open a_start a_changed a_change a_changes a_fresh a_gone a_column a_low a_high a_found a_value → wX_apply_117 post (nI k) (nI sg) (nI na) f_kept (nI (cl + 1)) f_rows f_many (f + 1) (nI d) a_row a_from a_to a_held a_sort a_bits a_base a_least a_greatest a_words a_dictionary (upd a_dRow na (a_changed k)) (upd a_dFrom na (nI (cl + 1))) (upd a_dTo na 2147483647) dv a_wRow a_wFrom a_wTo a_wValue a_open a_start a_changed a_change a_changes a_fresh a_gone a_column a_low a_high a_found a_value := by
      intro f d dv hd hn'
      simp (disch := omega) only [wX_apply_117, ss_a0, ss_b0, ss_c0, ss_d0, ss_e0, ss_a1, ss_b1, ss_c1, ss_d1, ss_e1, ss_a2, ss_b2, ss_c2, ss_d2, ss_e2, ss_a3, ss_b3, ss_c3, ss_d3, ss_e3, ss_a4, ss_b4, ss_c4, ss_d4, ss_e4, ss_a5, ss_b5, ss_c5, ss_d5, ss_e5, ss_a8, ss_b8, ss_c8, ss_d8, ss_e8, ss_a32, ss_b32, ss_c32, ss_d32, ss_e32, ss_a40, ss_b40, ss_c40, ss_d40, ss_e40, ss_a48, ss_b48, ss_c48, ss_d48, ss_e48, ss_a64, ss_b64, ss_c64, ss_d64, ss_e64, ss_m2, ss_m3, ss_m4, ss_m8, ss_p2, ss_p3, ss_p4, ss_p8, ss_48p, ss_in, nI_add, nI_1, nI_clamp, nI_leI, nI_ltI, nI_eq, forall_eq, true_and, and_true]
      exact ⟨fun z => absurd z (by omega), fun _ => ⟨by omega, by omega, hn'⟩⟩
    have l3 : ∀ f (dv : Nat → Int32), post (nI sg, nI (na + 1), f_kept, nI (cl + 1), f_rows, f_many, a_row, a_from, a_to, a_held, a_sort, a_bits, a_base, a_least, a_greatest, a_words, a_dictionary, upd a_dRow na (a_changed k), upd a_dFrom na (nI (cl + 1)), upd a_dTo na 2147483647, dv, a_wRow, a_wFrom, a_wTo, a_wValue, a_open, a_start, a_changed, a_change, a_changes, a_fresh, a_gone, a_column, a_low, a_high, a_found, a_value) → wX_apply_117 post (nI k) (nI sg) (nI na) f_kept (nI (cl + 1)) f_rows f_many (f + 1) (nI 3) a_row a_from a_to a_held a_sort a_bits a_base a_least a_greatest a_words a_dictionary (upd a_dRow na (a_changed k)) (upd a_dFrom na (nI (cl + 1))) (upd a_dTo na 2147483647) dv a_wRow a_wFrom a_wTo a_wValue a_open a_start a_changed a_change a_changes a_fresh a_gone a_column a_low a_high a_found a_value := by
      intro f dv hp
      simp (disch := omega) only [wX_apply_117, ss_a0, ss_b0, ss_c0, ss_d0, ss_e0, ss_a1, ss_b1, ss_c1, ss_d1, ss_e1, ss_a2, ss_b2, ss_c2, ss_d2, ss_e2, ss_a3, ss_b3, ss_c3, ss_d3, ss_e3, ss_a4, ss_b4, ss_c4, ss_d4, ss_e4, ss_a5, ss_b5, ss_c5, ss_d5, ss_e5, ss_a8, ss_b8, ss_c8, ss_d8, ss_e8, ss_a32, ss_b32, ss_c32, ss_d32, ss_e32, ss_a40, ss_b40, ss_c40, ss_d40, ss_e40, ss_a48, ss_b48, ss_c48, ss_d48, ss_e48, ss_a64, ss_b64, ss_c64, ss_d64, ss_e64, ss_m2, ss_m3, ss_m4, ss_m8, ss_p2, ss_p3, ss_p4, ss_p8, ss_48p, ss_in, nI_add, nI_1, nI_clamp, nI_leI, nI_ltI, nI_eq, forall_eq, true_and, and_true]
      exact ⟨fun _ => hp, fun z => absurd (Nat.le_refl 3) z⟩
    simp (disch := omega) only [wX_apply_66, ss_a0, ss_b0, ss_c0, ss_d0, ss_e0, ss_a1, ss_b1, ss_c1, ss_d1, ss_e1, ss_a2, ss_b2, ss_c2, ss_d2, ss_e2, ss_a3, ss_b3, ss_c3, ss_d3, ss_e3, ss_a4, ss_b4, ss_c4, ss_d4, ss_e4, ss_a5, ss_b5, ss_c5, ss_d5, ss_e5, ss_a8, ss_b8, ss_c8, ss_d8, ss_e8, ss_a32, ss_b32, ss_c32, ss_d32, ss_e32, ss_a40, ss_b40, ss_c40, ss_d40, ss_e40, ss_a48, ss_b48, ss_c48, ss_d48, ss_e48, ss_a64, ss_b64, ss_c64, ss_d64, ss_e64, ss_m2, ss_m3, ss_m4, ss_m8, ss_p2, ss_p3, ss_p4, ss_p8, ss_48p, ss_in, nI_add, nI_1, nI_clamp, nI_leI, nI_ltI, nI_eq, forall_eq, true_and, and_true]
    exact ⟨hk, fun _ => ⟨hk, hn, hn, hn, 4, st 3 0 _ (by omega) (st 2 1 _ (by omega) (st 1 2 _ (by omega) (l3 0 _ (h1 hg))))⟩, fun z => absurd hg z⟩
  · simp (disch := omega) only [wX_apply_66, ss_a0, ss_b0, ss_c0, ss_d0, ss_e0, ss_a1, ss_b1, ss_c1, ss_d1, ss_e1, ss_a2, ss_b2, ss_c2, ss_d2, ss_e2, ss_a3, ss_b3, ss_c3, ss_d3, ss_e3, ss_a4, ss_b4, ss_c4, ss_d4, ss_e4, ss_a5, ss_b5, ss_c5, ss_d5, ss_e5, ss_a8, ss_b8, ss_c8, ss_d8, ss_e8, ss_a32, ss_b32, ss_c32, ss_d32, ss_e32, ss_a40, ss_b40, ss_c40, ss_d40, ss_e40, ss_a48, ss_b48, ss_c48, ss_d48, ss_e48, ss_a64, ss_b64, ss_c64, ss_d64, ss_e64, ss_m2, ss_m3, ss_m4, ss_m8, ss_p2, ss_p3, ss_p4, ss_p8, ss_48p, ss_in, nI_add, nI_1, nI_clamp, nI_leI, nI_ltI, nI_eq, forall_eq, true_and, and_true]
    exact ⟨hk, fun z => absurd z hg, fun _ => h0 hg⟩
theorem ss_xapp {post : SX → Prop} (hk : k < 32) (S : ss_Seg sg N a_held a_row) (hna : na ≤ 32)
    (hf : ¬ a_fresh k = 0 → wX_apply_66 post (nI k) (nI sg) (nI na) f_kept (nI (cl + 1)) f_rows f_many a_row a_from a_to a_held a_sort a_bits a_base a_least a_greatest a_words a_dictionary a_dRow a_dFrom a_dTo a_dValue a_wRow a_wFrom a_wTo a_wValue a_open a_start a_changed a_change a_changes a_fresh a_gone a_column a_low a_high a_found a_value)
    (hex : a_fresh k = 0 → ∃ x, x ∈ ss_ls (ss_ve a_row a_from a_to wv) N ++ ss_ls (ss_ve a_dRow a_dFrom a_dTo a_dValue) na ∧ x.1 = a_changed k ∧ ss_h x.2.1 x.2.2.1 (nI cl) = true)
    (hs : a_fresh k = 0 → ∀ i, i < N → a_row i = a_changed k → ss_h (a_from i) (a_to i) (nI cl) = true → wX_apply_66 post (nI k) (nI sg) (nI na) f_kept (nI (cl + 1)) f_rows f_many a_row a_from (upd a_to i (nI (cl + 1))) a_held a_sort a_bits a_base a_least a_greatest a_words a_dictionary a_dRow a_dFrom a_dTo a_dValue a_wRow a_wFrom a_wTo a_wValue a_open a_start a_changed a_change a_changes a_fresh a_gone a_column a_low a_high a_found a_value)
    (hd : a_fresh k = 0 → ∀ i, i < na → a_dRow i = a_changed k → ss_h (a_dFrom i) (a_dTo i) (nI cl) = true → wX_apply_66 post (nI k) (nI sg) (nI na) f_kept (nI (cl + 1)) f_rows f_many a_row a_from a_to a_held a_sort a_bits a_base a_least a_greatest a_words a_dictionary a_dRow a_dFrom (upd a_dTo i (nI (cl + 1))) a_dValue a_wRow a_wFrom a_wTo a_wValue a_open a_start a_changed a_change a_changes a_fresh a_gone a_column a_low a_high a_found a_value) : wpX_apply post (nI sg, nI na, f_kept, nI (cl + 1), f_rows, f_many, a_row, a_from, a_to, a_held, a_sort, a_bits, a_base, a_least, a_greatest, a_words, a_dictionary, a_dRow, a_dFrom, a_dTo, a_dValue, a_wRow, a_wFrom, a_wTo, a_wValue, a_open, a_start, a_changed, a_change, a_changes, a_fresh, a_gone, a_column, a_low, a_high, a_found, a_value) (nI k) := by
  have hN := S.1
  have n48 : (-1 : Int32) < 48 := by decide
  have n0 : (-1 : Int32) < 0 := by decide
  have es : nI (cl + 1) - 1 = nI cl := nI_pred cl
  simp (disch := omega) only [wpX_apply, ss_a0, ss_b0, ss_c0, ss_d0, ss_e0, ss_a1, ss_b1, ss_c1, ss_d1, ss_e1, ss_a2, ss_b2, ss_c2, ss_d2, ss_e2, ss_a3, ss_b3, ss_c3, ss_d3, ss_e3, ss_a4, ss_b4, ss_c4, ss_d4, ss_e4, ss_a5, ss_b5, ss_c5, ss_d5, ss_e5, ss_a8, ss_b8, ss_c8, ss_d8, ss_e8, ss_a32, ss_b32, ss_c32, ss_d32, ss_e32, ss_a40, ss_b40, ss_c40, ss_d40, ss_e40, ss_a48, ss_b48, ss_c48, ss_d48, ss_e48, ss_a64, ss_b64, ss_c64, ss_d64, ss_e64, ss_m2, ss_m3, ss_m4, ss_m8, ss_p2, ss_p3, ss_p4, ss_p8, ss_48p, ss_in, nI_add, nI_1, nI_clamp, nI_leI, nI_ltI, nI_eq, forall_eq, true_and, and_true, es]
  refine ⟨hk, fun hfr => ⟨hk, ss_xva (wv := wv) S hna fun v hv => ?_⟩, fun hfr => ⟨fun _ => ⟨fun _ => hf hfr, fun z => absurd n0 z⟩, fun z => absurd n48 z⟩⟩
  rcases hv with ⟨rfl, hno⟩ | ⟨x, hx, hvx, er, hh⟩
  · obtain ⟨x, h1, h2, h3⟩ := hex hfr
    exact (hno x h1 h2 h3).elim
  · rcases hvx with ⟨i, hi, rfl, rfl⟩ | ⟨i, hi, rfl, rfl⟩
    · simp (disch := omega) only [wX_apply_29, ss_a0, ss_b0, ss_c0, ss_d0, ss_e0, ss_a1, ss_b1, ss_c1, ss_d1, ss_e1, ss_a2, ss_b2, ss_c2, ss_d2, ss_e2, ss_a3, ss_b3, ss_c3, ss_d3, ss_e3, ss_a4, ss_b4, ss_c4, ss_d4, ss_e4, ss_a5, ss_b5, ss_c5, ss_d5, ss_e5, ss_a8, ss_b8, ss_c8, ss_d8, ss_e8, ss_a32, ss_b32, ss_c32, ss_d32, ss_e32, ss_a40, ss_b40, ss_c40, ss_d40, ss_e40, ss_a48, ss_b48, ss_c48, ss_d48, ss_e48, ss_a64, ss_b64, ss_c64, ss_d64, ss_e64, ss_m2, ss_m3, ss_m4, ss_m8, ss_p2, ss_p3, ss_p4, ss_p8, ss_48p, ss_in, nI_add, nI_1, nI_clamp, nI_leI, nI_ltI, nI_eq, forall_eq, true_and, and_true]
      exact ⟨fun _ => ⟨fun z => absurd z (by omega), fun _ => ⟨by omega, hs hfr i hi er hh⟩⟩, fun z => absurd (by omega) z⟩
    · simp (disch := omega) only [wX_apply_29, ss_a0, ss_b0, ss_c0, ss_d0, ss_e0, ss_a1, ss_b1, ss_c1, ss_d1, ss_e1, ss_a2, ss_b2, ss_c2, ss_d2, ss_e2, ss_a3, ss_b3, ss_c3, ss_d3, ss_e3, ss_a4, ss_b4, ss_c4, ss_d4, ss_e4, ss_a5, ss_b5, ss_c5, ss_d5, ss_e5, ss_a8, ss_b8, ss_c8, ss_d8, ss_e8, ss_a32, ss_b32, ss_c32, ss_d32, ss_e32, ss_a40, ss_b40, ss_c40, ss_d40, ss_e40, ss_a48, ss_b48, ss_c48, ss_d48, ss_e48, ss_a64, ss_b64, ss_c64, ss_d64, ss_e64, ss_m2, ss_m3, ss_m4, ss_m8, ss_p2, ss_p3, ss_p4, ss_p8, ss_48p, ss_in, nI_add, nI_1, nI_clamp, nI_leI, nI_ltI, nI_eq, forall_eq, true_and, and_true, ss_s48, Nat.add_sub_cancel_left]
      exact ⟨fun z => absurd z (by omega), fun _ => ⟨by omega, hd hfr i hi er hh⟩⟩
/-- the lists behind some of the changes -/
def ss_Ap (q : Int32 → Bool) (nc : Int32) (N na0 na : Nat) (s0 d0 s d : Nat → ss_V) (nw : List ss_V) : Prop := (∀ j, j < N → s j = ss_clo q nc (s0 j)) ∧ (∀ j, j < na0 → d j = ss_clo q nc (d0 j)) ∧ na0 ≤ na ∧ ss_ls (fun j => d (na0 + j)) (na - na0) = nw
theorem ss_ApL {q : Int32 → Bool} {nc : Int32} {N na0 na : Nat} {s0 d0 s d : Nat → ss_V} {nw : List ss_V} (h : ss_Ap q nc N na0 na s0 d0 s d nw) : ss_ls s N ++ ss_ls d na = (ss_ls s0 N ++ ss_ls d0 na0).map (ss_clo q nc) ++ nw := by
  obtain ⟨h1, h2, h3, h4⟩ := h
  obtain ⟨m, rfl⟩ : ∃ m, na = na0 + m := ⟨na - na0, by omega⟩
  rw [Nat.add_sub_cancel_left] at h4
  rw [ss_lsA, h4, List.map_append, ss_lsF, ss_lsF, ss_lsC h1, ss_lsC h2, List.append_assoc]
theorem ss_ApN {q : Int32 → Bool} {nc : Int32} {N na0 na : Nat} {s0 d0 s d : Nat → ss_V} {nw : List ss_V} (h : ss_Ap q nc N na0 na s0 d0 s d nw) : na = na0 + nw.length := by
  obtain ⟨-, -, h3, h4⟩ := h
  rw [← h4, ss_lsL]; omega
/-- places of a list of versions, two by two -/
theorem ss_pl {s0 d0 : Nat → ss_V} {na0 : Nat} (h : (ss_ls s0 N ++ ss_ls d0 na0).Pairwise ss_dj) : (∀ i j, i < N → j < N → ¬ i = j → ss_dj (s0 i) (s0 j)) ∧ (∀ i j, i < N → j < na0 → ss_dj (s0 i) (d0 j)) ∧ (∀ i j, i < na0 → j < na0 → ¬ i = j → ss_dj (d0 i) (d0 j)) := by
  rw [List.pairwise_append] at h
  have one : ∀ (g : Nat → ss_V) n, (ss_ls g n).Pairwise ss_dj → ∀ i j, i < n → j < n → ¬ i = j → ss_dj (g i) (g j) := by
    intro g n hp i j hi hj hne
    rcases (by omega : i < j ∨ j < i) with h' | h'
    · have := List.pairwise_iff_getElem.mp hp i j (by rw [ss_lsL]; exact hi) (by rw [ss_lsL]; exact hj) h'
      rw [ss_lsG, ss_lsG] at this; exact this
    · have := List.pairwise_iff_getElem.mp hp j i (by rw [ss_lsL]; exact hj) (by rw [ss_lsL]; exact hi) h'
      rw [ss_lsG, ss_lsG] at this; exact ss_djs this
  exact ⟨one s0 N h.1, fun i j hi hj => h.2.2 _ (ss_lsI hi) _ (ss_lsI hj), one d0 na0 h.2.1⟩
theorem ss_djn (hcl : cl ≤ 3072) {x y : ss_V} (Wx : ss_W1 cl rw x) (Wy : ss_W1 cl rw y) (h : ss_dj x y) (e : x.1 = y.1) (h1 : x.2.2.1 = 2147483647) (h2 : y.2.2.1 = 2147483647) : False := by
  obtain ⟨-, ⟨f, hf, ef⟩, -⟩ := Wx
  obtain ⟨-, ⟨g, hg, eg⟩, -⟩ := Wy
  rcases h e with h | h
  · rw [h1, eg] at h; exact ss_nvle (by omega) h
  · rw [h2, ef] at h; exact ss_nvle (by omega) h
/-- one row more makes no difference to the others -/
theorem ss_cloE {cr cow : Nat → Int32} {b i : Nat} {nc : Int32} {x : ss_V} (h : x.2.2.1 = 2147483647 → x.1 = cr (b + i) → False) : ss_clo (ss_q cr cow b (i + 1)) nc x = ss_clo (ss_q cr cow b i) nc x := by
  by_cases hn : x.2.2.1 = 2147483647
  · have e : ss_q cr cow b (i + 1) x.1 = ss_q cr cow b i x.1 := by
      rw [ss_q]
      have : ¬ cr (b + i) = x.1 := fun z => h hn z.symm
      simp [this]
    unfold ss_clo
    rw [e]
  · rw [ss_cloN (fun z => hn z.1), ss_cloN (fun z => hn z.1)]
theorem ss_cloF {cr cow : Nat → Int32} {b i : Nat} {nc : Int32} (h : ¬ cow (b + i) = 0) : ss_clo (ss_q cr cow b (i + 1)) nc = ss_clo (ss_q cr cow b i) nc := by
  have e : ss_q cr cow b (i + 1) = ss_q cr cow b i := by
    funext r
    rw [ss_q]; simp [h]
  rw [e]
/-- an entry's new version appended -/
theorem ss_Ap66 {q : Int32 → Bool} {N na0 na i : Nat} {s0 d0 s : Nat → ss_V} {cr ch gone dr df dt dv : Nat → Int32} {b : Nat} {nc : Int32} (hg : gone (b + i) = 0) (h : ss_Ap q nc N na0 na s0 d0 s (ss_ve dr df dt dv) (ss_nw cr ch gone b nc i)) :
    ss_Ap q nc N na0 (na + 1) s0 d0 s (ss_ve (upd dr na (cr (b + i))) (upd df na nc) (upd dt na 2147483647) (upd (upd (upd dv (3 * na) (ch (3 * (b + i)))) (3 * na + 1) (ch (3 * (b + i) + 1))) (3 * na + 2) (ch (3 * (b + i) + 2)))) (ss_nw cr ch gone b nc (i + 1)) := by
  obtain ⟨h1, h2, h3, h4⟩ := h
  have old : ∀ j, j ≠ na → ss_ve (upd dr na (cr (b + i))) (upd df na nc) (upd dt na 2147483647) (upd (upd (upd dv (3 * na) (ch (3 * (b + i)))) (3 * na + 1) (ch (3 * (b + i) + 1))) (3 * na + 2) (ch (3 * (b + i) + 2))) j = ss_ve dr df dt dv j := by
    intro j hj
    unfold ss_ve
    rw [pk_un hj, pk_un hj, pk_un hj]
    exact congrArg (fun z => (dr j, df j, dt j, z)) (ss_trU hj)
  have new : ss_ve (upd dr na (cr (b + i))) (upd df na nc) (upd dt na 2147483647) (upd (upd (upd dv (3 * na) (ch (3 * (b + i)))) (3 * na + 1) (ch (3 * (b + i) + 1))) (3 * na + 2) (ch (3 * (b + i) + 2))) na = (cr (b + i), nc, 2147483647, ss_tr ch (b + i)) := by
    unfold ss_ve
    rw [pk_us, pk_us, pk_us]
    exact congrArg (fun z => (cr (b + i), nc, (2147483647 : Int32), z)) ss_trS
  refine ⟨h1, fun j hj => ?_, by omega, ?_⟩
  · rw [old j (by omega)]; exact h2 j hj
  · rw [show na + 1 - na0 = na - na0 + 1 by omega, ss_lsS, ss_nwS, if_pos hg, show na0 + (na - na0) = na by omega, new, ← h4]
    congr 1
    exact ss_lsC fun j hj => old (na0 + j) (by omega)
/-- the component's second loop -/
theorem ss_xc215 {post : Int32 → SX → Prop} (hcl : cl + 1 ≤ 3072) (S : ss_Seg sg N a_held a_row)
    (W : ss_Wf cl rw (ss_ls (ss_ve a_row a_from a_to wv) N ++ ss_ls (ss_ve a_dRow a_dFrom a_dTo a_dValue) na)) (Tb : ss_Tb cl rw a_open a_start a_changes a_changed a_fresh)
    (ht : t < 4) (ho : ¬ a_open t = 0) (hc : a_changes t = nI c) (hc8 : c ≤ 8) (h32 : na + ss_gn a_gone (8 * t) c ≤ 32)
    (hNC : ∀ i, i < c → a_fresh (8 * t + i) = 0 → ∃ x, x ∈ ss_ls (ss_ve a_row a_from a_to wv) N ++ ss_ls (ss_ve a_dRow a_dFrom a_dTo a_dValue) na ∧ x.1 = a_changed (8 * t + i) ∧ x.2.2.1 = 2147483647)
    (h : ∀ na' (to dr df dt dv : Nat → Int32), na' ≤ 32 → ss_Ap (ss_q a_changed a_fresh (8 * t) c) (nI (cl + 1)) N na na' (ss_ve a_row a_from a_to wv) (ss_ve a_dRow a_dFrom a_dTo a_dValue) (ss_ve a_row a_from to wv) (ss_ve dr df dt dv) (ss_nw a_changed a_change a_gone (8 * t) (nI (cl + 1)) c) → post 0 (nI sg, nI na', f_kept, nI (cl + 1), f_rows, f_many, a_row, a_from, to, a_held, a_sort, a_bits, a_base, a_least, a_greatest, a_words, a_dictionary, dr, df, dt, dv, a_wRow, a_wFrom, a_wTo, a_wValue, upd a_open t 0, a_start, a_changed, a_change, a_changes, a_fresh, a_gone, a_column, a_low, a_high, a_found, a_value)) :
    ∀ f i na' (to dr df dt dv : Nat → Int32), i ≤ c → c < f + i → ss_Ap (ss_q a_changed a_fresh (8 * t) i) (nI (cl + 1)) N na na' (ss_ve a_row a_from a_to wv) (ss_ve a_dRow a_dFrom a_dTo a_dValue) (ss_ve a_row a_from to wv) (ss_ve dr df dt dv) (ss_nw a_changed a_change a_gone (8 * t) (nI (cl + 1)) i) →
      wX_commit_215 post (nI t) f (nI (8 * t + i)) (nI sg) (nI na') f_kept (nI (cl + 1)) f_rows f_many a_row a_from to a_held a_sort a_bits a_base a_least a_greatest a_words a_dictionary dr df dt dv a_wRow a_wFrom a_wTo a_wValue (upd a_open t 0) a_start a_changed a_change a_changes a_fresh a_gone a_column a_low a_high a_found a_value := by
  obtain ⟨-, c2, qa, qb, qc, qd, -⟩ := Tb t ht ho
  have := (nI_eq (by omega) (by omega)).mp (hc.symm.trans qb)
  subst this
  obtain ⟨u1, u2, u3⟩ := ss_pl W.2
  have hN := S.1
  intro f
  induction f with
  | zero => intro i na' to dr df dt dv h1 h2; omega
  | succ f ih =>
    intro i na' to dr df dt dv hi hf hA
    have hna' : na' = na + ss_gn a_gone (8 * t) i := by rw [ss_ApN hA, ss_nwN]
    have hm := ss_gnM (gone := a_gone) (b := 8 * t) (i := i) (j := c) hi
    by_cases hlt : c ≤ i
    · have e : i = c := by omega
      subst e
      simp (disch := omega) only [wX_commit_215, ss_a0, ss_b0, ss_c0, ss_d0, ss_e0, ss_a1, ss_b1, ss_c1, ss_d1, ss_e1, ss_a2, ss_b2, ss_c2, ss_d2, ss_e2, ss_a3, ss_b3, ss_c3, ss_d3, ss_e3, ss_a4, ss_b4, ss_c4, ss_d4, ss_e4, ss_a5, ss_b5, ss_c5, ss_d5, ss_e5, ss_a8, ss_b8, ss_c8, ss_d8, ss_e8, ss_a32, ss_b32, ss_c32, ss_d32, ss_e32, ss_a40, ss_b40, ss_c40, ss_d40, ss_e40, ss_a48, ss_b48, ss_c48, ss_d48, ss_e48, ss_a64, ss_b64, ss_c64, ss_d64, ss_e64, ss_m2, ss_m3, ss_m4, ss_m8, ss_p2, ss_p3, ss_p4, ss_p8, ss_48p, ss_in, nI_add, nI_1, nI_clamp, nI_leI, nI_ltI, nI_eq, forall_eq, true_and, and_true, hc]
      exact ⟨ht, fun _ => h na' to dr df dt dv (by omega) hA, fun z => absurd (by omega) z⟩
    · have hic : i < c := by omega
      have hm1 := ss_gnM (gone := a_gone) (b := 8 * t) (i := i + 1) (j := c) (by omega)
      rw [ss_gn] at hm1
      -- behind the closing
      have s66 : ∀ to' dt' : Nat → Int32, ss_Ap (ss_q a_changed a_fresh (8 * t) (i + 1)) (nI (cl + 1)) N na na' (ss_ve a_row a_from a_to wv) (ss_ve a_dRow a_dFrom a_dTo a_dValue) (ss_ve a_row a_from to' wv) (ss_ve dr df dt' dv) (ss_nw a_changed a_change a_gone (8 * t) (nI (cl + 1)) i) →
          ∀ P : SX → Prop, (∀ na2 (to2 dr2 df2 dt2 dv2 : Nat → Int32), wX_commit_215 post (nI t) f (nI (8 * t + i + 1)) (nI sg) (nI na2) f_kept (nI (cl + 1)) f_rows f_many a_row a_from to2 a_held a_sort a_bits a_base a_least a_greatest a_words a_dictionary dr2 df2 dt2 dv2 a_wRow a_wFrom a_wTo a_wValue (upd a_open t 0) a_start a_changed a_change a_changes a_fresh a_gone a_column a_low a_high a_found a_value → P (nI sg, nI na2, f_kept, nI (cl + 1), f_rows, f_many, a_row, a_from, to2, a_held, a_sort, a_bits, a_base, a_least, a_greatest, a_words, a_dictionary, dr2, df2, dt2, dv2, a_wRow, a_wFrom, a_wTo, a_wValue, upd a_open t 0, a_start, a_changed, a_change, a_changes, a_fresh, a_gone, a_column, a_low, a_high, a_found, a_value)) → wX_apply_66 P (nI (8 * t + i)) (nI sg) (nI na') f_kept (nI (cl + 1)) f_rows f_many a_row a_from to' a_held a_sort a_bits a_base a_least a_greatest a_words a_dictionary dr df dt' dv a_wRow a_wFrom a_wTo a_wValue (upd a_open t 0) a_start a_changed a_change a_changes a_fresh a_gone a_column a_low a_high a_found a_value := by
        intro to' dt' hA' P hP
        refine ss_xap66 (by omega) (fun hg => ?_) (fun hg => ?_) (fun hg => ?_) (by omega)
        · rw [if_pos hg] at hm1; omega
        · exact hP _ _ _ _ _ _ (ih (i + 1) (na' + 1) _ _ _ _ _ (by omega) (by omega) (ss_Ap66 hg hA'))
        · refine hP _ _ _ _ _ _ (ih (i + 1) na' to' dr df dt' dv (by omega) (by omega) ?_)
          rw [ss_nwS, if_neg hg, List.append_nil]; exact hA'
      have hAf : ¬ a_fresh (8 * t + i) = 0 → ss_Ap (ss_q a_changed a_fresh (8 * t) (i + 1)) (nI (cl + 1)) N na na' (ss_ve a_row a_from a_to wv) (ss_ve a_dRow a_dFrom a_dTo a_dValue) (ss_ve a_row a_from to wv) (ss_ve dr df dt dv) (ss_nw a_changed a_change a_gone (8 * t) (nI (cl + 1)) i) := by
        intro hfr
        obtain ⟨a1, a2, a3, a4⟩ := hA
        refine ⟨fun j hj => ?_, fun j hj => ?_, a3, a4⟩
        · rw [ss_cloF hfr]; exact a1 j hj
        · rw [ss_cloF hfr]; exact a2 j hj
      -- rows not closed yet
      have qf : ss_q a_changed a_fresh (8 * t) i (a_changed (8 * t + i)) = false := by
        rw [← Bool.not_eq_true, ss_qT]
        rintro ⟨j, hj, a, b⟩
        have := qd j i (by omega) hic b
        omega
      have qt : a_fresh (8 * t + i) = 0 → ss_q a_changed a_fresh (8 * t) (i + 1) (a_changed (8 * t + i)) = true := fun hfr => ss_qT.mpr ⟨i, by omega, hfr, rfl⟩
      have id0 : ∀ x : ss_V, x.1 = a_changed (8 * t + i) → ss_clo (ss_q a_changed a_fresh (8 * t) i) (nI (cl + 1)) x = x := by
        intro x hx
        refine ss_cloN fun z => ?_
        rw [hx, qf] at z
        exact absurd z.2 (by decide)
      have app : ∀ P : SX → Prop, (∀ na2 (to2 dr2 df2 dt2 dv2 : Nat → Int32), wX_commit_215 post (nI t) f (nI (8 * t + i + 1)) (nI sg) (nI na2) f_kept (nI (cl + 1)) f_rows f_many a_row a_from to2 a_held a_sort a_bits a_base a_least a_greatest a_words a_dictionary dr2 df2 dt2 dv2 a_wRow a_wFrom a_wTo a_wValue (upd a_open t 0) a_start a_changed a_change a_changes a_fresh a_gone a_column a_low a_high a_found a_value → P (nI sg, nI na2, f_kept, nI (cl + 1), f_rows, f_many, a_row, a_from, to2, a_held, a_sort, a_bits, a_base, a_least, a_greatest, a_words, a_dictionary, dr2, df2, dt2, dv2, a_wRow, a_wFrom, a_wTo, a_wValue, upd a_open t 0, a_start, a_changed, a_change, a_changes, a_fresh, a_gone, a_column, a_low, a_high, a_found, a_value)) → wpX_apply P (nI sg, nI na', f_kept, nI (cl + 1), f_rows, f_many, a_row, a_from, to, a_held, a_sort, a_bits, a_base, a_least, a_greatest, a_words, a_dictionary, dr, df, dt, dv, a_wRow, a_wFrom, a_wTo, a_wValue, upd a_open t 0, a_start, a_changed, a_change, a_changes, a_fresh, a_gone, a_column, a_low, a_high, a_found, a_value) (nI (8 * t + i)) := by
        intro P hP
        refine ss_xapp (wv := wv) (N := N) (by omega) S (by omega) (fun hfr => s66 to dt (hAf hfr) P hP) (fun hfr => ?_) (fun hfr j hj er hh => s66 _ dt ?_ P hP) (fun hfr j hj er hh => s66 to _ ?_ P hP)
        · -- it is there
          obtain ⟨x, hx, e1, e2⟩ := hNC i hic hfr
          rw [ss_ApL hA]
          refine ⟨_, List.mem_append_left _ (List.mem_map_of_mem hx), ?_, ?_⟩
          · rw [ss_clo1.1]; exact e1
          · rw [ss_clh hcl (Nat.le_refl cl), ss_now (by omega) (W.1 x hx)]; exact e2
        · -- in a segment
          obtain ⟨a1, a2, a3, a4⟩ := hA
          have Wj := W.1 _ (List.mem_append_left _ (ss_lsI (g := ss_ve a_row a_from a_to wv) hj))
          have ej := (a1 j hj).trans (id0 (ss_ve a_row a_from a_to wv j) er)
          have etj : to j = a_to j := congrArg (fun z => z.2.2.1) ej
          have nvj : a_to j = 2147483647 := by
            rw [etj] at hh
            exact (ss_now (by omega) Wj).mp hh
          refine ⟨fun j' hj' => ?_, fun j' hj' => ?_, a3, a4⟩
          · by_cases e : j' = j
            · subst e
              rw [ss_cloY ⟨nvj, by rw [show (ss_ve a_row a_from a_to wv j').1 = a_changed (8 * t + i) from er]; exact qt hfr⟩]
              unfold ss_ve
              rw [pk_us]
            · have : ss_ve a_row a_from (upd to j (nI (cl + 1))) wv j' = ss_ve a_row a_from to wv j' := by
                unfold ss_ve
                rw [pk_un e]
              rw [this, a1 j' hj', ss_cloE]
              intro h1 h2
              exact ss_djn (by omega) (W.1 _ (List.mem_append_left _ (ss_lsI (g := ss_ve a_row a_from a_to wv) hj'))) Wj (u1 j' j hj' hj e) (h2.trans er.symm) h1 nvj
          · rw [a2 j' hj', ss_cloE]
            intro h1 h2
            exact ss_djn (by omega) Wj (W.1 _ (List.mem_append_right _ (ss_lsI (g := ss_ve a_dRow a_dFrom a_dTo a_dValue) hj'))) (u2 j j' hj hj') (er.trans h2.symm) nvj h1
        · -- in the delta
          obtain ⟨a1, a2, a3, a4⟩ := hA
          have hjn : j < na := by
            refine Classical.byContradiction fun hn => ?_
            have hm2 : ss_ve dr df dt dv j ∈ ss_nw a_changed a_change a_gone (8 * t) (nI (cl + 1)) i := by
              rw [← a4]
              refine ss_lsM.mpr ⟨j - na, by omega, ?_⟩
              rw [show na + (j - na) = j by omega]
            obtain ⟨i', hi', -, e'⟩ := ss_flM.mp hm2
            have ef : nI (cl + 1) = df j := congrArg (fun z => z.2.1) e'
            rw [ss_hT, ← ef, nI_leI (by omega) (by omega)] at hh
            omega
          have Wj := W.1 _ (List.mem_append_right _ (ss_lsI (g := ss_ve a_dRow a_dFrom a_dTo a_dValue) hjn))
          have er0 : a_dRow j = a_changed (8 * t + i) := by
            have := congrArg Prod.fst (a2 j hjn)
            rw [ss_clo1.1] at this
            exact this.symm.trans er
          have ej := (a2 j hjn).trans (id0 (ss_ve a_dRow a_dFrom a_dTo a_dValue j) er0)
          have etj : dt j = a_dTo j := congrArg (fun z => z.2.2.1) ej
          have efj : df j = a_dFrom j := congrArg (fun z => z.2.1) ej
          have nvj : a_dTo j = 2147483647 := by
            rw [etj, efj] at hh
            exact (ss_now (by omega) Wj).mp hh
          refine ⟨fun j' hj' => ?_, fun j' hj' => ?_, a3, ?_⟩
          · rw [a1 j' hj', ss_cloE]
            intro h1 h2
            exact ss_djn (by omega) (W.1 _ (List.mem_append_left _ (ss_lsI (g := ss_ve a_row a_from a_to wv) hj'))) Wj (u2 j' j hj' hjn) (h2.trans er0.symm) h1 nvj
          · by_cases e : j' = j
            · subst e
              rw [ss_cloY ⟨nvj, by rw [show (ss_ve a_dRow a_dFrom a_dTo a_dValue j').1 = a_changed (8 * t + i) from er0]; exact qt hfr⟩]
              have q1 : dr j' = a_dRow j' := congrArg (fun z => z.1) ej
              have q2 : ss_tr dv j' = ss_tr a_dValue j' := congrArg (fun z => z.2.2.2) ej
              unfold ss_ve
              rw [pk_us, q1, efj, q2]
            · have : ss_ve dr df (upd dt j (nI (cl + 1))) dv j' = ss_ve dr df dt dv j' := by
                unfold ss_ve
                rw [pk_un e]
              rw [this, a2 j' hj', ss_cloE]
              intro h1 h2
              exact ss_djn (by omega) (W.1 _ (List.mem_append_right _ (ss_lsI (g := ss_ve a_dRow a_dFrom a_dTo a_dValue) hj'))) Wj (u3 j' j hj' hjn e) (h2.trans er0.symm) h1 nvj
          · rw [← a4]
            refine ss_lsC fun j' hj' => ?_
            unfold ss_ve
            rw [pk_un (by omega)]
      have s251 : wX_commit_251 post (wX_commit_215 post (nI t) f) (nI t) (nI (8 * t + i)) (nI sg) (nI na') f_kept (nI (cl + 1)) f_rows f_many a_row a_from to a_held a_sort a_bits a_base a_least a_greatest a_words a_dictionary dr df dt dv a_wRow a_wFrom a_wTo a_wValue (upd a_open t 0) a_start a_changed a_change a_changes a_fresh a_gone a_column a_low a_high a_found a_value := by
        unfold wX_commit_251
        refine app _ fun na2 to2 dr2 df2 dt2 dv2 hw => nm_r (nI_1 _) hw
      simp (disch := omega) only [wX_commit_215, ss_a0, ss_b0, ss_c0, ss_d0, ss_e0, ss_a1, ss_b1, ss_c1, ss_d1, ss_e1, ss_a2, ss_b2, ss_c2, ss_d2, ss_e2, ss_a3, ss_b3, ss_c3, ss_d3, ss_e3, ss_a4, ss_b4, ss_c4, ss_d4, ss_e4, ss_a5, ss_b5, ss_c5, ss_d5, ss_e5, ss_a8, ss_b8, ss_c8, ss_d8, ss_e8, ss_a32, ss_b32, ss_c32, ss_d32, ss_e32, ss_a40, ss_b40, ss_c40, ss_d40, ss_e40, ss_a48, ss_b48, ss_c48, ss_d48, ss_e48, ss_a64, ss_b64, ss_c64, ss_d64, ss_e64, ss_m2, ss_m3, ss_m4, ss_m8, ss_p2, ss_p3, ss_p4, ss_p8, ss_48p, ss_in, nI_add, nI_1, nI_clamp, nI_leI, nI_ltI, nI_eq, forall_eq, true_and, and_true, hc]
      refine ⟨ht, fun z => absurd z (by omega), fun _ => ⟨by omega, fun _ => s251, fun hfr => ⟨by omega, fun _ => s251, fun hg => ?_⟩⟩⟩
      refine ih (i + 1) na' to dr df dt dv (by omega) (by omega) ?_
      rw [ss_nwS, if_neg hg, List.append_nil]
      exact hAf hfr
theorem ss_xc192 {post : Int32 → SX → Prop} (hcl : cl + 1 ≤ 3072) (S : ss_Seg sg N a_held a_row)
    (W : ss_Wf cl rw (ss_ls (ss_ve a_row a_from a_to wv) N ++ ss_ls (ss_ve a_dRow a_dFrom a_dTo a_dValue) na)) (Tb : ss_Tb cl rw a_open a_start a_changes a_changed a_fresh)
    (ht : t < 4) (ho : ¬ a_open t = 0) (hc : a_changes t = nI c) (hc8 : c ≤ 8) (h32 : na + ss_gn a_gone (8 * t) c ≤ 32)
    (hNC : ∀ i, i < c → a_fresh (8 * t + i) = 0 → ∃ x, x ∈ ss_ls (ss_ve a_row a_from a_to wv) N ++ ss_ls (ss_ve a_dRow a_dFrom a_dTo a_dValue) na ∧ x.1 = a_changed (8 * t + i) ∧ x.2.2.1 = 2147483647)
    (h : ∀ na' (to dr df dt dv : Nat → Int32), na' ≤ 32 → ss_ls (ss_ve a_row a_from to wv) N ++ ss_ls (ss_ve dr df dt dv) na' = (ss_ls (ss_ve a_row a_from a_to wv) N ++ ss_ls (ss_ve a_dRow a_dFrom a_dTo a_dValue) na).map (ss_clo (ss_q a_changed a_fresh (8 * t) c) (nI (cl + 1))) ++ ss_nw a_changed a_change a_gone (8 * t) (nI (cl + 1)) c →
      post 0 (nI sg, nI na', f_kept, nI (cl + 1), f_rows, f_many, a_row, a_from, to, a_held, a_sort, a_bits, a_base, a_least, a_greatest, a_words, a_dictionary, dr, df, dt, dv, a_wRow, a_wFrom, a_wTo, a_wValue, upd a_open t 0, a_start, a_changed, a_change, a_changes, a_fresh, a_gone, a_column, a_low, a_high, a_found, a_value)) : wX_commit_192 post (nI t) (nI sg) (nI na) f_kept (nI cl) f_rows f_many a_row a_from a_to a_held a_sort a_bits a_base a_least a_greatest a_words a_dictionary a_dRow a_dFrom a_dTo a_dValue a_wRow a_wFrom a_wTo a_wValue a_open a_start a_changed a_change a_changes a_fresh a_gone a_column a_low a_high a_found a_value := by
  have hna : na ≤ 32 := by omega
  simp (disch := omega) only [wX_commit_192, ss_a0, ss_b0, ss_c0, ss_d0, ss_e0, ss_a1, ss_b1, ss_c1, ss_d1, ss_e1, ss_a2, ss_b2, ss_c2, ss_d2, ss_e2, ss_a3, ss_b3, ss_c3, ss_d3, ss_e3, ss_a4, ss_b4, ss_c4, ss_d4, ss_e4, ss_a5, ss_b5, ss_c5, ss_d5, ss_e5, ss_a8, ss_b8, ss_c8, ss_d8, ss_e8, ss_a32, ss_b32, ss_c32, ss_d32, ss_e32, ss_a40, ss_b40, ss_c40, ss_d40, ss_e40, ss_a48, ss_b48, ss_c48, ss_d48, ss_e48, ss_a64, ss_b64, ss_c64, ss_d64, ss_e64, ss_m2, ss_m3, ss_m4, ss_m8, ss_p2, ss_p3, ss_p4, ss_p8, ss_48p, ss_in, nI_add, nI_1, nI_clamp, nI_leI, nI_ltI, nI_eq, forall_eq, true_and, and_true, ss_nb0]
  refine ⟨ht, c + 1, ?_⟩
  refine ss_xc215 (na := na) (wv := wv) hcl S W Tb ht ho hc hc8 h32 hNC (fun na' to dr df dt dv h1 h2 => h na' to dr df dt dv h1 (ss_ApL h2)) (c + 1) 0 na a_to a_dRow a_dFrom a_dTo a_dValue (by omega) (by omega) ⟨fun j hj => ?_, fun j hj => ?_, Nat.le_refl _, ?_⟩
  · rw [ss_cloN]; rintro ⟨-, z⟩; exact nomatch z
  · rw [ss_cloN]; rintro ⟨-, z⟩; exact nomatch z
  · rw [Nat.sub_self]; rfl
end
end
section
section
variable {f_segments f_added f_kept f_clock f_rows f_many : Int32} {a_row a_from a_to a_held a_sort a_bits a_base a_least a_greatest a_dictionary a_dRow a_dFrom a_dTo a_dValue a_wRow a_wFrom a_wTo a_wValue a_open a_start a_changed a_change a_changes a_fresh a_gone a_column a_low a_high a_found a_value : Nat → Int32} {a_words : Nat → Int64}
variable {f_versions f_seen : Int32} {a_vRow a_vFrom a_vTo a_vInt a_sRow a_sInt a_kept : Nat → Int32}
variable {nv cl rw t c : Nat}
theorem ss_nvE {x : Int32} : (2147483647 : Int32) ≤ x ↔ x = 2147483647 := by
  constructor
  · intro h
    apply Int32.toInt_inj.mp
    rw [Int32.le_iff_toInt_le] at h
    have := x.toInt_lt
    rw [ss_iM] at *
    omega
  · rintro rfl; exact Int32.le_refl _
theorem ss_yco {post : Int32 → Prop} (hnv : nv ≤ 56) (ht : t < 4) (hc : a_changes t = nI c) (hc8 : c ≤ 8)
    (h1 : (∃ i, i < c ∧ a_fresh (8 * t + i) = 0 ∧ ∃ y, y ∈ ss_ls (ss_ve a_vRow a_vFrom a_vTo a_vInt) nv ∧ ss_dq (a_changed (8 * t + i)) (a_start t) y) → post 1)
    (h0 : (∀ i, i < c → a_fresh (8 * t + i) = 0 → ∀ y, y ∈ ss_ls (ss_ve a_vRow a_vFrom a_vTo a_vInt) nv → ¬ ss_dq (a_changed (8 * t + i)) (a_start t) y) → post 0) : wpY_conflicts post (nI nv, nI cl, f_rows, f_seen, a_vRow, a_vFrom, a_vTo, a_vInt, a_open, a_start, a_changes, a_changed, a_fresh, a_gone, a_change, a_column, a_low, a_high, a_sRow, a_sInt, a_kept) (nI t) := by
  have inner : ∀ (J : Int32 → Prop) i, i < c → ((a_fresh (8 * t + i) = 0 → ∀ v, v < nv → ¬ ss_dq (a_changed (8 * t + i)) (a_start t) (ss_ve a_vRow a_vFrom a_vTo a_vInt v)) → J (nI (8 * t + i + 1))) → ∀ f v, v ≤ nv → nv < f + v → (a_fresh (8 * t + i) = 0 → ∀ j, j < v → ¬ ss_dq (a_changed (8 * t + i)) (a_start t) (ss_ve a_vRow a_vFrom a_vTo a_vInt j)) → wY_conflicts_22 post J (nI t) (nI (8 * t + i)) (nI nv) (nI cl) f_rows f_seen a_vRow a_vFrom a_vTo a_vInt a_open a_start a_changes a_changed a_fresh a_gone a_change a_column a_low a_high a_sRow a_sInt a_kept f (nI v) := by
    intro J i hi hJ f
    induction f with
    | zero => intro v a b; omega
    | succ f ih =>
      intro v hv hf hno
      have nx : v < nv → (a_fresh (8 * t + i) = 0 → ¬ ss_dq (a_changed (8 * t + i)) (a_start t) (ss_ve a_vRow a_vFrom a_vTo a_vInt v)) → wY_conflicts_22 post J (nI t) (nI (8 * t + i)) (nI nv) (nI cl) f_rows f_seen a_vRow a_vFrom a_vTo a_vInt a_open a_start a_changes a_changed a_fresh a_gone a_change a_column a_low a_high a_sRow a_sInt a_kept f (nI (v + 1)) := by
        intro hlt hn
        refine ih (v + 1) (by omega) (by omega) fun hfr j hj => ?_
        rcases (by omega : j < v ∨ j = v) with h' | rfl
        · exact hno hfr j h'
        · exact hn hfr
      have s71 : v < nv → (a_vRow v = a_changed (8 * t + i) → ss_dq (a_changed (8 * t + i)) (a_start t) (ss_ve a_vRow a_vFrom a_vTo a_vInt v)) → wY_conflicts_71 post J (wY_conflicts_22 post J (nI t) (nI (8 * t + i)) (nI nv) (nI cl) f_rows f_seen a_vRow a_vFrom a_vTo a_vInt a_open a_start a_changes a_changed a_fresh a_gone a_change a_column a_low a_high a_sRow a_sInt a_kept f) (nI t) (nI (8 * t + i)) (nI v) (nI nv) (nI cl) f_rows f_seen a_vRow a_vFrom a_vTo a_vInt a_open a_start a_changes a_changed a_fresh a_gone a_change a_column a_low a_high a_sRow a_sInt a_kept := by
        intro hlt hd
        simp (disch := omega) only [wY_conflicts_71, wY_conflicts_76, ss_a0, ss_b0, ss_c0, ss_d0, ss_e0, ss_a1, ss_b1, ss_c1, ss_d1, ss_e1, ss_a2, ss_b2, ss_c2, ss_d2, ss_e2, ss_a3, ss_b3, ss_c3, ss_d3, ss_e3, ss_a4, ss_b4, ss_c4, ss_d4, ss_e4, ss_a5, ss_b5, ss_c5, ss_d5, ss_e5, ss_a8, ss_b8, ss_c8, ss_d8, ss_e8, ss_a32, ss_b32, ss_c32, ss_d32, ss_e32, ss_a40, ss_b40, ss_c40, ss_d40, ss_e40, ss_a48, ss_b48, ss_c48, ss_d48, ss_e48, ss_a64, ss_b64, ss_c64, ss_d64, ss_e64, ss_m2, ss_m3, ss_m4, ss_m8, ss_p2, ss_p3, ss_p4, ss_p8, ss_48p, ss_in, nI_add, nI_1, nI_clamp, nI_leI, nI_ltI, nI_eq, forall_eq, true_and, and_true]
        refine ⟨by omega, fun hfr => ⟨by omega, by omega, fun er => ⟨fun z => absurd z (by decide), fun _ => h1 ⟨i, hi, hfr, _, ss_lsI hlt, hd er⟩⟩, fun er => nx hlt fun _ z => er z.1⟩, fun hfr => nx hlt fun z => absurd z hfr⟩
      have s75 : v < nv → ¬ ss_dq (a_changed (8 * t + i)) (a_start t) (ss_ve a_vRow a_vFrom a_vTo a_vInt v) → wY_conflicts_75 post J (wY_conflicts_22 post J (nI t) (nI (8 * t + i)) (nI nv) (nI cl) f_rows f_seen a_vRow a_vFrom a_vTo a_vInt a_open a_start a_changes a_changed a_fresh a_gone a_change a_column a_low a_high a_sRow a_sInt a_kept f) (nI t) (nI (8 * t + i)) (nI v) (nI nv) (nI cl) f_rows f_seen a_vRow a_vFrom a_vTo a_vInt a_open a_start a_changes a_changed a_fresh a_gone a_change a_column a_low a_high a_sRow a_sInt a_kept := by
        intro hlt hd
        simp (disch := omega) only [wY_conflicts_75, wY_conflicts_76, ss_a0, ss_b0, ss_c0, ss_d0, ss_e0, ss_a1, ss_b1, ss_c1, ss_d1, ss_e1, ss_a2, ss_b2, ss_c2, ss_d2, ss_e2, ss_a3, ss_b3, ss_c3, ss_d3, ss_e3, ss_a4, ss_b4, ss_c4, ss_d4, ss_e4, ss_a5, ss_b5, ss_c5, ss_d5, ss_e5, ss_a8, ss_b8, ss_c8, ss_d8, ss_e8, ss_a32, ss_b32, ss_c32, ss_d32, ss_e32, ss_a40, ss_b40, ss_c40, ss_d40, ss_e40, ss_a48, ss_b48, ss_c48, ss_d48, ss_e48, ss_a64, ss_b64, ss_c64, ss_d64, ss_e64, ss_m2, ss_m3, ss_m4, ss_m8, ss_p2, ss_p3, ss_p4, ss_p8, ss_48p, ss_in, nI_add, nI_1, nI_clamp, nI_leI, nI_ltI, nI_eq, forall_eq, true_and, and_true]
        refine ⟨by omega, fun hfr => ⟨by omega, by omega, fun er => ⟨fun _ => nx hlt fun _ => hd, fun z => absurd trivial z⟩, fun er => nx hlt fun _ => hd⟩, fun hfr => nx hlt fun z => absurd z hfr⟩
      simp (disch := omega) only [wY_conflicts_22, ss_a0, ss_b0, ss_c0, ss_d0, ss_e0, ss_a1, ss_b1, ss_c1, ss_d1, ss_e1, ss_a2, ss_b2, ss_c2, ss_d2, ss_e2, ss_a3, ss_b3, ss_c3, ss_d3, ss_e3, ss_a4, ss_b4, ss_c4, ss_d4, ss_e4, ss_a5, ss_b5, ss_c5, ss_d5, ss_e5, ss_a8, ss_b8, ss_c8, ss_d8, ss_e8, ss_a32, ss_b32, ss_c32, ss_d32, ss_e32, ss_a40, ss_b40, ss_c40, ss_d40, ss_e40, ss_a48, ss_b48, ss_c48, ss_d48, ss_e48, ss_a64, ss_b64, ss_c64, ss_d64, ss_e64, ss_m2, ss_m3, ss_m4, ss_m8, ss_p2, ss_p3, ss_p4, ss_p8, ss_48p, ss_in, nI_add, nI_1, nI_clamp, nI_leI, nI_ltI, nI_eq, forall_eq, true_and, and_true, ss_nvE]
      refine ⟨fun z => hJ fun hfr j hj => hno hfr j (by omega), fun z => ⟨by omega, ht, fun e1 => s71 (by omega) fun er => ⟨er, Or.inl e1⟩, fun e1 => ⟨by omega, fun e2 => s75 (by omega) ?_, fun e2 => ⟨by omega, ht, fun e3 => s75 (by omega) ?_, fun e3 => s71 (by omega) fun er => ⟨er, Or.inr ⟨e2, Int32.not_le.mp e3⟩⟩⟩⟩⟩⟩
      · rintro ⟨-, z | ⟨z, -⟩⟩
        · exact e1 z
        · exact z e2
      · rintro ⟨-, z | ⟨-, z⟩⟩
        · exact e1 z
        · exact absurd e3 (Int32.not_le.mpr z)
  have outer : ∀ f i, i ≤ c → c < f + i → (∀ j, j < i → a_fresh (8 * t + j) = 0 → ∀ v, v < nv → ¬ ss_dq (a_changed (8 * t + j)) (a_start t) (ss_ve a_vRow a_vFrom a_vTo a_vInt v)) → wY_conflicts_5 post (nI t) (nI nv) (nI cl) f_rows f_seen a_vRow a_vFrom a_vTo a_vInt a_open a_start a_changes a_changed a_fresh a_gone a_change a_column a_low a_high a_sRow a_sInt a_kept f (nI (8 * t + i)) := by
    intro f
    induction f with
    | zero => intro i a b; omega
    | succ f ih =>
      intro i hi hf hno
      simp (disch := omega) only [wY_conflicts_5, ss_a0, ss_b0, ss_c0, ss_d0, ss_e0, ss_a1, ss_b1, ss_c1, ss_d1, ss_e1, ss_a2, ss_b2, ss_c2, ss_d2, ss_e2, ss_a3, ss_b3, ss_c3, ss_d3, ss_e3, ss_a4, ss_b4, ss_c4, ss_d4, ss_e4, ss_a5, ss_b5, ss_c5, ss_d5, ss_e5, ss_a8, ss_b8, ss_c8, ss_d8, ss_e8, ss_a32, ss_b32, ss_c32, ss_d32, ss_e32, ss_a40, ss_b40, ss_c40, ss_d40, ss_e40, ss_a48, ss_b48, ss_c48, ss_d48, ss_e48, ss_a64, ss_b64, ss_c64, ss_d64, ss_e64, ss_m2, ss_m3, ss_m4, ss_m8, ss_p2, ss_p3, ss_p4, ss_p8, ss_48p, ss_in, nI_add, nI_1, nI_clamp, nI_leI, nI_ltI, nI_eq, forall_eq, true_and, and_true, hc]
      refine ⟨ht, fun z => h0 fun j hj hfr y hy => ?_, fun z => ⟨nv + 1, inner _ i (by omega) (fun hn => ih (i + 1) (by omega) (by omega) fun j hj hfr => ?_) (nv + 1) 0 (by omega) (by omega) (fun _ j hj => by omega)⟩⟩
      · obtain ⟨v, hv, rfl⟩ := ss_lsM.mp hy
        exact hno j (by omega) hfr v hv
      · rcases (by omega : j < i ∨ j = i) with h' | rfl
        · exact hno j h' hfr
        · exact hn hfr
  simp only [wpY_conflicts, ss_m8, forall_eq]
  exact ⟨c + 1, outer (c + 1) 0 (by omega) (by omega) (fun j hj => by omega)⟩
/-- the reference's count of what would be live -/
def ss_by (op st cr : Nat → Int32) (t c : Nat) (x : ss_V) : Bool := ss_lvn op st (nI t) x.2.1 x.2.2.1 (decide (x.2.2.1 = 2147483647) && !ss_ic cr x.1 (8 * t) c) 4
theorem ss_yab {post : Int32 → Prop} (hnv : nv ≤ 56) (ht : t < 4) (hc : a_changes t = nI c) (hc8 : c ≤ 8)
    (h : post (nI (ss_gn a_gone (8 * t) c + (ss_ls (ss_ve a_vRow a_vFrom a_vTo a_vInt) nv).countP (ss_by a_open a_start a_changed t c)))) : wpY_aliveBehind post (nI nv, nI cl, f_rows, f_seen, a_vRow, a_vFrom, a_vTo, a_vInt, a_open, a_start, a_changes, a_changed, a_fresh, a_gone, a_change, a_column, a_low, a_high, a_sRow, a_sInt, a_kept) (nI t) := by
  have gl := ss_gnL (gone := a_gone) (b := 8 * t) c
  have k108 : ∀ (J : Int32 → Int32 → Prop) m v, m < 1000 → v < 56 → ∀ b0, (ss_lvn a_open a_start (nI t) (a_vFrom v) (a_vTo v) b0 4 = false → J (nI m) (nI (v + 1))) → (ss_lvn a_open a_start (nI t) (a_vFrom v) (a_vTo v) b0 4 = true → J (nI (m + 1)) (nI (v + 1))) → ∀ f k, k ≤ 4 → 4 < f + k → wY_aliveBehind_108 post J (nI t) (nI m) (nI v) (nI nv) (nI cl) f_rows f_seen a_vRow a_vFrom a_vTo a_vInt a_open a_start a_changes a_changed a_fresh a_gone a_change a_column a_low a_high a_sRow a_sInt a_kept f (ss_bi (ss_lvn a_open a_start (nI t) (a_vFrom v) (a_vTo v) b0 k)) (nI k) := by
    intro J m v hm hv b0 j0 j1 f
    induction f with
    | zero => intro k a b; omega
    | succ f ih =>
      intro k hk hf
      have st : ∀ b, ss_lvn a_open a_start (nI t) (a_vFrom v) (a_vTo v) b0 (k + 1) = b → k < 4 → wY_aliveBehind_108 post J (nI t) (nI m) (nI v) (nI nv) (nI cl) f_rows f_seen a_vRow a_vFrom a_vTo a_vInt a_open a_start a_changes a_changed a_fresh a_gone a_change a_column a_low a_high a_sRow a_sInt a_kept f (ss_bi b) (nI (k + 1)) := by
        rintro b rfl h4
        exact ih (k + 1) (by omega) (by omega)
      simp (disch := omega) only [wY_aliveBehind_108, ss_a0, ss_b0, ss_c0, ss_d0, ss_e0, ss_a1, ss_b1, ss_c1, ss_d1, ss_e1, ss_a2, ss_b2, ss_c2, ss_d2, ss_e2, ss_a3, ss_b3, ss_c3, ss_d3, ss_e3, ss_a4, ss_b4, ss_c4, ss_d4, ss_e4, ss_a5, ss_b5, ss_c5, ss_d5, ss_e5, ss_a8, ss_b8, ss_c8, ss_d8, ss_e8, ss_a32, ss_b32, ss_c32, ss_d32, ss_e32, ss_a40, ss_b40, ss_c40, ss_d40, ss_e40, ss_a48, ss_b48, ss_c48, ss_d48, ss_e48, ss_a64, ss_b64, ss_c64, ss_d64, ss_e64, ss_m2, ss_m3, ss_m4, ss_m8, ss_p2, ss_p3, ss_p4, ss_p8, ss_48p, ss_in, nI_add, nI_1, nI_clamp, nI_leI, nI_ltI, nI_eq, forall_eq, true_and, and_true, ss_yh hv]
      refine ⟨fun z => ?_, fun z => ss_br (fun hb => ⟨by omega, fun ho => st false (by simp [ss_lvn, ho, hb]) (by omega), fun ho => ⟨fun hk' => st false ?_ (by omega), fun hk' => ⟨by omega, ss_br (fun hh => st false (by simp [ss_lvn, hh, hb]) (by omega)) (fun hh => st true ?_ (by omega))⟩⟩⟩) (fun hb => st true (by simp [ss_lvn, hb]) (by omega))⟩
      · have e : k = 4 := by omega
        subst e
        exact ss_br j0 j1
      · rw [ss_lvn, hb, hk']; simp
      · have : ¬ nI k = nI t := fun z => hk' ((nI_eq (by omega) (by omega)).mp z)
        simp [ss_lvn, hh, ho, this]
  have k42 : ∀ f v, v ≤ nv → nv < f + v → wY_aliveBehind_42 post (nI t) (nI nv) (nI cl) f_rows f_seen a_vRow a_vFrom a_vTo a_vInt a_open a_start a_changes a_changed a_fresh a_gone a_change a_column a_low a_high a_sRow a_sInt a_kept f (nI (ss_gn a_gone (8 * t) c + (ss_ls (ss_ve a_vRow a_vFrom a_vTo a_vInt) v).countP (ss_by a_open a_start a_changed t c))) (nI v) := by
    intro f
    induction f with
    | zero => intro v a b; omega
    | succ f ih =>
      intro v hv hf
      have b1 : (ss_ls (ss_ve a_vRow a_vFrom a_vTo a_vInt) v).countP (ss_by a_open a_start a_changed t c) ≤ v := by
        have := List.countP_le_length (p := ss_by a_open a_start a_changed t c) (l := ss_ls (ss_ve a_vRow a_vFrom a_vTo a_vInt) v)
        rw [ss_lsL] at this; exact this
      by_cases hlt : nv ≤ v
      · simp (disch := omega) only [wY_aliveBehind_42, ss_a0, ss_b0, ss_c0, ss_d0, ss_e0, ss_a1, ss_b1, ss_c1, ss_d1, ss_e1, ss_a2, ss_b2, ss_c2, ss_d2, ss_e2, ss_a3, ss_b3, ss_c3, ss_d3, ss_e3, ss_a4, ss_b4, ss_c4, ss_d4, ss_e4, ss_a5, ss_b5, ss_c5, ss_d5, ss_e5, ss_a8, ss_b8, ss_c8, ss_d8, ss_e8, ss_a32, ss_b32, ss_c32, ss_d32, ss_e32, ss_a40, ss_b40, ss_c40, ss_d40, ss_e40, ss_a48, ss_b48, ss_c48, ss_d48, ss_e48, ss_a64, ss_b64, ss_c64, ss_d64, ss_e64, ss_m2, ss_m3, ss_m4, ss_m8, ss_p2, ss_p3, ss_p4, ss_p8, ss_48p, ss_in, nI_add, nI_1, nI_clamp, nI_leI, nI_ltI, nI_eq, forall_eq, true_and, and_true]
        refine ⟨fun _ => ?_, fun z => absurd hlt z⟩
        rw [show v = nv by omega]; exact h
      · have st := ih (v + 1) (by omega) (by omega)
        rw [ss_lsS, ss_cP] at st
        have go : ∀ b0, (decide (a_vTo v = 2147483647) && !ss_ic a_changed (a_vRow v) (8 * t) c) = b0 → ∃ n108, wY_aliveBehind_108 post (wY_aliveBehind_42 post (nI t) (nI nv) (nI cl) f_rows f_seen a_vRow a_vFrom a_vTo a_vInt a_open a_start a_changes a_changed a_fresh a_gone a_change a_column a_low a_high a_sRow a_sInt a_kept f) (nI t) (nI (ss_gn a_gone (8 * t) c + (ss_ls (ss_ve a_vRow a_vFrom a_vTo a_vInt) v).countP (ss_by a_open a_start a_changed t c))) (nI v) (nI nv) (nI cl) f_rows f_seen a_vRow a_vFrom a_vTo a_vInt a_open a_start a_changes a_changed a_fresh a_gone a_change a_column a_low a_high a_sRow a_sInt a_kept n108 (ss_bi b0) 0 := by
          rintro b0 hb0
          refine ⟨5, k108 _ _ v (by omega) (by omega) b0 (fun e => ?_) (fun e => ?_) 5 0 (by omega) (by omega)⟩
          · have e' : ss_by a_open a_start a_changed t c (ss_ve a_vRow a_vFrom a_vTo a_vInt v) = false := by
              unfold ss_by
              show ss_lvn a_open a_start (nI t) (a_vFrom v) (a_vTo v) (decide (a_vTo v = 2147483647) && !ss_ic a_changed (a_vRow v) (8 * t) c) 4 = false
              rw [hb0]; exact e
            rw [e'] at st
            exact st
          · have e' : ss_by a_open a_start a_changed t c (ss_ve a_vRow a_vFrom a_vTo a_vInt v) = true := by
              unfold ss_by
              show ss_lvn a_open a_start (nI t) (a_vFrom v) (a_vTo v) (decide (a_vTo v = 2147483647) && !ss_ic a_changed (a_vRow v) (8 * t) c) 4 = true
              rw [hb0]; exact e
            rw [if_pos e', ← Nat.add_assoc] at st
            exact st
        simp (disch := omega) only [wY_aliveBehind_42, wY_aliveBehind_79, wY_aliveBehind_80, ss_a0, ss_b0, ss_c0, ss_d0, ss_e0, ss_a1, ss_b1, ss_c1, ss_d1, ss_e1, ss_a2, ss_b2, ss_c2, ss_d2, ss_e2, ss_a3, ss_b3, ss_c3, ss_d3, ss_e3, ss_a4, ss_b4, ss_c4, ss_d4, ss_e4, ss_a5, ss_b5, ss_c5, ss_d5, ss_e5, ss_a8, ss_b8, ss_c8, ss_d8, ss_e8, ss_a32, ss_b32, ss_c32, ss_d32, ss_e32, ss_a40, ss_b40, ss_c40, ss_d40, ss_e40, ss_a48, ss_b48, ss_c48, ss_d48, ss_e48, ss_a64, ss_b64, ss_c64, ss_d64, ss_e64, ss_m2, ss_m3, ss_m4, ss_m8, ss_p2, ss_p3, ss_p4, ss_p8, ss_48p, ss_in, nI_add, nI_1, nI_clamp, nI_leI, nI_ltI, nI_eq, forall_eq, true_and, and_true]
        refine ⟨fun z => absurd z hlt, fun _ => ⟨by omega, fun hn => ⟨by omega, ss_ycf ht hc hc8 ⟨fun z => ⟨by omega, fun _ => ⟨fun _ => go true ?_, fun z' => absurd trivial z'⟩, fun z' => absurd hn z'⟩, fun z => ⟨by omega, fun _ => ⟨fun z' => absurd z' (by decide), fun _ => go false ?_⟩, fun z' => absurd hn z'⟩⟩⟩, fun hn => ⟨by omega, fun z => absurd z hn, fun _ => go false ?_⟩⟩⟩
        · rw [ss_icN] at z
          rw [z, decide_eq_true hn]; rfl
        · rw [ss_icN, Bool.not_eq_false] at z
          rw [z, Bool.not_true, Bool.and_false]
        · rw [decide_eq_false hn, Bool.false_and]
  have k7 : ∀ f i, i ≤ c → c < f + i → wY_aliveBehind_7 post (nI t) (nI nv) (nI cl) f_rows f_seen a_vRow a_vFrom a_vTo a_vInt a_open a_start a_changes a_changed a_fresh a_gone a_change a_column a_low a_high a_sRow a_sInt a_kept f (nI (ss_gn a_gone (8 * t) i)) (nI (8 * t + i)) := by
    intro f
    induction f with
    | zero => intro i a b; omega
    | succ f ih =>
      intro i hi hf
      have gi := ss_gnL (gone := a_gone) (b := 8 * t) i
      have st := ih (i + 1)
      rw [ss_gn] at st
      simp (disch := omega) only [wY_aliveBehind_7, ss_a0, ss_b0, ss_c0, ss_d0, ss_e0, ss_a1, ss_b1, ss_c1, ss_d1, ss_e1, ss_a2, ss_b2, ss_c2, ss_d2, ss_e2, ss_a3, ss_b3, ss_c3, ss_d3, ss_e3, ss_a4, ss_b4, ss_c4, ss_d4, ss_e4, ss_a5, ss_b5, ss_c5, ss_d5, ss_e5, ss_a8, ss_b8, ss_c8, ss_d8, ss_e8, ss_a32, ss_b32, ss_c32, ss_d32, ss_e32, ss_a40, ss_b40, ss_c40, ss_d40, ss_e40, ss_a48, ss_b48, ss_c48, ss_d48, ss_e48, ss_a64, ss_b64, ss_c64, ss_d64, ss_e64, ss_m2, ss_m3, ss_m4, ss_m8, ss_p2, ss_p3, ss_p4, ss_p8, ss_48p, ss_in, nI_add, nI_1, nI_clamp, nI_leI, nI_ltI, nI_eq, forall_eq, true_and, and_true, hc]
      refine ⟨ht, fun z => ⟨nv + 1, ?_⟩, fun z => ⟨by omega, fun hg => ?_, fun hg => ?_⟩⟩
      · have e : i = c := by omega
        subst e
        exact k42 (nv + 1) 0 (by omega) (by omega)
      · rw [if_pos hg] at st; exact st (by omega) (by omega)
      · rw [if_neg hg] at st; exact st (by omega) (by omega)
  simp only [wpY_aliveBehind, ss_m8, forall_eq]
  exact ⟨c + 1, k7 (c + 1) 0 (by omega) (by omega)⟩
/-! forgetting -/
theorem ss_ycp {post : SY → Prop} {v n : Nat} (hv : v < 56) (hn : n < 56)
    (h : ∀ vr vf vt vi : Nat → Int32, ss_ve vr vf vt vi n = ss_ve a_vRow a_vFrom a_vTo a_vInt v → (∀ j, j ≠ n → ss_ve vr vf vt vi j = ss_ve a_vRow a_vFrom a_vTo a_vInt j) → post (nI nv, nI cl, f_rows, f_seen, vr, vf, vt, vi, a_open, a_start, a_changes, a_changed, a_fresh, a_gone, a_change, a_column, a_low, a_high, a_sRow, a_sInt, a_kept)) : wpY_copy post (nI nv, nI cl, f_rows, f_seen, a_vRow, a_vFrom, a_vTo, a_vInt, a_open, a_start, a_changes, a_changed, a_fresh, a_gone, a_change, a_column, a_low, a_high, a_sRow, a_sInt, a_kept) (nI v) (nI n) := by
  have key : ∀ f d (vi : Nat → Int32), d ≤ 3 → 3 < f + d → (∀ e, e < d → vi (3 * n + e) = a_vInt (3 * v + e)) → (∀ e, d ≤ e → e < 3 → vi (3 * n + e) = a_vInt (3 * n + e)) → (∀ j e, j ≠ n → e < 3 → vi (3 * j + e) = a_vInt (3 * j + e)) →
      wY_copy_38 post (nI v) (nI n) (nI nv) (nI cl) f_rows f_seen f (nI d) (upd a_vRow n (a_vRow v)) (upd a_vFrom n (a_vFrom v)) (upd a_vTo n (a_vTo v)) vi a_open a_start a_changes a_changed a_fresh a_gone a_change a_column a_low a_high a_sRow a_sInt a_kept := by
    intro f
    induction f with
    | zero => intro d vi a b; omega
    | succ f ih =>
      intro d vi hd hf k1 k2 k3
      simp (disch := omega) only [wY_copy_38, ss_a0, ss_b0, ss_c0, ss_d0, ss_e0, ss_a1, ss_b1, ss_c1, ss_d1, ss_e1, ss_a2, ss_b2, ss_c2, ss_d2, ss_e2, ss_a3, ss_b3, ss_c3, ss_d3, ss_e3, ss_a4, ss_b4, ss_c4, ss_d4, ss_e4, ss_a5, ss_b5, ss_c5, ss_d5, ss_e5, ss_a8, ss_b8, ss_c8, ss_d8, ss_e8, ss_a32, ss_b32, ss_c32, ss_d32, ss_e32, ss_a40, ss_b40, ss_c40, ss_d40, ss_e40, ss_a48, ss_b48, ss_c48, ss_d48, ss_e48, ss_a64, ss_b64, ss_c64, ss_d64, ss_e64, ss_m2, ss_m3, ss_m4, ss_m8, ss_p2, ss_p3, ss_p4, ss_p8, ss_48p, ss_in, nI_add, nI_1, nI_clamp, nI_leI, nI_ltI, nI_eq, forall_eq, true_and, and_true]
      refine ⟨fun z => h _ _ _ _ ?_ fun j hj => ?_, fun z => ⟨by omega, by omega, ih (d + 1) _ (by omega) (by omega) (fun e he => ?_) (fun e he he2 => ?_) (fun j e hj he => ?_)⟩⟩
      · unfold ss_ve
        rw [pk_us, pk_us, pk_us, ss_trC fun e he => k1 e (by omega)]
      · unfold ss_ve
        rw [pk_un hj, pk_un hj, pk_un hj, ss_trC fun e he => k3 j e hj he]
      · rcases (by omega : e < d ∨ e = d) with h' | rfl
        · rw [pk_un (by omega)]; exact k1 e h'
        · rw [pk_us]
          by_cases evn : v = n
          · subst evn; exact k2 e (by omega) (by omega)
          · exact k3 v e evn (by omega)
      · rw [pk_un (by omega)]; exact k2 e (by omega) he2
      · rw [pk_un (by omega)]; exact k3 j e hj he
  simp (disch := omega) only [wpY_copy, ss_a0, ss_b0, ss_c0, ss_d0, ss_e0, ss_a1, ss_b1, ss_c1, ss_d1, ss_e1, ss_a2, ss_b2, ss_c2, ss_d2, ss_e2, ss_a3, ss_b3, ss_c3, ss_d3, ss_e3, ss_a4, ss_b4, ss_c4, ss_d4, ss_e4, ss_a5, ss_b5, ss_c5, ss_d5, ss_e5, ss_a8, ss_b8, ss_c8, ss_d8, ss_e8, ss_a32, ss_b32, ss_c32, ss_d32, ss_e32, ss_a40, ss_b40, ss_c40, ss_d40, ss_e40, ss_a48, ss_b48, ss_c48, ss_d48, ss_e48, ss_a64, ss_b64, ss_c64, ss_d64, ss_e64, ss_m2, ss_m3, ss_m4, ss_m8, ss_p2, ss_p3, ss_p4, ss_p8, ss_48p, ss_in, nI_add, nI_1, nI_clamp, nI_leI, nI_ltI, nI_eq, forall_eq, true_and, and_true]
  exact ⟨hv, hn, hv, hn, hv, hn, 4, key 4 0 a_vInt (by omega) (by omega) (fun e he => by omega) (fun e _ _ => rfl) (fun _ _ _ _ => rfl)⟩
theorem ss_yfo {post : SY → Prop} (hnv : nv ≤ 56)
    (h : ∀ n (vr vf vt vi : Nat → Int32), ss_ls (ss_ve vr vf vt vi) n = (ss_ls (ss_ve a_vRow a_vFrom a_vTo a_vInt) nv).filter (ss_lv (nI cl) a_open a_start (-1)) → post (nI n, nI cl, f_rows, f_seen, vr, vf, vt, vi, a_open, a_start, a_changes, a_changed, a_fresh, a_gone, a_change, a_column, a_low, a_high, a_sRow, a_sInt, a_kept)) : wpY_forget post (nI nv, nI cl, f_rows, f_seen, a_vRow, a_vFrom, a_vTo, a_vInt, a_open, a_start, a_changes, a_changed, a_fresh, a_gone, a_change, a_column, a_low, a_high, a_sRow, a_sInt, a_kept) := by
  have key : ∀ f v n (vr vf vt vi : Nat → Int32), v ≤ nv → nv < f + v → n ≤ v → ss_ls (ss_ve vr vf vt vi) n = (ss_ls (ss_ve a_vRow a_vFrom a_vTo a_vInt) v).filter (ss_lv (nI cl) a_open a_start (-1)) → (∀ j, v ≤ j → ss_ve vr vf vt vi j = ss_ve a_vRow a_vFrom a_vTo a_vInt j) →
      wY_forget_4 post f (nI n) (nI v) (nI nv) (nI cl) f_rows f_seen vr vf vt vi a_open a_start a_changes a_changed a_fresh a_gone a_change a_column a_low a_high a_sRow a_sInt a_kept := by
    intro f
    induction f with
    | zero => intro v n vr vf vt vi a b; omega
    | succ f ih =>
      intro v n vr vf vt vi hv hf hn hL hrest
      simp (disch := omega) only [wY_forget_4, ss_a0, ss_b0, ss_c0, ss_d0, ss_e0, ss_a1, ss_b1, ss_c1, ss_d1, ss_e1, ss_a2, ss_b2, ss_c2, ss_d2, ss_e2, ss_a3, ss_b3, ss_c3, ss_d3, ss_e3, ss_a4, ss_b4, ss_c4, ss_d4, ss_e4, ss_a5, ss_b5, ss_c5, ss_d5, ss_e5, ss_a8, ss_b8, ss_c8, ss_d8, ss_e8, ss_a32, ss_b32, ss_c32, ss_d32, ss_e32, ss_a40, ss_b40, ss_c40, ss_d40, ss_e40, ss_a48, ss_b48, ss_c48, ss_d48, ss_e48, ss_a64, ss_b64, ss_c64, ss_d64, ss_e64, ss_m2, ss_m3, ss_m4, ss_m8, ss_p2, ss_p3, ss_p4, ss_p8, ss_48p, ss_in, nI_add, nI_1, nI_clamp, nI_leI, nI_ltI, nI_eq, forall_eq, true_and, and_true]
      refine ⟨fun z => h n vr vf vt vi ?_, fun z => ss_ylv (by omega) (ss_br (fun hb => ?_) (fun hb => ?_))⟩
      · rw [show nv = v by omega]; exact hL
      · refine ih (v + 1) n vr vf vt vi (by omega) (by omega) (by omega) ?_ (fun j hj => hrest j (by omega))
        rw [hrest v (Nat.le_refl _)] at hb
        rw [ss_fS, if_neg (by rw [hb]; decide), List.append_nil]; exact hL
      · refine ss_ycp (by omega) (by omega) fun vr' vf' vt' vi' e1 e2 => ?_
        rw [hrest v (Nat.le_refl _)] at hb e1
        refine ih (v + 1) (n + 1) vr' vf' vt' vi' (by omega) (by omega) (by omega) ?_ (fun j hj => ?_)
        · rw [ss_fS, if_pos hb, ss_lsS, e1, ← hL]
          congr 1
          exact ss_lsC fun j hj => e2 j (by omega)
        · rw [e2 j (by omega)]; exact hrest j (by omega)
  exact ⟨nv + 1, key (nv + 1) 0 0 _ _ _ _ (by omega) (by omega) (by omega) (by simp [ss_ls]) (fun _ _ => rfl)⟩
/-! closing and appending -/
theorem ss_y181 {post : Int32 → SY → Prop} {n0 : Nat} {L0 : List ss_V} (ht : t < 4) (hc : a_changes t = nI c) (hc8 : c ≤ 8) (hL0 : L0.length ≤ 48)
    (h : ∀ n (vr vf vt vi : Nat → Int32), ss_ls (ss_ve vr vf vt vi) n = L0 ++ ss_nw a_changed a_change a_gone (8 * t) (nI cl) c → post 0 (nI n, nI cl, f_rows, f_seen, vr, vf, vt, vi, a_open, a_start, a_changes, a_changed, a_fresh, a_gone, a_change, a_column, a_low, a_high, a_sRow, a_sInt, a_kept)) :
    ∀ f i n (vr vf vt vi : Nat → Int32), i ≤ c → c < f + i → ss_ls (ss_ve vr vf vt vi) n = L0 ++ ss_nw a_changed a_change a_gone (8 * t) (nI cl) i →
      wY_commit_181 post (nI t) (nI cl) f_rows f_seen f (nI (8 * t + i)) (nI n) vr vf vt vi a_open a_start a_changes a_changed a_fresh a_gone a_change a_column a_low a_high a_sRow a_sInt a_kept := by
  intro f
  induction f with
  | zero => intro i n vr vf vt vi a b; omega
  | succ f ih =>
    intro i n vr vf vt vi hi hf hL
    have hn : n ≤ 48 + i := by
      have h1 := congrArg List.length hL
      rw [ss_lsL, List.length_append, ss_nwN] at h1
      have := ss_gnL (gone := a_gone) (b := 8 * t) i
      omega
    by_cases hlt : c ≤ i
    · have e : i = c := by omega
      subst e
      simp (disch := omega) only [wY_commit_181, ss_a0, ss_b0, ss_c0, ss_d0, ss_e0, ss_a1, ss_b1, ss_c1, ss_d1, ss_e1, ss_a2, ss_b2, ss_c2, ss_d2, ss_e2, ss_a3, ss_b3, ss_c3, ss_d3, ss_e3, ss_a4, ss_b4, ss_c4, ss_d4, ss_e4, ss_a5, ss_b5, ss_c5, ss_d5, ss_e5, ss_a8, ss_b8, ss_c8, ss_d8, ss_e8, ss_a32, ss_b32, ss_c32, ss_d32, ss_e32, ss_a40, ss_b40, ss_c40, ss_d40, ss_e40, ss_a48, ss_b48, ss_c48, ss_d48, ss_e48, ss_a64, ss_b64, ss_c64, ss_d64, ss_e64, ss_m2, ss_m3, ss_m4, ss_m8, ss_p2, ss_p3, ss_p4, ss_p8, ss_48p, ss_in, nI_add, nI_1, nI_clamp, nI_leI, nI_ltI, nI_eq, forall_eq, true_and, and_true, hc]
      exact ⟨ht, fun _ => h n vr vf vt vi hL, fun z => absurd (by omega) z⟩
    · by_cases hg : a_gone (8 * t + i) = 0
      · have st : ∀ fu d (v' : Nat → Int32), d < 3 → wY_commit_250 post (wY_commit_181 post (nI t) (nI cl) f_rows f_seen f) (nI t) (nI (8 * t + i)) (nI n) (nI cl) f_rows f_seen fu (nI (d + 1)) (upd vr n (a_changed (8 * t + i))) (upd vf n (nI cl)) (upd vt n 2147483647) (upd v' (3 * n + d) (a_change (3 * (8 * t + i) + d))) a_open a_start a_changes a_changed a_fresh a_gone a_change a_column a_low a_high a_sRow a_sInt a_kept →
            wY_commit_250 post (wY_commit_181 post (nI t) (nI cl) f_rows f_seen f) (nI t) (nI (8 * t + i)) (nI n) (nI cl) f_rows f_seen (fu + 1) (nI d) (upd vr n (a_changed (8 * t + i))) (upd vf n (nI cl)) (upd vt n 2147483647) v' a_open a_start a_changes a_changed a_fresh a_gone a_change a_column a_low a_high a_sRow a_sInt a_kept := by
          intro fu d v' hd hn'
          simp (disch := omega) only [wY_commit_250, ss_a0, ss_b0, ss_c0, ss_d0, ss_e0, ss_a1, ss_b1, ss_c1, ss_d1, ss_e1, ss_a2, ss_b2, ss_c2, ss_d2, ss_e2, ss_a3, ss_b3, ss_c3, ss_d3, ss_e3, ss_a4, ss_b4, ss_c4, ss_d4, ss_e4, ss_a5, ss_b5, ss_c5, ss_d5, ss_e5, ss_a8, ss_b8, ss_c8, ss_d8, ss_e8, ss_a32, ss_b32, ss_c32, ss_d32, ss_e32, ss_a40, ss_b40, ss_c40, ss_d40, ss_e40, ss_a48, ss_b48, ss_c48, ss_d48, ss_e48, ss_a64, ss_b64, ss_c64, ss_d64, ss_e64, ss_m2, ss_m3, ss_m4, ss_m8, ss_p2, ss_p3, ss_p4, ss_p8, ss_48p, ss_in, nI_add, nI_1, nI_clamp, nI_leI, nI_ltI, nI_eq, forall_eq, true_and, and_true]
          exact ⟨fun z => absurd z (by omega), fun _ => ⟨by omega, by omega, hn'⟩⟩
        have l3 : ∀ fu, wY_commit_250 post (wY_commit_181 post (nI t) (nI cl) f_rows f_seen f) (nI t) (nI (8 * t + i)) (nI n) (nI cl) f_rows f_seen (fu + 1) (nI 3) (upd vr n (a_changed (8 * t + i))) (upd vf n (nI cl)) (upd vt n 2147483647) (upd (upd (upd vi (3 * n) (a_change (3 * (8 * t + i)))) (3 * n + 1) (a_change (3 * (8 * t + i) + 1))) (3 * n + 2) (a_change (3 * (8 * t + i) + 2))) a_open a_start a_changes a_changed a_fresh a_gone a_change a_column a_low a_high a_sRow a_sInt a_kept := by
          intro fu
          simp (disch := omega) only [wY_commit_250, ss_a0, ss_b0, ss_c0, ss_d0, ss_e0, ss_a1, ss_b1, ss_c1, ss_d1, ss_e1, ss_a2, ss_b2, ss_c2, ss_d2, ss_e2, ss_a3, ss_b3, ss_c3, ss_d3, ss_e3, ss_a4, ss_b4, ss_c4, ss_d4, ss_e4, ss_a5, ss_b5, ss_c5, ss_d5, ss_e5, ss_a8, ss_b8, ss_c8, ss_d8, ss_e8, ss_a32, ss_b32, ss_c32, ss_d32, ss_e32, ss_a40, ss_b40, ss_c40, ss_d40, ss_e40, ss_a48, ss_b48, ss_c48, ss_d48, ss_e48, ss_a64, ss_b64, ss_c64, ss_d64, ss_e64, ss_m2, ss_m3, ss_m4, ss_m8, ss_p2, ss_p3, ss_p4, ss_p8, ss_48p, ss_in, nI_add, nI_1, nI_clamp, nI_leI, nI_ltI, nI_eq, forall_eq, true_and, and_true]
          refine ⟨fun _ => ih (i + 1) (n + 1) _ _ _ _ (by omega) (by omega) ?_, fun z => absurd (Nat.le_refl 3) z⟩
          rw [ss_lsS, ss_nwS, if_pos hg, ← List.append_assoc, ← hL]
          have e1 : ss_ls (ss_ve (upd vr n (a_changed (8 * t + i))) (upd vf n (nI cl)) (upd vt n 2147483647) (upd (upd (upd vi (3 * n) (a_change (3 * (8 * t + i)))) (3 * n + 1) (a_change (3 * (8 * t + i) + 1))) (3 * n + 2) (a_change (3 * (8 * t + i) + 2)))) n = ss_ls (ss_ve vr vf vt vi) n := by
            refine ss_lsC fun j hj => ?_
            unfold ss_ve
            rw [pk_un (by omega), pk_un (by omega), pk_un (by omega)]
            exact congrArg (fun z => (vr j, vf j, vt j, z)) (ss_trU (by omega))
          have e2 : ss_ve (upd vr n (a_changed (8 * t + i))) (upd vf n (nI cl)) (upd vt n 2147483647) (upd (upd (upd vi (3 * n) (a_change (3 * (8 * t + i)))) (3 * n + 1) (a_change (3 * (8 * t + i) + 1))) (3 * n + 2) (a_change (3 * (8 * t + i) + 2))) n = (a_changed (8 * t + i), nI cl, 2147483647, ss_tr a_change (8 * t + i)) := by
            unfold ss_ve
            rw [pk_us, pk_us, pk_us]
            exact congrArg (fun z => (a_changed (8 * t + i), nI cl, (2147483647 : Int32), z)) ss_trS
          rw [e1, e2]
        simp (disch := omega) only [wY_commit_181, ss_a0, ss_b0, ss_c0, ss_d0, ss_e0, ss_a1, ss_b1, ss_c1, ss_d1, ss_e1, ss_a2, ss_b2, ss_c2, ss_d2, ss_e2, ss_a3, ss_b3, ss_c3, ss_d3, ss_e3, ss_a4, ss_b4, ss_c4, ss_d4, ss_e4, ss_a5, ss_b5, ss_c5, ss_d5, ss_e5, ss_a8, ss_b8, ss_c8, ss_d8, ss_e8, ss_a32, ss_b32, ss_c32, ss_d32, ss_e32, ss_a40, ss_b40, ss_c40, ss_d40, ss_e40, ss_a48, ss_b48, ss_c48, ss_d48, ss_e48, ss_a64, ss_b64, ss_c64, ss_d64, ss_e64, ss_m2, ss_m3, ss_m4, ss_m8, ss_p2, ss_p3, ss_p4, ss_p8, ss_48p, ss_in, nI_add, nI_1, nI_clamp, nI_leI, nI_ltI, nI_eq, forall_eq, true_and, and_true, hc]
        exact ⟨ht, fun z => absurd z (by omega), fun _ => ⟨by omega, fun _ => ⟨by omega, by omega, by omega, by omega, 4, st 3 0 _ (by omega) (st 2 1 _ (by omega) (st 1 2 _ (by omega) (l3 0)))⟩, fun z => absurd hg z⟩⟩
      · simp (disch := omega) only [wY_commit_181, ss_a0, ss_b0, ss_c0, ss_d0, ss_e0, ss_a1, ss_b1, ss_c1, ss_d1, ss_e1, ss_a2, ss_b2, ss_c2, ss_d2, ss_e2, ss_a3, ss_b3, ss_c3, ss_d3, ss_e3, ss_a4, ss_b4, ss_c4, ss_d4, ss_e4, ss_a5, ss_b5, ss_c5, ss_d5, ss_e5, ss_a8, ss_b8, ss_c8, ss_d8, ss_e8, ss_a32, ss_b32, ss_c32, ss_d32, ss_e32, ss_a40, ss_b40, ss_c40, ss_d40, ss_e40, ss_a48, ss_b48, ss_c48, ss_d48, ss_e48, ss_a64, ss_b64, ss_c64, ss_d64, ss_e64, ss_m2, ss_m3, ss_m4, ss_m8, ss_p2, ss_p3, ss_p4, ss_p8, ss_48p, ss_in, nI_add, nI_1, nI_clamp, nI_leI, nI_ltI, nI_eq, forall_eq, true_and, and_true, hc]
        refine ⟨ht, fun z => absurd z (by omega), fun _ => ⟨by omega, fun z => absurd z hg, fun _ => ih (i + 1) n vr vf vt vi (by omega) (by omega) ?_⟩⟩
        rw [ss_nwS, if_neg hg, List.append_nil]; exact hL
theorem ss_y127 {post : Int32 → SY → Prop} (hnv : nv ≤ 48) (ht : t < 4) (hc : a_changes t = nI c) (hc8 : c ≤ 8)
    (h : ∀ n (vr vf vt vi : Nat → Int32), ss_ls (ss_ve vr vf vt vi) n = (ss_ls (ss_ve a_vRow a_vFrom a_vTo a_vInt) nv).map (ss_clo (fun r => ss_ic a_changed r (8 * t) c) (nI cl)) ++ ss_nw a_changed a_change a_gone (8 * t) (nI cl) c → post 0 (nI n, nI cl, f_rows, f_seen, vr, vf, vt, vi, a_open, a_start, a_changes, a_changed, a_fresh, a_gone, a_change, a_column, a_low, a_high, a_sRow, a_sInt, a_kept)) :
    ∃ n127, wY_commit_127 post (nI t) (nI nv) (nI cl) f_rows f_seen n127 0 a_vRow a_vFrom a_vTo a_vInt a_open a_start a_changes a_changed a_fresh a_gone a_change a_column a_low a_high a_sRow a_sInt a_kept := by
  have key : ∀ f v (vt : Nat → Int32), v ≤ nv → nv < f + v → (∀ j, j < v → ss_ve a_vRow a_vFrom vt a_vInt j = ss_clo (fun r => ss_ic a_changed r (8 * t) c) (nI cl) (ss_ve a_vRow a_vFrom a_vTo a_vInt j)) → (∀ j, v ≤ j → vt j = a_vTo j) → wY_commit_127 post (nI t) (nI nv) (nI cl) f_rows f_seen f (nI v) a_vRow a_vFrom vt a_vInt a_open a_start a_changes a_changed a_fresh a_gone a_change a_column a_low a_high a_sRow a_sInt a_kept := by
    intro f
    induction f with
    | zero => intro v vt a b; omega
    | succ f ih =>
      intro v vt hv hf h1 h2
      have e0 := h2 v (Nat.le_refl _)
      have keep : ¬ (a_vTo v = 2147483647 ∧ ss_ic a_changed (a_vRow v) (8 * t) c = true) → v < nv → wY_commit_127 post (nI t) (nI nv) (nI cl) f_rows f_seen f (nI (v + 1)) a_vRow a_vFrom vt a_vInt a_open a_start a_changes a_changed a_fresh a_gone a_change a_column a_low a_high a_sRow a_sInt a_kept := by
        intro hn hlt
        refine ih (v + 1) vt (by omega) (by omega) (fun j hj => ?_) (fun j hj => h2 j (by omega))
        rcases (by omega : j < v ∨ j = v) with h' | rfl
        · exact h1 j h'
        · rw [ss_cloN hn]
          unfold ss_ve
          rw [e0]
      by_cases hlt : nv ≤ v
      · simp (disch := omega) only [wY_commit_127, ss_a0, ss_b0, ss_c0, ss_d0, ss_e0, ss_a1, ss_b1, ss_c1, ss_d1, ss_e1, ss_a2, ss_b2, ss_c2, ss_d2, ss_e2, ss_a3, ss_b3, ss_c3, ss_d3, ss_e3, ss_a4, ss_b4, ss_c4, ss_d4, ss_e4, ss_a5, ss_b5, ss_c5, ss_d5, ss_e5, ss_a8, ss_b8, ss_c8, ss_d8, ss_e8, ss_a32, ss_b32, ss_c32, ss_d32, ss_e32, ss_a40, ss_b40, ss_c40, ss_d40, ss_e40, ss_a48, ss_b48, ss_c48, ss_d48, ss_e48, ss_a64, ss_b64, ss_c64, ss_d64, ss_e64, ss_m2, ss_m3, ss_m4, ss_m8, ss_p2, ss_p3, ss_p4, ss_p8, ss_48p, ss_in, nI_add, nI_1, nI_clamp, nI_leI, nI_ltI, nI_eq, forall_eq, true_and, and_true]
        refine ⟨fun _ => ⟨c + 1, ?_⟩, fun z => absurd hlt z⟩
        refine ss_y181 (n0 := nv) (L0 := (ss_ls (ss_ve a_vRow a_vFrom a_vTo a_vInt) nv).map (ss_clo (fun r => ss_ic a_changed r (8 * t) c) (nI cl))) ht hc hc8 (by rw [List.length_map, ss_lsL]; exact hnv) h (c + 1) 0 nv a_vRow a_vFrom vt a_vInt (by omega) (by omega) ?_
        rw [ss_lsF, ss_lsC fun j hj => h1 j (by omega)]
        exact (List.append_nil _).symm
      · simp (disch := omega) only [wY_commit_127, ss_a0, ss_b0, ss_c0, ss_d0, ss_e0, ss_a1, ss_b1, ss_c1, ss_d1, ss_e1, ss_a2, ss_b2, ss_c2, ss_d2, ss_e2, ss_a3, ss_b3, ss_c3, ss_d3, ss_e3, ss_a4, ss_b4, ss_c4, ss_d4, ss_e4, ss_a5, ss_b5, ss_c5, ss_d5, ss_e5, ss_a8, ss_b8, ss_c8, ss_d8, ss_e8, ss_a32, ss_b32, ss_c32, ss_d32, ss_e32, ss_a40, ss_b40, ss_c40, ss_d40, ss_e40, ss_a48, ss_b48, ss_c48, ss_d48, ss_e48, ss_a64, ss_b64, ss_c64, ss_d64, ss_e64, ss_m2, ss_m3, ss_m4, ss_m8, ss_p2, ss_p3, ss_p4, ss_p8, ss_48p, ss_in, nI_add, nI_1, nI_clamp, nI_leI, nI_ltI, nI_eq, forall_eq, true_and, and_true, e0]
        refine ⟨fun z => absurd z hlt, fun _ => ⟨by omega, fun hn => ⟨by omega, ss_ycf ht hc hc8 ⟨fun z => keep ?_ (by omega), fun z => ⟨by omega, ?_⟩⟩⟩, fun hn => keep (fun z => hn z.1) (by omega)⟩⟩
        · rw [ss_icN] at z
          rw [z]; exact fun w => nomatch w.2
        · rw [ss_icN, Bool.not_eq_false] at z
          refine ih (v + 1) _ (by omega) (by omega) (fun j hj => ?_) (fun j hj => ?_)
          · rcases (by omega : j < v ∨ j = v) with h' | rfl
            · have : ss_ve a_vRow a_vFrom (upd vt v (nI cl)) a_vInt j = ss_ve a_vRow a_vFrom vt a_vInt j := by
                unfold ss_ve
                rw [pk_un (by omega)]
              rw [this]; exact h1 j h'
            · rw [ss_cloY ⟨hn, z⟩]
              unfold ss_ve
              rw [pk_us]
          · rw [pk_un (by omega)]; exact h2 j (by omega)
  exact ⟨nv + 1, key (nv + 1) 0 a_vTo (by omega) (by omega) (fun j hj => by omega) (fun _ _ => rfl)⟩
/-- the reference's commit -/
theorem ss_ycm {post : Int32 → SY → Prop} (hnv : nv ≤ 48) (ht : t < 4) (ho : ¬ a_open t = 0) (hc : a_changes t = nI c) (hc8 : c ≤ 8)
    (hz : ss_rl a_fresh a_gone (8 * t) c = 0 → post 0 (nI nv, nI cl, f_rows, f_seen, a_vRow, a_vFrom, a_vTo, a_vInt, upd a_open t 0, a_start, a_changes, a_changed, a_fresh, a_gone, a_change, a_column, a_low, a_high, a_sRow, a_sInt, a_kept))
    (hcf : 0 < ss_rl a_fresh a_gone (8 * t) c → (∃ i, i < c ∧ a_fresh (8 * t + i) = 0 ∧ ∃ y, y ∈ ss_ls (ss_ve a_vRow a_vFrom a_vTo a_vInt) nv ∧ ss_dq (a_changed (8 * t + i)) (a_start t) y) → post (-2) (nI nv, nI cl, f_rows, f_seen, a_vRow, a_vFrom, a_vTo, a_vInt, upd a_open t 0, a_start, a_changes, a_changed, a_fresh, a_gone, a_change, a_column, a_low, a_high, a_sRow, a_sInt, a_kept))
    (hF : 0 < ss_rl a_fresh a_gone (8 * t) c → (∀ i, i < c → a_fresh (8 * t + i) = 0 → ∀ y, y ∈ ss_ls (ss_ve a_vRow a_vFrom a_vTo a_vInt) nv → ¬ ss_dq (a_changed (8 * t + i)) (a_start t) y) → 40 < ss_gn a_gone (8 * t) c + (ss_ls (ss_ve a_vRow a_vFrom a_vTo a_vInt) nv).countP (ss_by a_open a_start a_changed t c) → post (-3) (nI nv, nI cl, f_rows, f_seen, a_vRow, a_vFrom, a_vTo, a_vInt, a_open, a_start, a_changes, a_changed, a_fresh, a_gone, a_change, a_column, a_low, a_high, a_sRow, a_sInt, a_kept))
    (hlen : ((ss_ls (ss_ve a_vRow a_vFrom a_vTo a_vInt) nv).filter (ss_lv (nI cl) (upd a_open t 0) a_start (-1))).length ≤ 48)
    (h : 0 < ss_rl a_fresh a_gone (8 * t) c → (∀ i, i < c → a_fresh (8 * t + i) = 0 → ∀ y, y ∈ ss_ls (ss_ve a_vRow a_vFrom a_vTo a_vInt) nv → ¬ ss_dq (a_changed (8 * t + i)) (a_start t) y) → ss_gn a_gone (8 * t) c + (ss_ls (ss_ve a_vRow a_vFrom a_vTo a_vInt) nv).countP (ss_by a_open a_start a_changed t c) ≤ 40 →
      ∀ n (vr vf vt vi : Nat → Int32), ss_ls (ss_ve vr vf vt vi) n = ((ss_ls (ss_ve a_vRow a_vFrom a_vTo a_vInt) nv).filter (ss_lv (nI cl) (upd a_open t 0) a_start (-1))).map (ss_clo (fun r => ss_ic a_changed r (8 * t) c) (nI (cl + 1))) ++ ss_nw a_changed a_change a_gone (8 * t) (nI (cl + 1)) c → post 0 (nI n, nI (cl + 1), f_rows, f_seen, vr, vf, vt, vi, upd a_open t 0, a_start, a_changes, a_changed, a_fresh, a_gone, a_change, a_column, a_low, a_high, a_sRow, a_sInt, a_kept)) :
    wpY_commit post (nI nv, nI cl, f_rows, f_seen, a_vRow, a_vFrom, a_vTo, a_vInt, a_open, a_start, a_changes, a_changed, a_fresh, a_gone, a_change, a_column, a_low, a_high, a_sRow, a_sInt, a_kept) (nI t) := by
  have rl := ss_rlL (cow := a_fresh) (gone := a_gone) (b := 8 * t) c
  have gl := ss_gnL (gone := a_gone) (b := 8 * t) c
  have cl56 : (ss_ls (ss_ve a_vRow a_vFrom a_vTo a_vInt) nv).countP (ss_by a_open a_start a_changed t c) ≤ nv := by
    have := List.countP_le_length (p := ss_by a_open a_start a_changed t c) (l := ss_ls (ss_ve a_vRow a_vFrom a_vTo a_vInt) nv)
    rw [ss_lsL] at this; exact this
  have k81 : (0 < ss_rl a_fresh a_gone (8 * t) c → ∀ i, i < c → a_fresh (8 * t + i) = 0 → ∀ y, y ∈ ss_ls (ss_ve a_vRow a_vFrom a_vTo a_vInt) nv → ¬ ss_dq (a_changed (8 * t + i)) (a_start t) y) → wY_commit_81 post (nI t) (nI (ss_rl a_fresh a_gone (8 * t) c)) (nI nv) (nI cl) f_rows f_seen a_vRow a_vFrom a_vTo a_vInt a_open a_start a_changes a_changed a_fresh a_gone a_change a_column a_low a_high a_sRow a_sInt a_kept := by
    intro hnc
    by_cases h0 : ss_rl a_fresh a_gone (8 * t) c = 0
    · simp (disch := omega) only [wY_commit_81, wY_commit_98, ss_a0, ss_b0, ss_c0, ss_d0, ss_e0, ss_a1, ss_b1, ss_c1, ss_d1, ss_e1, ss_a2, ss_b2, ss_c2, ss_d2, ss_e2, ss_a3, ss_b3, ss_c3, ss_d3, ss_e3, ss_a4, ss_b4, ss_c4, ss_d4, ss_e4, ss_a5, ss_b5, ss_c5, ss_d5, ss_e5, ss_a8, ss_b8, ss_c8, ss_d8, ss_e8, ss_a32, ss_b32, ss_c32, ss_d32, ss_e32, ss_a40, ss_b40, ss_c40, ss_d40, ss_e40, ss_a48, ss_b48, ss_c48, ss_d48, ss_e48, ss_a64, ss_b64, ss_c64, ss_d64, ss_e64, ss_m2, ss_m3, ss_m4, ss_m8, ss_p2, ss_p3, ss_p4, ss_p8, ss_48p, ss_in, nI_add, nI_1, nI_clamp, nI_leI, nI_ltI, nI_eq, forall_eq, true_and, and_true, ss_nb0]
      exact ⟨fun _ => ⟨ht, fun _ => hz h0, fun z => absurd h0 z⟩, fun z => absurd (by omega) z⟩
    · simp (disch := omega) only [wY_commit_81, ss_a0, ss_b0, ss_c0, ss_d0, ss_e0, ss_a1, ss_b1, ss_c1, ss_d1, ss_e1, ss_a2, ss_b2, ss_c2, ss_d2, ss_e2, ss_a3, ss_b3, ss_c3, ss_d3, ss_e3, ss_a4, ss_b4, ss_c4, ss_d4, ss_e4, ss_a5, ss_b5, ss_c5, ss_d5, ss_e5, ss_a8, ss_b8, ss_c8, ss_d8, ss_e8, ss_a32, ss_b32, ss_c32, ss_d32, ss_e32, ss_a40, ss_b40, ss_c40, ss_d40, ss_e40, ss_a48, ss_b48, ss_c48, ss_d48, ss_e48, ss_a64, ss_b64, ss_c64, ss_d64, ss_e64, ss_m2, ss_m3, ss_m4, ss_m8, ss_p2, ss_p3, ss_p4, ss_p8, ss_48p, ss_in, nI_add, nI_1, nI_clamp, nI_leI, nI_ltI, nI_eq, forall_eq, true_and, and_true]
      refine ⟨fun z => absurd z (by omega), fun _ => ss_yab (by omega) ht hc hc8 ?_⟩
      simp (disch := omega) only [wY_commit_98, ss_a0, ss_b0, ss_c0, ss_d0, ss_e0, ss_a1, ss_b1, ss_c1, ss_d1, ss_e1, ss_a2, ss_b2, ss_c2, ss_d2, ss_e2, ss_a3, ss_b3, ss_c3, ss_d3, ss_e3, ss_a4, ss_b4, ss_c4, ss_d4, ss_e4, ss_a5, ss_b5, ss_c5, ss_d5, ss_e5, ss_a8, ss_b8, ss_c8, ss_d8, ss_e8, ss_a32, ss_b32, ss_c32, ss_d32, ss_e32, ss_a40, ss_b40, ss_c40, ss_d40, ss_e40, ss_a48, ss_b48, ss_c48, ss_d48, ss_e48, ss_a64, ss_b64, ss_c64, ss_d64, ss_e64, ss_m2, ss_m3, ss_m4, ss_m8, ss_p2, ss_p3, ss_p4, ss_p8, ss_48p, ss_in, nI_add, nI_1, nI_clamp, nI_leI, nI_ltI, nI_eq, forall_eq, true_and, and_true, ss_nb0]
      refine ⟨fun hle => ⟨ht, fun z => absurd z h0, fun _ => ss_yfo (by omega) fun n vr vf vt vi hL => ?_⟩, fun hle => hF (by omega) (hnc (by omega)) (by omega)⟩
      have hn : n ≤ 48 := by
        have h1 := congrArg List.length hL
        rw [ss_lsL] at h1
        omega
      simp (disch := omega) only [ss_a0, ss_b0, ss_c0, ss_d0, ss_e0, ss_a1, ss_b1, ss_c1, ss_d1, ss_e1, ss_a2, ss_b2, ss_c2, ss_d2, ss_e2, ss_a3, ss_b3, ss_c3, ss_d3, ss_e3, ss_a4, ss_b4, ss_c4, ss_d4, ss_e4, ss_a5, ss_b5, ss_c5, ss_d5, ss_e5, ss_a8, ss_b8, ss_c8, ss_d8, ss_e8, ss_a32, ss_b32, ss_c32, ss_d32, ss_e32, ss_a40, ss_b40, ss_c40, ss_d40, ss_e40, ss_a48, ss_b48, ss_c48, ss_d48, ss_e48, ss_a64, ss_b64, ss_c64, ss_d64, ss_e64, ss_m2, ss_m3, ss_m4, ss_m8, ss_p2, ss_p3, ss_p4, ss_p8, ss_48p, ss_in, nI_add, nI_1, nI_clamp, nI_leI, nI_ltI, nI_eq, forall_eq, true_and, and_true]
      refine ss_y127 hn ht hc hc8 fun n' vr' vf' vt' vi' hL' => ?_
      rw [hL] at hL'
      exact h (by omega) (hnc (by omega)) hle n' vr' vf' vt' vi' hL'
  have k17 : ∀ f i, i ≤ c → c < f + i → wY_commit_17 post (nI t) (nI nv) (nI cl) f_rows f_seen a_vRow a_vFrom a_vTo a_vInt a_open a_start a_changes a_changed a_fresh a_gone a_change a_column a_low a_high a_sRow a_sInt a_kept f (nI (ss_rl a_fresh a_gone (8 * t) i)) (nI (8 * t + i)) := by
    intro f
    induction f with
    | zero => intro i a b; omega
    | succ f ih =>
      intro i hi hf
      have ri := ss_rlL (cow := a_fresh) (gone := a_gone) (b := 8 * t) i
      have st := ih (i + 1)
      rw [ss_rl] at st
      simp (disch := omega) only [wY_commit_17, ss_a0, ss_b0, ss_c0, ss_d0, ss_e0, ss_a1, ss_b1, ss_c1, ss_d1, ss_e1, ss_a2, ss_b2, ss_c2, ss_d2, ss_e2, ss_a3, ss_b3, ss_c3, ss_d3, ss_e3, ss_a4, ss_b4, ss_c4, ss_d4, ss_e4, ss_a5, ss_b5, ss_c5, ss_d5, ss_e5, ss_a8, ss_b8, ss_c8, ss_d8, ss_e8, ss_a32, ss_b32, ss_c32, ss_d32, ss_e32, ss_a40, ss_b40, ss_c40, ss_d40, ss_e40, ss_a48, ss_b48, ss_c48, ss_d48, ss_e48, ss_a64, ss_b64, ss_c64, ss_d64, ss_e64, ss_m2, ss_m3, ss_m4, ss_m8, ss_p2, ss_p3, ss_p4, ss_p8, ss_48p, ss_in, nI_add, nI_1, nI_clamp, nI_leI, nI_ltI, nI_eq, forall_eq, true_and, and_true, hc, ss_nb0]
      refine ⟨ht, fun z => ?_, fun z => ⟨by omega, fun hfr => ?_, fun hfr => ⟨by omega, fun hg => ?_, fun hg => ?_⟩⟩⟩
      · have e : i = c := by omega
        subst e
        refine ⟨fun z => k81 fun hp => by omega, fun z => ss_yco (by omega) ht hc hc8 (fun hex => ⟨fun z => absurd z (by decide), fun _ => ⟨ht, hcf (by omega) hex⟩⟩) (fun hno => ⟨fun _ => k81 fun _ => hno, fun z => absurd rfl z⟩)⟩
      · rw [if_neg (fun w => w.1 hfr)] at st; exact st (by omega) (by omega)
      · rw [if_neg (fun w => w.2 hg)] at st; exact st (by omega) (by omega)
      · rw [if_pos ⟨hfr, hg⟩] at st; exact st (by omega) (by omega)
  unfold wpY_commit
  refine ss_yo1 ht ho ⟨fun z => absurd z (by decide), fun _ => ?_⟩
  rw [ss_m8]
  exact nm_e ⟨c + 1, k17 (c + 1) 0 (by omega) (by omega)⟩
end
end
section
section
variable {cl rw t c : Nat} {op st chs cr cow gone : Nat → Int32} {A B L : List ss_V}
theorem ss_icq (TL : ss_Tl op st chs cr cow L) (ht : t < 4) (ho : ¬ op t = 0) (hc : chs t = nI c) (hc8 : c ≤ 8) {x : ss_V} (hx : x ∈ L) : ss_ic cr x.1 (8 * t) c = ss_q cr cow (8 * t) c x.1 := by
  rw [Bool.eq_iff_iff, ss_icT (by omega), ss_qT]
  constructor
  · rintro ⟨i, h1, h2, h3⟩
    obtain ⟨j, rfl⟩ : ∃ j, i = 8 * t + j := ⟨i - 8 * t, by omega⟩
    refine ⟨j, by omega, ?_, h3⟩
    by_cases z : cow (8 * t + j) = 0
    · exact z
    · exact absurd h3.symm ((TL t c ht ho hc hc8 j (by omega)).2 z x hx)
  · rintro ⟨j, h1, h2, h3⟩
    exact ⟨8 * t + j, by omega, by omega, h3⟩
/-- both sides see the same conflicts -/
theorem ss_cfq (hcl : cl ≤ 3072) (WA : ss_Wf cl rw A) (WB : ss_Wf cl rw B) (TA : ss_Tl op st chs cr cow A) (P : List.Perm (A.filter (ss_lv (nI cl) op st (-1))) (B.filter (ss_lv (nI cl) op st (-1)))) (ht : t < 4) (ho : ¬ op t = 0) (hc : chs t = nI c) (hc8 : c ≤ 8) {i : Nat} (hi : i < c) (hfr : cow (8 * t + i) = 0) :
    (∃ y, y ∈ A ∧ ss_dq (cr (8 * t + i)) (st t) y) ↔ ∃ y, y ∈ B ∧ ss_dq (cr (8 * t + i)) (st t) y := by
  obtain ⟨x, hx, er, hh⟩ := (TA t c ht ho hc hc8 i hi).1 hfr
  have hxB : x ∈ B := (List.mem_filter.mp (P.mem_iff.mp (List.mem_filter.mpr ⟨hx, ss_lvO ht ho hh⟩))).1
  rw [ss_cfl hcl WA hx er hh, ss_cfl hcl WB hxB er hh]
theorem ss_rlP {i : Nat} (hfr : cow (8 * t + i) = 0) : ∀ {c : Nat}, i < c → 0 < ss_rl cow gone (8 * t) c := by
  intro c
  induction c with
  | zero => intro h; omega
  | succ c ih =>
    intro h
    rw [ss_rl]
    rcases (by omega : i < c ∨ i = c) with h' | rfl
    · have := ih h'; omega
    · rw [if_neg (fun z => z.1 hfr)]; omega
theorem ss_bhC (hcl : cl + 1 ≤ 3072) (Tb : ss_Tb cl rw op st chs cr cow) (WA : ss_Wf cl rw A) (WB : ss_Wf cl rw B) (P : List.Perm (A.filter (ss_lv (nI cl) op st (-1))) (B.filter (ss_lv (nI cl) op st (-1)))) (ht : t < 4) (q : Int32 → Bool) : List.Perm (A.filter (ss_bh cl op st t q)) (B.filter (ss_bh cl op st t q)) :=
  ss_lrP P (fun x hx h => ss_G7v (ss_bhl hcl Tb ht (WA.1 x hx) h)) (fun x hx h => ss_G7v (ss_bhl hcl Tb ht (WB.1 x hx) h))
/-- the list behind a commit, forgotten first -/
theorem ss_Gs {p : ss_V → Bool} {f : ss_V → ss_V} {nw : List ss_V} : List.Sublist ((L.filter p).map f ++ nw) (L.map f ++ nw) := List.Sublist.append ((List.filter_sublist).map f) (List.Sublist.refl _)
theorem ss_Gw2 {ch gone : Nat → Int32} {p : ss_V → Bool} (hcl : cl + 1 ≤ 3072) (T : ss_Tb cl rw op st chs cr cow) (TL : ss_Tl op st chs cr cow L) (W : ss_Wf cl rw L) (ht : t < 4) (ho : ¬ op t = 0) (hc : chs t = nI c) (hc8 : c ≤ 8) :
    ss_Wf (cl + 1) rw ((L.filter p).map (ss_clo (ss_q cr cow (8 * t) c) (nI (cl + 1))) ++ ss_nw cr ch gone (8 * t) (nI (cl + 1)) c) := by
  have H := ss_G2w (ch := ch) (gone := gone) hcl T TL W ht ho hc hc8
  exact ⟨fun x hx => H.1 x (ss_Gs.subset hx), H.2.sublist ss_Gs⟩
theorem ss_Gl2 {ch gone : Nat → Int32} (hcl : cl + 1 ≤ 3072) (T : ss_Tb cl rw op st chs cr cow) (TL : ss_Tl op st chs cr cow L) (ht : t < 4) (ho : ¬ op t = 0) (hc : chs t = nI c) (hc8 : c ≤ 8) :
    ss_Tl (upd op t 0) st chs cr cow ((L.filter (ss_lv (nI cl) (upd op t 0) st (-1))).map (ss_clo (ss_q cr cow (8 * t) c) (nI (cl + 1))) ++ ss_nw cr ch gone (8 * t) (nI (cl + 1)) c) := by
  have H := ss_G2l (ch := ch) (gone := gone) hcl T TL ht ho hc hc8
  have TU : ss_Tl (upd op t 0) st chs cr cow (L.filter (ss_lv (nI cl) (upd op t 0) st (-1))) := ss_G1t (List.Perm.refl _) (ss_G7l TL)
  intro t1 c1 h1 h2 h3 h4 i hi
  refine ⟨fun z => ?_, fun z x hx => (H t1 c1 h1 h2 h3 h4 i hi).2 z x (ss_Gs.subset hx)⟩
  obtain ⟨x, hx, e1, e2⟩ := (TU t1 c1 h1 h2 h3 h4 i hi).1 z
  have e : t1 ≠ t := by rintro rfl; rw [pk_us] at h2; exact h2 rfl
  rw [pk_un e] at h2
  refine ⟨_, List.mem_append_left _ (List.mem_map_of_mem hx), by rw [ss_clo1.1]; exact e1, ?_⟩
  obtain ⟨⟨s, hs, es⟩, -⟩ := T t1 h1 h2
  rw [es] at e2 ⊢
  rw [ss_clh hcl hs]; exact e2
end
theorem ss_rcm {k t c na' n : Nat} {to dr df dt dv vr vf vt vi : Nat → Int32} (sg : Nat) (na : Nat) (N : Nat) (cl : Nat) (rw : Nat) (nv : Nat) (wv : Nat → Int32) (f_kept : Int32) (f_many : Int32) (f_seen : Int32) (a_row : Nat → Int32) (a_from : Nat → Int32) (a_to : Nat → Int32) (a_held : Nat → Int32) (a_sort : Nat → Int32) (a_bits : Nat → Int32) (a_base : Nat → Int32) (a_least : Nat → Int32) (a_greatest : Nat → Int32) (a_words : Nat → Int64) (a_dictionary : Nat → Int32) (a_dRow : Nat → Int32) (a_dFrom : Nat → Int32) (a_dTo : Nat → Int32) (a_dValue : Nat → Int32) (a_wRow : Nat → Int32) (a_wFrom : Nat → Int32) (a_wTo : Nat → Int32) (a_wValue : Nat → Int32) (a_open : Nat → Int32) (a_start : Nat → Int32) (a_changed : Nat → Int32) (a_change : Nat → Int32) (a_changes : Nat → Int32) (a_fresh : Nat → Int32) (a_gone : Nat → Int32) (a_column : Nat → Int32) (a_low : Nat → Int32) (a_high : Nat → Int32) (a_found : Nat → Int32) (a_value : Nat → Int32) (a_vRow : Nat → Int32) (a_vFrom : Nat → Int32) (a_vTo : Nat → Int32) (a_vInt : Nat → Int32) (a_sRow : Nat → Int32) (a_sInt : Nat → Int32) (a_kept : Nat → Int32) (hk : k + 6 ≤ 3072) (R : ss_RR k sg na N cl rw nv wv a_row a_from a_to a_held a_sort a_bits a_base a_least a_greatest a_words a_dictionary a_dRow a_dFrom a_dTo a_dValue a_open a_start a_changed a_change a_changes a_fresh a_gone a_column a_low a_high a_vRow a_vFrom a_vTo a_vInt) (ht : t < 4) (ho : ¬ a_open t = 0) (hc : a_changes t = nI c) (hc8 : c ≤ 8)
    (h40 : (ss_ls (ss_ve a_row a_from a_to wv) N ++ ss_ls (ss_ve a_dRow a_dFrom a_dTo a_dValue) na).countP (ss_bh cl a_open a_start t (ss_q a_changed a_fresh (8 * t) c)) + ss_gn a_gone (8 * t) c ≤ 40) (hna' : na' ≤ 32)
    (EX : ss_ls (ss_ve a_row a_from to wv) N ++ ss_ls (ss_ve dr df dt dv) na' = (ss_ls (ss_ve a_row a_from a_to wv) N ++ ss_ls (ss_ve a_dRow a_dFrom a_dTo a_dValue) na).map (ss_clo (ss_q a_changed a_fresh (8 * t) c) (nI (cl + 1))) ++ ss_nw a_changed a_change a_gone (8 * t) (nI (cl + 1)) c)
    (EY : ss_ls (ss_ve vr vf vt vi) n = ((ss_ls (ss_ve a_vRow a_vFrom a_vTo a_vInt) nv).filter (ss_lv (nI cl) (upd a_open t 0) a_start (-1))).map (ss_clo (fun r => ss_ic a_changed r (8 * t) c) (nI (cl + 1))) ++ ss_nw a_changed a_change a_gone (8 * t) (nI (cl + 1)) c) :
    ss_RR (k + 6) sg na' N (cl + 1) rw n wv a_row a_from to a_held a_sort a_bits a_base a_least a_greatest a_words a_dictionary dr df dt dv (upd a_open t 0) a_start a_changed a_change a_changes a_fresh a_gone a_column a_low a_high vr vf vt vi := by
  obtain ⟨r1, r2, r3, r4, r5, r6, r7, r8, r9, r10, r11, r12, r13, r14⟩ := R
  have hcl : cl + 1 ≤ 3072 := by omega
  generalize hV : ss_ls (ss_ve a_row a_from a_to wv) N ++ ss_ls (ss_ve a_dRow a_dFrom a_dTo a_dValue) na = V at *
  generalize hU : ss_ls (ss_ve a_vRow a_vFrom a_vTo a_vInt) nv = U at *
  -- the reference's list, forgotten first
  have eclo : (U.filter (ss_lv (nI cl) (upd a_open t 0) a_start (-1))).map (ss_clo (fun r => ss_ic a_changed r (8 * t) c) (nI (cl + 1))) = (U.filter (ss_lv (nI cl) (upd a_open t 0) a_start (-1))).map (ss_clo (ss_q a_changed a_fresh (8 * t) c) (nI (cl + 1))) := by
    refine List.map_congr_left fun x hx => ?_
    have e := ss_icq r12 ht ho hc hc8 (List.mem_filter.mp hx).1
    by_cases hz : x.2.2.1 = 2147483647 ∧ ss_q a_changed a_fresh (8 * t) c x.1 = true
    · rw [ss_cloY hz, ss_cloY (q := fun r => ss_ic a_changed r (8 * t) c) ⟨hz.1, e.trans hz.2⟩]
    · rw [ss_cloN hz, ss_cloN (q := fun r => ss_ic a_changed r (8 * t) c) (fun w => hz ⟨w.1, e.symm.trans w.2⟩)]
  rw [eclo] at EY
  have pb := ss_bhC hcl r10 r8 r9 r13 ht (ss_q a_changed a_fresh (8 * t) c)
  have fb : U.filter (ss_bh cl a_open a_start t (ss_q a_changed a_fresh (8 * t) c)) = (U.filter (ss_lv (nI cl) (upd a_open t 0) a_start (-1))).filter (ss_bh cl a_open a_start t (ss_q a_changed a_fresh (8 * t) c)) := ss_fsub fun x hx h => ss_bhl hcl r10 ht (r9.1 x hx) h
  have hlen : n ≤ 48 := by
    have h1 := congrArg List.length EY
    rw [ss_lsL, List.length_append, List.length_map, ss_nwN, ← List.countP_eq_length_filter] at h1
    have h2 := ss_gnL (gone := a_gone) (b := 8 * t) c
    have h3 : U.countP (ss_lv (nI cl) (upd a_open t 0) a_start (-1)) ≤ U.countP (ss_lv (nI cl) a_open a_start (-1)) := List.countP_mono_left fun x _ h => ss_G7v h
    have h4 : V.countP (ss_lv (nI cl) a_open a_start (-1)) = U.countP (ss_lv (nI cl) a_open a_start (-1)) := ss_lrC r13 (fun x _ h => h) (fun x _ h => h)
    omega
  refine ⟨by omega, by omega, r3, r4, hna', hlen, r7, ?_, ?_, ss_G2b r10, ?_, ?_, ?_, ?_⟩
  · rw [EX]; exact ss_G2w hcl r10 r11 r8 ht ho hc hc8
  · rw [EY]; exact ss_Gw2 hcl r10 r12 r9 ht ho hc hc8
  · rw [EX]; exact ss_G2l hcl r10 r11 ht ho hc hc8
  · rw [EY]; exact ss_Gl2 hcl r10 r12 ht ho hc hc8
  · rw [EX, EY, ss_mapF hcl, ss_mapF hcl, ← fb]
    exact (pb.map _).append_right _
  · rw [EX, ss_mapC hcl, ss_nwN]; exact h40
theorem i_vc_commit {k : Nat} {u : SX} {v : SY} (I : i_Rel k u v) (hk : k + 6 ≤ 3072) (v1 : Int32) : wpX_commit (fun r u' => wpY_commit (fun r' v' => r' = r ∧ i_Rel (k + 6) u' v') v v1) u v1 := by
  refine ss_re (P := fun u v => wpX_commit (fun r u' => wpY_commit (fun r' v' => r' = r ∧ i_Rel (k + 6) u' v') v v1) u v1) ?_ I
  intro sg na N cl rw nv wv f_kept f_many f_seen a_row a_from a_to a_held a_sort a_bits a_base a_least a_greatest a_words a_dictionary a_dRow a_dFrom a_dTo a_dValue a_wRow a_wFrom a_wTo a_wValue a_open a_start a_changed a_change a_changes a_fresh a_gone a_column a_low a_high a_found a_value a_vRow a_vFrom a_vTo a_vInt a_sRow a_sInt a_kept R
  have same : i_Rel (k + 6) (nI sg, nI na, f_kept, nI cl, nI rw, f_many, a_row, a_from, a_to, a_held, a_sort, a_bits, a_base, a_least, a_greatest, a_words, a_dictionary, a_dRow, a_dFrom, a_dTo, a_dValue, a_wRow, a_wFrom, a_wTo, a_wValue, a_open, a_start, a_changed, a_change, a_changes, a_fresh, a_gone, a_column, a_low, a_high, a_found, a_value) (nI nv, nI cl, nI rw, f_seen, a_vRow, a_vFrom, a_vTo, a_vInt, a_open, a_start, a_changes, a_changed, a_fresh, a_gone, a_change, a_column, a_low, a_high, a_sRow, a_sInt, a_kept) := ss_ri sg na N cl rw nv wv f_kept f_many f_seen a_row a_from a_to a_held a_sort a_bits a_base a_least a_greatest a_words a_dictionary a_dRow a_dFrom a_dTo a_dValue a_wRow a_wFrom a_wTo a_wValue a_open a_start a_changed a_change a_changes a_fresh a_gone a_column a_low a_high a_found a_value a_vRow a_vFrom a_vTo a_vInt a_sRow a_sInt a_kept (ss_rup sg na N cl rw nv wv f_kept f_many f_seen a_row a_from a_to a_held a_sort a_bits a_base a_least a_greatest a_words a_dictionary a_dRow a_dFrom a_dTo a_dValue a_wRow a_wFrom a_wTo a_wValue a_open a_start a_changed a_change a_changes a_fresh a_gone a_column a_low a_high a_found a_value a_vRow a_vFrom a_vTo a_vInt a_sRow a_sInt a_kept (by omega) R)
  rcases ss_oc a_open v1 with hc | ⟨t, ht, rfl, ho⟩
  · unfold wpX_commit
    refine ss_xo0 hc ⟨fun _ => ?_, fun z => absurd rfl z⟩
    unfold wpY_commit
    exact ss_yo0 hc ⟨fun _ => ⟨rfl, same⟩, fun z => absurd rfl z⟩
  · have R' := R
    obtain ⟨r1, r2, r3, r4, r5, r6, r7, r8, r9, r10, r11, r12, r13, r14⟩ := R'
    obtain ⟨-, c, hc8, hc, -⟩ := r10 t ht ho
    have hcl : cl + 1 ≤ 3072 := by omega
    have cfq : ∀ i, i < c → a_fresh (8 * t + i) = 0 → _ := fun i hi hfr => ss_cfq (show cl ≤ 3072 by omega) r8 r9 r11 r13 ht ho hc hc8 hi hfr
    have cnt : (ss_ls (ss_ve a_vRow a_vFrom a_vTo a_vInt) nv).countP (ss_by a_open a_start a_changed t c) = (ss_ls (ss_ve a_row a_from a_to wv) N ++ ss_ls (ss_ve a_dRow a_dFrom a_dTo a_dValue) na).countP (ss_bh cl a_open a_start t (ss_q a_changed a_fresh (8 * t) c)) := by
      have e1 : (ss_ls (ss_ve a_vRow a_vFrom a_vTo a_vInt) nv).countP (ss_by a_open a_start a_changed t c) = (ss_ls (ss_ve a_vRow a_vFrom a_vTo a_vInt) nv).countP (ss_bh cl a_open a_start t (ss_q a_changed a_fresh (8 * t) c)) := ss_ccg fun x hx => ss_bhY hcl r10 r12 ht ho hc hc8 hx (r9.1 x hx)
      rw [e1, List.countP_eq_length_filter, List.countP_eq_length_filter]
      exact (ss_bhC hcl r10 r8 r9 r13 ht _).length_eq.symm
    have hlen : ((ss_ls (ss_ve a_vRow a_vFrom a_vTo a_vInt) nv).filter (ss_lv (nI cl) (upd a_open t 0) a_start (-1))).length ≤ 48 := by
      have := List.length_filter_le (ss_lv (nI cl) (upd a_open t 0) a_start (-1)) (ss_ls (ss_ve a_vRow a_vFrom a_vTo a_vInt) nv)
      rw [ss_lsL] at this; omega
    have closed : ∀ fk fm fs, i_Rel (k + 6) (nI sg, nI na, fk, nI cl, nI rw, fm, a_row, a_from, a_to, a_held, a_sort, a_bits, a_base, a_least, a_greatest, a_words, a_dictionary, a_dRow, a_dFrom, a_dTo, a_dValue, a_wRow, a_wFrom, a_wTo, a_wValue, upd a_open t 0, a_start, a_changed, a_change, a_changes, a_fresh, a_gone, a_column, a_low, a_high, a_found, a_value) (nI nv, nI cl, nI rw, fs, a_vRow, a_vFrom, a_vTo, a_vInt, upd a_open t 0, a_start, a_changes, a_changed, a_fresh, a_gone, a_change, a_column, a_low, a_high, a_sRow, a_sInt, a_kept) := fun fk fm fs => ss_rj (ss_rab sg na N cl rw nv wv f_kept f_many f_seen a_row a_from a_to a_held a_sort a_bits a_base a_least a_greatest a_words a_dictionary a_dRow a_dFrom a_dTo a_dValue a_wRow a_wFrom a_wTo a_wValue a_open a_start a_changed a_change a_changes a_fresh a_gone a_column a_low a_high a_found a_value a_vRow a_vFrom a_vTo a_vInt a_sRow a_sInt a_kept R)
    -- no conflict for the component: none for the reference
    have noc : (∀ i, i < c → a_fresh (8 * t + i) = 0 → ∃ x, x ∈ ss_ls (ss_ve a_row a_from a_to wv) N ++ ss_ls (ss_ve a_dRow a_dFrom a_dTo a_dValue) na ∧ x.1 = a_changed (8 * t + i) ∧ x.2.2.1 = 2147483647 ∧ ss_h x.2.1 x.2.2.1 (a_start t) = true) → ¬ ∃ i, i < c ∧ a_fresh (8 * t + i) = 0 ∧ ∃ y, y ∈ ss_ls (ss_ve a_vRow a_vFrom a_vTo a_vInt) nv ∧ ss_dq (a_changed (8 * t + i)) (a_start t) y := by
      rintro hNC ⟨i, hi, hfr, hy⟩
      obtain ⟨x, hx, e1, e2, e3⟩ := hNC i hi hfr
      exact (ss_cfl (show cl ≤ 3072 by omega) r8 hx e1 e3).mp ((cfq i hi hfr).mpr hy) e2
    refine ss_xc23 hcl r3 r4 r5 r8 r10 r11 r14 ht ho hc hc8 (fun i hi hfr hd => ?_) (fun h0 => ?_) (fun hNC hrl h40 => ?_) (fun hNC hrl h40 h32 => ?_) (fun hNC hrl h40 sg' kp ro fr to he so bi ba le gr wr wf wt wl ws ds hkp S C P => ?_)
    · -- a conflict
      have hrl : 0 < ss_rl a_fresh a_gone (8 * t) c := ss_rlP hfr hi
      have hyc : ∃ i, i < c ∧ a_fresh (8 * t + i) = 0 ∧ ∃ y, y ∈ ss_ls (ss_ve a_vRow a_vFrom a_vTo a_vInt) nv ∧ ss_dq (a_changed (8 * t + i)) (a_start t) y := ⟨i, hi, hfr, (cfq i hi hfr).mp hd⟩
      refine ss_ycm r6 ht ho hc hc8 (fun z => by omega) (fun _ _ => ⟨rfl, closed _ _ _⟩) (fun _ hno => ?_) hlen (fun _ hno => ?_)
      · obtain ⟨i', hi', hfr', y, hy, hdy⟩ := hyc
        exact absurd hdy (hno i' hi' hfr' y hy)
      · obtain ⟨i', hi', hfr', y, hy, hdy⟩ := hyc
        exact absurd hdy (hno i' hi' hfr' y hy)
    · -- nothing to do
      exact ss_ycm r6 ht ho hc hc8 (fun _ => ⟨rfl, closed _ _ _⟩) (fun z => by omega) (fun z => by omega) hlen (fun z => by omega)
    · -- no room
      refine ss_ycm r6 ht ho hc hc8 (fun z => by omega) (fun _ hex => absurd hex (noc hNC)) (fun _ _ _ => ⟨rfl, same⟩) hlen (fun _ _ hle => ?_)
      rw [cnt] at hle; omega
    · -- into the delta
      refine ss_xc192 hcl r3 r8 r10 ht ho hc hc8 h32 (fun i hi hfr => ?_) fun na' to dr df dt dv hna' EX => ?_
      · obtain ⟨x, a, b, d, -⟩ := hNC i hi hfr
        exact ⟨x, a, b, d⟩
      · refine ss_ycm r6 ht ho hc hc8 (fun z => by omega) (fun _ hex => absurd hex (noc hNC)) (fun _ _ h => ?_) hlen (fun _ _ _ n vr vf vt vi EY => ⟨rfl, ss_rj (ss_rcm sg na N cl rw nv wv f_kept f_many f_seen a_row a_from a_to a_held a_sort a_bits a_base a_least a_greatest a_words a_dictionary a_dRow a_dFrom a_dTo a_dValue a_wRow a_wFrom a_wTo a_wValue a_open a_start a_changed a_change a_changes a_fresh a_gone a_column a_low a_high a_found a_value a_vRow a_vFrom a_vTo a_vInt a_sRow a_sInt a_kept hk R ht ho hc hc8 h40 hna' EX EY)⟩)
        rw [cnt] at h; omega
    · -- repacked first
      have R2 := ss_rpk sg na N cl rw nv wv f_kept f_many f_seen a_row a_from a_to a_held a_sort a_bits a_base a_least a_greatest a_words a_dictionary a_dRow a_dFrom a_dTo a_dValue a_wRow a_wFrom a_wTo a_wValue a_open a_start a_changed a_change a_changes a_fresh a_gone a_column a_low a_high a_found a_value a_vRow a_vFrom a_vTo a_vInt a_sRow a_sInt a_kept R hkp S C P
      have R3 := R2
      obtain ⟨q1, q2, q3, q4, q5, q6, q7, q8, q9, q10, q11, q12, q13, q14⟩ := R3
      have h40' : (ss_ls (ss_ve ro fr to wl) kp ++ ss_ls (ss_ve a_dRow a_dFrom a_dTo a_dValue) 0).countP (ss_bh cl a_open a_start t (ss_q a_changed a_fresh (8 * t) c)) + ss_gn a_gone (8 * t) c ≤ 40 := by
        have e1 := (ss_bhC hcl r10 r8 r9 r13 ht (ss_q a_changed a_fresh (8 * t) c)).length_eq
        have e2 := (ss_bhC hcl q10 q8 q9 q13 ht (ss_q a_changed a_fresh (8 * t) c)).length_eq
        rw [← List.countP_eq_length_filter, ← List.countP_eq_length_filter] at e1 e2
        omega
      have gl := ss_gnL (gone := a_gone) (b := 8 * t) c
      refine ss_xc192 (na := 0) hcl q3 q8 q10 ht ho hc hc8 (by omega) (fun i hi hfr => ?_) fun na' to' dr df dt dv hna' EX => ?_
      · obtain ⟨x, a, b, d, e⟩ := hNC i hi hfr
        have hxU : x ∈ ss_ls (ss_ve a_vRow a_vFrom a_vTo a_vInt) nv := (List.mem_filter.mp (r13.mem_iff.mp (List.mem_filter.mpr ⟨a, ss_lvO ht ho e⟩))).1
        exact ⟨x, (List.mem_filter.mp (q13.mem_iff.mpr (List.mem_filter.mpr ⟨hxU, ss_lvO ht ho e⟩))).1, b, d⟩
      · refine ss_ycm r6 ht ho hc hc8 (fun z => by omega) (fun _ hex => absurd hex (noc hNC)) (fun _ _ h => ?_) hlen (fun _ _ _ n vr vf vt vi EY => ⟨rfl, ss_rj (ss_rcm _ _ _ _ _ _ _ f_kept f_many f_seen _ _ _ _ _ _ _ _ _ _ _ _ _ _ _ a_wRow a_wFrom a_wTo a_wValue _ _ _ _ _ _ _ _ _ _ a_found a_value _ _ _ _ a_sRow a_sInt a_kept hk R2 ht ho hc hc8 h40' hna' EX EY)⟩)
        rw [cnt] at h; omega
end
