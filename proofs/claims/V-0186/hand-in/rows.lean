section
/-! pure rows to paste: stores, nI and lN arithmetic, masks, shifts, narrowing, branches by naturals (pk_le, pk_lt, pk_eq), loops (lp1 .. lp16: the measure of the state; rp1 ..: recursion), negatives. Take what you need -/
theorem pk_us {f : Nat → Int32} {k : Nat} {x : Int32} : upd f k x k = x := if_pos rfl
theorem pk_un {f : Nat → Int32} {k j : Nat} {x : Int32} (h : j ≠ k) : upd f k x j = f j := if_neg h
theorem pk_uLs {f : Nat → Int64} {k : Nat} {x : Int64} : vp_updL f k x k = x := if_pos rfl
theorem pk_uLn {f : Nat → Int64} {k j : Nat} {x : Int64} (h : j ≠ k) : vp_updL f k x j = f j := if_neg h
theorem pk_sub {a b : Nat} (h : b ≤ a) : nI a - nI b = nI (a - b) := by
  obtain ⟨c, rfl⟩ : ∃ c, a = c + b := ⟨a - b, by omega⟩
  rw [← nI_add, Int32.add_sub_cancel, Nat.add_sub_cancel]
theorem pk_m1 (n : Nat) : nI (n + 1) + (-1) = nI n := by
  rw [← nI_1, Int32.add_assoc, show (1 : Int32) + (-1) = 0 from rfl, Int32.add_zero]
theorem pk_mul (a b : Nat) : nI a * nI b = nI (a * b) := (Int32.ofNat_mul a b).symm
theorem pk_div {a d : Nat} (ha : a < 2 ^ 31) (h0 : 0 < d) (hd : d < 2 ^ 31) : nI a / nI d = nI (a / d) := by
  apply Int32.toInt_inj.mp
  rw [lg_idiv_nonneg (by rw [nI_toInt ha]; omega) (by rw [nI_toInt hd]; omega), nI_toInt ha, nI_toInt hd, nI_toInt (Nat.lt_of_le_of_lt (Nat.div_le_self a d) ha)]
  first | rfl | exact (Int.natCast_ediv _ _).symm
theorem pk_rem {a d : Nat} (ha : a < 2 ^ 31) (h0 : 0 < d) (hd : d < 2 ^ 31) : nI a - nI a / nI d * nI d = nI (a % d) := by
  rw [pk_div ha h0 hd, pk_mul, pk_sub (Nat.div_mul_le_self a d)]
  exact congrArg nI (by have := Nat.div_add_mod' a d; omega)
theorem pk_sub_toInt {a b : Nat} (ha : a < 2 ^ 30) (hb : b < 2 ^ 30) : (nI a - nI b).toInt = (a : Int) - b := by
  rw [Int32.toInt_sub, nI_toInt (by omega), nI_toInt (by omega)]
  exact Int.bmod_eq_of_le (by omega) (by omega)
theorem pk_sneg {a b : Nat} (hb : b < 2 ^ 30) (h : a < b) : nI a - nI b < 0 := by
  rw [Int32.lt_iff_toInt_lt, pk_sub_toInt (by omega) hb, show (0 : Int32).toInt = 0 from by decide]
  omega
theorem pk_ix (x : Int32) {n : Nat} (hn : n < 2 ^ 31) : x < 0 ∨ nI n ≤ x ∨ ∃ j : Nat, j < n ∧ x = nI j := by
  by_cases h : x < 0
  · exact Or.inl h
  · obtain ⟨j, hj, rfl⟩ := nI_of h
    by_cases h2 : j < n
    · exact Or.inr (Or.inr ⟨j, h2, rfl⟩)
    · exact Or.inr (Or.inl (nI_le (by omega) hj))
theorem pk_le {x y : Int32} {A B : Prop} (a b : Nat) (f : a ≤ b → A) (g : b < a → B) (hx : x = nI a := by rfl) (hy : y = nI b := by rfl) (ha : a < 2 ^ 31 := by omega) (hb : b < 2 ^ 31 := by omega) : (x ≤ y → A) ∧ (¬ x ≤ y → B) := by
  subst hx hy
  rw [nI_leI ha hb]
  exact ⟨f, fun z => g (by omega)⟩
theorem pk_lt {x y : Int32} {A B : Prop} (a b : Nat) (f : a < b → A) (g : b ≤ a → B) (hx : x = nI a := by rfl) (hy : y = nI b := by rfl) (ha : a < 2 ^ 31 := by omega) (hb : b < 2 ^ 31 := by omega) : (x < y → A) ∧ (¬ x < y → B) := by
  subst hx hy
  rw [nI_ltI ha hb]
  exact ⟨f, fun z => g (by omega)⟩
theorem pk_eq {x y : Int32} {A B : Prop} (a b : Nat) (f : a = b → A) (g : a ≠ b → B) (hx : x = nI a := by rfl) (hy : y = nI b := by rfl) (ha : a < 2 ^ 31 := by omega) (hb : b < 2 ^ 31 := by omega) : (x = y → A) ∧ (¬ x = y → B) := by
  subst hx hy
  rw [nI_eq ha hb]
  exact ⟨f, g⟩
theorem pk_in {x : Int32} (n N : Nat) (h : n < N) (hx : x = nI n := by rfl) (hN : N < 2 ^ 31 := by omega) : vp_in x N := by
  subst hx
  exact vp_in_nI h hN
theorem pk_cl {x : Int32} (n : Nat) (hx : x = nI n := by rfl) (h : n < 2 ^ 31 := by omega) : x.toNatClampNeg = n := by
  subst hx
  exact nI_clamp h
theorem pk_tn {n : Nat} (h : n < 2 ^ 32) : (nI n).toBitVec.toNat = n := Nat.mod_eq_of_lt h
theorem pk_and (x : Int32) {m : Int32} (k : Nat) (hm : m.toBitVec.toNat = 2 ^ k - 1) : x &&& m = nI (x.toBitVec.toNat % 2 ^ k) := by
  apply Int32.toBitVec_inj.mp
  apply BitVec.eq_of_toNat_eq
  rw [Int32.toBitVec_and, BitVec.toNat_and, hm, Nat.and_two_pow_sub_one_eq_mod]
  show _ = (BitVec.ofNat 32 _).toNat
  rw [BitVec.toNat_ofNat]
  exact (Nat.mod_eq_of_lt (Nat.lt_of_le_of_lt (Nat.mod_le _ _) x.toBitVec.isLt)).symm
theorem pk_andN {n : Nat} (h : n < 2 ^ 32) {m : Int32} (k : Nat) (hm : m.toBitVec.toNat = 2 ^ k - 1) : nI n &&& m = nI (n % 2 ^ k) := by
  rw [pk_and _ k hm, pk_tn h]
theorem pk_andE (x : Int32) {m : Int32} (k : Nat) (hm : m.toBitVec.toNat = 2 ^ k - 1) : ∃ j : Nat, j < 2 ^ k ∧ x &&& m = nI j := ⟨_, Nat.mod_lt _ (Nat.two_pow_pos k), pk_and x k hm⟩
theorem pk_andIn (x : Int32) {m : Int32} (k : Nat) (hm : m.toBitVec.toNat = 2 ^ k - 1) (hk : k ≤ 30) : vp_in (x &&& m) (2 ^ k) := by
  obtain ⟨j, hj, e⟩ := pk_andE x k hm
  rw [e]
  exact vp_in_nI hj (Nat.lt_of_le_of_lt (Nat.pow_le_pow_right (by decide) hk) (by decide))
theorem pk_shl (a s : Int32) (k : Nat) (hs : (s.toBitVec.smod 32).toNat = k) : (a <<< s).toBitVec.toNat = a.toBitVec.toNat * 2 ^ k % 2 ^ 32 := by
  show (a.toBitVec <<< (s.toBitVec.smod 32).toNat).toNat = _
  rw [hs, BitVec.toNat_shiftLeft, Nat.shiftLeft_eq]
theorem pk_shlN {n : Nat} (s : Int32) (k : Nat) (hs : (s.toBitVec.smod 32).toNat = k) (h : n * 2 ^ k < 2 ^ 32) : nI n <<< s = nI (n * 2 ^ k) := by
  apply Int32.toBitVec_inj.mp
  apply BitVec.eq_of_toNat_eq
  have hn : n < 2 ^ 32 := Nat.lt_of_le_of_lt (Nat.le_mul_of_pos_right n (Nat.two_pow_pos k)) h
  rw [pk_shl _ _ k hs, pk_tn hn, pk_tn h, Nat.mod_eq_of_lt h]
theorem pk_shr (a s : Int32) (k : Nat) (hs : (s.toBitVec.smod 32).toNat = k) : (a >>> s).toInt = a.toInt >>> k := by
  show (a.toBitVec.sshiftRight (s.toBitVec.smod 32).toNat).toInt = _
  rw [hs, BitVec.toInt_sshiftRight]
  rfl
theorem pk_shrN {n : Nat} (h : n < 2 ^ 31) (s : Int32) (k : Nat) (hs : (s.toBitVec.smod 32).toNat = k) : nI n >>> s = nI (n / 2 ^ k) := by
  apply Int32.toInt_inj.mp
  have h2 : n / 2 ^ k ≤ n := Nat.div_le_self _ _
  rw [pk_shr _ _ k hs, nI_toInt h, nI_toInt (by omega), Int.shiftRight_eq_div_pow]
  rfl
theorem pk_ushr (x s : Int32) (k : Nat) (hs : ((s.toUInt32 &&& Int32.toUInt32 31).toBitVec % 32).toNat = k) : (x.toUInt32 >>> (s.toUInt32 &&& Int32.toUInt32 31)).toInt32.toBitVec.toNat = x.toBitVec.toNat / 2 ^ k := by
  have e : (x.toUInt32 >>> (s.toUInt32 &&& Int32.toUInt32 31)).toInt32.toBitVec = x.toBitVec >>> k := by
    rw [← hs]
    exact UInt32.toBitVec_shiftRight _ _
  rw [e, BitVec.toNat_ushiftRight, Nat.shiftRight_eq_div_pow]
theorem pk_ushrN {n : Nat} (hn : n < 2 ^ 32) (s : Int32) (k : Nat) (hs : ((s.toUInt32 &&& Int32.toUInt32 31).toBitVec % 32).toNat = k) : ((nI n).toUInt32 >>> (s.toUInt32 &&& Int32.toUInt32 31)).toInt32 = nI (n / 2 ^ k) := by
  apply Int32.toBitVec_inj.mp
  apply BitVec.eq_of_toNat_eq
  rw [pk_ushr _ s k hs, pk_tn hn, pk_tn (Nat.lt_of_le_of_lt (Nat.div_le_self _ _) hn)]
theorem pk_nb (z : Int32) : narrow .byte (.int z.toInt8.toInt32) = .int z.toInt8.toInt32 := congrArg Value.int (by simp)
theorem pk_ns (z : Int32) : narrow .short (.int z.toInt16.toInt32) = .int z.toInt16.toInt32 := congrArg Value.int (by simp)
theorem pk_fb (r : Int32) : fits .byte (.int r.toInt8.toInt32) = true := by
  have ⟨a, b⟩ := lg_i2b_range r
  have h1 : (-128 : Int32).toInt = -128 := by decide
  have h2 : (127 : Int32).toInt = 127 := by decide
  simp only [fits, Bool.and_eq_true, decide_eq_true_eq, Int32.le_iff_toInt_le, h1, h2]
  omega
theorem pk_fs (r : Int32) : fits .short (.int r.toInt16.toInt32) = true := by
  have ⟨a, b⟩ := lg_i2s_range r
  have h1 : (-32768 : Int32).toInt = -32768 := by decide
  have h2 : (32767 : Int32).toInt = 32767 := by decide
  simp only [fits, Bool.and_eq_true, decide_eq_true_eq, Int32.le_iff_toInt_le, h1, h2]
  omega
theorem pk_charN {q : Nat} (hq : q < 65536) : narrow .char (.int (nI q)) = .int (nI q) ∧ fits .char (.int (nI q)) = true := by
  constructor
  · have e : (nI q).toUInt32.toUInt16.toUInt32.toInt32 = nI q := by
      apply Int32.toBitVec_inj.mp
      apply BitVec.eq_of_toNat_eq
      show (nI q).toUInt32.toUInt16.toUInt32.toNat = q % 2 ^ 32
      rw [UInt16.toNat_toUInt32, UInt32.toNat_toUInt16, show (nI q).toUInt32.toNat = q % 2 ^ 32 from rfl]
      omega
    exact congrArg Value.int e
  · have a : (0 : Int32) ≤ nI q := nI_pos' (by omega)
    have b : nI q ≤ 65535 := nI_le (b := 65535) (by omega) (by decide)
    show (decide ((0 : Int32) ≤ nI q) && decide (nI q ≤ 65535)) = true
    rw [decide_eq_true a, decide_eq_true b]
    rfl
theorem pk_char (x : Int32) : (x.toUInt32 % 65536).toInt32 = nI (x.toBitVec.toNat % 65536) := by
  apply Int32.toBitVec_inj.mp
  apply BitVec.eq_of_toNat_eq
  rw [pk_tn (by omega)]
  show (x.toUInt32 % 65536).toNat = _
  rw [UInt32.toNat_mod]
  rfl
theorem pk_nc (x : Int32) : narrow .char (.int (x.toUInt32 % 65536).toInt32) = .int (x.toUInt32 % 65536).toInt32 := by
  rw [pk_char]
  exact (pk_charN (Nat.mod_lt _ (by decide))).1
theorem pk_fc (x : Int32) : fits .char (.int (x.toUInt32 % 65536).toInt32) = true := by
  rw [pk_char]
  exact (pk_charN (Nat.mod_lt _ (by decide))).2
theorem pk_vb (z : Int32) : vp_nar .byte z.toInt8.toInt32 = z.toInt8.toInt32 := by rw [vp_nar_byte]; simp
theorem pk_vs (z : Int32) : vp_nar .short z.toInt16.toInt32 = z.toInt16.toInt32 := by rw [vp_nar_short]; simp
theorem pk_vc (z : Int32) : vp_nar .char (z.toUInt32 % 65536).toInt32 = (z.toUInt32 % 65536).toInt32 := Value.int.inj (pk_nc z)
theorem pk_lT {n : Nat} (h : n < 2 ^ 63) : (lN n).toInt = (n : Int) := lg_ofNat_toInt h
theorem pk_lLT {a b : Nat} (ha : a < 2 ^ 63) (hb : b < 2 ^ 63) : lN a < lN b ↔ a < b := by
  rw [Int64.lt_iff_toInt_lt, pk_lT ha, pk_lT hb]; omega
theorem pk_lLE {a b : Nat} (ha : a < 2 ^ 63) (hb : b < 2 ^ 63) : lN a ≤ lN b ↔ a ≤ b := by
  rw [Int64.le_iff_toInt_le, pk_lT ha, pk_lT hb]; omega
theorem pk_lEQ {a b : Nat} (ha : a < 2 ^ 63) (hb : b < 2 ^ 63) : lN a = lN b ↔ a = b := by
  rw [← Int64.toInt_inj, pk_lT ha, pk_lT hb]; omega
theorem pk_lOf {x : Int64} (h : ¬ x < 0) : ∃ k : Nat, k < 2 ^ 63 ∧ x = lN k := by
  rw [Int64.lt_iff_toInt_lt] at h
  have h0 : (0 : Int64).toInt = 0 := by decide
  have hx := Int64.toInt_lt x
  refine ⟨x.toInt.toNat, by omega, Int64.toInt_inj.mp ?_⟩
  rw [pk_lT (by omega)]
  omega
theorem pk_lDiv {a b : Nat} (ha : a < 2 ^ 63) (h0 : 0 < b) (hb : b < 2 ^ 63) : lN a / lN b = lN (a / b) := by
  apply Int64.toInt_inj.mp
  rw [lg_ldiv_nonneg (by rw [pk_lT ha]; omega) (by rw [pk_lT hb]; omega), pk_lT ha, pk_lT hb, pk_lT (Nat.lt_of_le_of_lt (Nat.div_le_self a b) ha)]
  rfl
theorem pk_lRem {a b : Nat} (ha : a < 2 ^ 63) (h0 : 0 < b) (hb : b < 2 ^ 63) : lN a - lN a / lN b * lN b = lN (a % b) := by
  rw [pk_lDiv ha h0 hb, lN_mul, lN_sub (Nat.div_mul_le_self a b)]
  exact congrArg lN (by have := Nat.div_add_mod' a b; omega)
theorem pk_loop {σ : Type} (W : Nat → Nat → σ → Prop) (I : Nat → σ → Prop) (e i0 : Nat) (s : σ) (hi : i0 ≤ e) (h0 : I i0 s) (hx : ∀ n s, I e s → W (n + 1) e s)
    (hs : ∀ n i s, i < e → I i s → (∀ s', I (i + 1) s' → W n (i + 1) s') → W (n + 1) i s) : ∃ n, W n i0 s :=
  ⟨e + 1, loop_i W I e hx hs (e + 1) i0 s hi (by omega) h0⟩
theorem pk_loopD {σ : Type} (W : Nat → Nat → σ → Prop) (I : Nat → σ → Prop) (hx : ∀ n s, I 0 s → W (n + 1) 0 s)
    (hs : ∀ n i s, I (i + 1) s → (∀ s', I i s' → W n i s') → W (n + 1) (i + 1) s) : ∀ (e : Nat) (s : σ), I e s → W (e + 1) e s := by
  intro e
  induction e with
  | zero => exact fun s h => hx 0 s h
  | succ e ih => exact fun s h => hs (e + 1) e s h (fun s' h' => ih s' h')
theorem lp1 {A1 : Type} (W : Nat → A1 → Prop) (I : A1 → Prop) (μ : A1 → Nat) (hs : ∀ (n : Nat) (a1 : A1), I a1 → (∀ (b1 : A1), I b1 → μ b1 < μ a1 → W n b1) → W (n + 1) a1) (a1 : A1) (h : I a1) : ∃ n, W n a1 :=
  loop_m (σ := A1) (fun n s => W n s) (fun s => I s) (fun s => μ s) (fun n s hI hk => hs n s hI (fun b1 h9 hm => hk b1 h9 hm)) a1 h
theorem lp2 {A1 A2 : Type} (W : Nat → A1 → A2 → Prop) (I : A1 → A2 → Prop) (μ : A1 → A2 → Nat) (hs : ∀ (n : Nat) (a1 : A1) (a2 : A2), I a1 a2 → (∀ (b1 : A1) (b2 : A2), I b1 b2 → μ b1 b2 < μ a1 a2 → W n b1 b2) → W (n + 1) a1 a2) (a1 : A1) (a2 : A2) (h : I a1 a2) : ∃ n, W n a1 a2 :=
  loop_m (σ := A1 × A2) (fun n s => W n s.1 s.2) (fun s => I s.1 s.2) (fun s => μ s.1 s.2) (fun n s hI hk => hs n s.1 s.2 hI (fun b1 b2 h9 hm => hk (b1, b2) h9 hm)) (a1, a2) h
theorem lp3 {A1 A2 A3 : Type} (W : Nat → A1 → A2 → A3 → Prop) (I : A1 → A2 → A3 → Prop) (μ : A1 → A2 → A3 → Nat) (hs : ∀ (n : Nat) (a1 : A1) (a2 : A2) (a3 : A3), I a1 a2 a3 → (∀ (b1 : A1) (b2 : A2) (b3 : A3), I b1 b2 b3 → μ b1 b2 b3 < μ a1 a2 a3 → W n b1 b2 b3) → W (n + 1) a1 a2 a3) (a1 : A1) (a2 : A2) (a3 : A3) (h : I a1 a2 a3) : ∃ n, W n a1 a2 a3 :=
  loop_m (σ := A1 × A2 × A3) (fun n s => W n s.1 s.2.1 s.2.2) (fun s => I s.1 s.2.1 s.2.2) (fun s => μ s.1 s.2.1 s.2.2) (fun n s hI hk => hs n s.1 s.2.1 s.2.2 hI (fun b1 b2 b3 h9 hm => hk (b1, b2, b3) h9 hm)) (a1, a2, a3) h
theorem lp4 {A1 A2 A3 A4 : Type} (W : Nat → A1 → A2 → A3 → A4 → Prop) (I : A1 → A2 → A3 → A4 → Prop) (μ : A1 → A2 → A3 → A4 → Nat) (hs : ∀ (n : Nat) (a1 : A1) (a2 : A2) (a3 : A3) (a4 : A4), I a1 a2 a3 a4 → (∀ (b1 : A1) (b2 : A2) (b3 : A3) (b4 : A4), I b1 b2 b3 b4 → μ b1 b2 b3 b4 < μ a1 a2 a3 a4 → W n b1 b2 b3 b4) → W (n + 1) a1 a2 a3 a4) (a1 : A1) (a2 : A2) (a3 : A3) (a4 : A4) (h : I a1 a2 a3 a4) : ∃ n, W n a1 a2 a3 a4 :=
  loop_m (σ := A1 × A2 × A3 × A4) (fun n s => W n s.1 s.2.1 s.2.2.1 s.2.2.2) (fun s => I s.1 s.2.1 s.2.2.1 s.2.2.2) (fun s => μ s.1 s.2.1 s.2.2.1 s.2.2.2) (fun n s hI hk => hs n s.1 s.2.1 s.2.2.1 s.2.2.2 hI (fun b1 b2 b3 b4 h9 hm => hk (b1, b2, b3, b4) h9 hm)) (a1, a2, a3, a4) h
theorem lp5 {A1 A2 A3 A4 A5 : Type} (W : Nat → A1 → A2 → A3 → A4 → A5 → Prop) (I : A1 → A2 → A3 → A4 → A5 → Prop) (μ : A1 → A2 → A3 → A4 → A5 → Nat) (hs : ∀ (n : Nat) (a1 : A1) (a2 : A2) (a3 : A3) (a4 : A4) (a5 : A5), I a1 a2 a3 a4 a5 → (∀ (b1 : A1) (b2 : A2) (b3 : A3) (b4 : A4) (b5 : A5), I b1 b2 b3 b4 b5 → μ b1 b2 b3 b4 b5 < μ a1 a2 a3 a4 a5 → W n b1 b2 b3 b4 b5) → W (n + 1) a1 a2 a3 a4 a5) (a1 : A1) (a2 : A2) (a3 : A3) (a4 : A4) (a5 : A5) (h : I a1 a2 a3 a4 a5) : ∃ n, W n a1 a2 a3 a4 a5 :=
  loop_m (σ := A1 × A2 × A3 × A4 × A5) (fun n s => W n s.1 s.2.1 s.2.2.1 s.2.2.2.1 s.2.2.2.2) (fun s => I s.1 s.2.1 s.2.2.1 s.2.2.2.1 s.2.2.2.2) (fun s => μ s.1 s.2.1 s.2.2.1 s.2.2.2.1 s.2.2.2.2) (fun n s hI hk => hs n s.1 s.2.1 s.2.2.1 s.2.2.2.1 s.2.2.2.2 hI (fun b1 b2 b3 b4 b5 h9 hm => hk (b1, b2, b3, b4, b5) h9 hm)) (a1, a2, a3, a4, a5) h
theorem lp6 {A1 A2 A3 A4 A5 A6 : Type} (W : Nat → A1 → A2 → A3 → A4 → A5 → A6 → Prop) (I : A1 → A2 → A3 → A4 → A5 → A6 → Prop) (μ : A1 → A2 → A3 → A4 → A5 → A6 → Nat) (hs : ∀ (n : Nat) (a1 : A1) (a2 : A2) (a3 : A3) (a4 : A4) (a5 : A5) (a6 : A6), I a1 a2 a3 a4 a5 a6 → (∀ (b1 : A1) (b2 : A2) (b3 : A3) (b4 : A4) (b5 : A5) (b6 : A6), I b1 b2 b3 b4 b5 b6 → μ b1 b2 b3 b4 b5 b6 < μ a1 a2 a3 a4 a5 a6 → W n b1 b2 b3 b4 b5 b6) → W (n + 1) a1 a2 a3 a4 a5 a6) (a1 : A1) (a2 : A2) (a3 : A3) (a4 : A4) (a5 : A5) (a6 : A6) (h : I a1 a2 a3 a4 a5 a6) : ∃ n, W n a1 a2 a3 a4 a5 a6 :=
  loop_m (σ := A1 × A2 × A3 × A4 × A5 × A6) (fun n s => W n s.1 s.2.1 s.2.2.1 s.2.2.2.1 s.2.2.2.2.1 s.2.2.2.2.2) (fun s => I s.1 s.2.1 s.2.2.1 s.2.2.2.1 s.2.2.2.2.1 s.2.2.2.2.2) (fun s => μ s.1 s.2.1 s.2.2.1 s.2.2.2.1 s.2.2.2.2.1 s.2.2.2.2.2) (fun n s hI hk => hs n s.1 s.2.1 s.2.2.1 s.2.2.2.1 s.2.2.2.2.1 s.2.2.2.2.2 hI (fun b1 b2 b3 b4 b5 b6 h9 hm => hk (b1, b2, b3, b4, b5, b6) h9 hm)) (a1, a2, a3, a4, a5, a6) h
theorem lp7 {A1 A2 A3 A4 A5 A6 A7 : Type} (W : Nat → A1 → A2 → A3 → A4 → A5 → A6 → A7 → Prop) (I : A1 → A2 → A3 → A4 → A5 → A6 → A7 → Prop) (μ : A1 → A2 → A3 → A4 → A5 → A6 → A7 → Nat) (hs : ∀ (n : Nat) (a1 : A1) (a2 : A2) (a3 : A3) (a4 : A4) (a5 : A5) (a6 : A6) (a7 : A7), I a1 a2 a3 a4 a5 a6 a7 → (∀ (b1 : A1) (b2 : A2) (b3 : A3) (b4 : A4) (b5 : A5) (b6 : A6) (b7 : A7), I b1 b2 b3 b4 b5 b6 b7 → μ b1 b2 b3 b4 b5 b6 b7 < μ a1 a2 a3 a4 a5 a6 a7 → W n b1 b2 b3 b4 b5 b6 b7) → W (n + 1) a1 a2 a3 a4 a5 a6 a7) (a1 : A1) (a2 : A2) (a3 : A3) (a4 : A4) (a5 : A5) (a6 : A6) (a7 : A7) (h : I a1 a2 a3 a4 a5 a6 a7) : ∃ n, W n a1 a2 a3 a4 a5 a6 a7 :=
  loop_m (σ := A1 × A2 × A3 × A4 × A5 × A6 × A7) (fun n s => W n s.1 s.2.1 s.2.2.1 s.2.2.2.1 s.2.2.2.2.1 s.2.2.2.2.2.1 s.2.2.2.2.2.2) (fun s => I s.1 s.2.1 s.2.2.1 s.2.2.2.1 s.2.2.2.2.1 s.2.2.2.2.2.1 s.2.2.2.2.2.2) (fun s => μ s.1 s.2.1 s.2.2.1 s.2.2.2.1 s.2.2.2.2.1 s.2.2.2.2.2.1 s.2.2.2.2.2.2) (fun n s hI hk => hs n s.1 s.2.1 s.2.2.1 s.2.2.2.1 s.2.2.2.2.1 s.2.2.2.2.2.1 s.2.2.2.2.2.2 hI (fun b1 b2 b3 b4 b5 b6 b7 h9 hm => hk (b1, b2, b3, b4, b5, b6, b7) h9 hm)) (a1, a2, a3, a4, a5, a6, a7) h
theorem lp8 {A1 A2 A3 A4 A5 A6 A7 A8 : Type} (W : Nat → A1 → A2 → A3 → A4 → A5 → A6 → A7 → A8 → Prop) (I : A1 → A2 → A3 → A4 → A5 → A6 → A7 → A8 → Prop) (μ : A1 → A2 → A3 → A4 → A5 → A6 → A7 → A8 → Nat) (hs : ∀ (n : Nat) (a1 : A1) (a2 : A2) (a3 : A3) (a4 : A4) (a5 : A5) (a6 : A6) (a7 : A7) (a8 : A8), I a1 a2 a3 a4 a5 a6 a7 a8 → (∀ (b1 : A1) (b2 : A2) (b3 : A3) (b4 : A4) (b5 : A5) (b6 : A6) (b7 : A7) (b8 : A8), I b1 b2 b3 b4 b5 b6 b7 b8 → μ b1 b2 b3 b4 b5 b6 b7 b8 < μ a1 a2 a3 a4 a5 a6 a7 a8 → W n b1 b2 b3 b4 b5 b6 b7 b8) → W (n + 1) a1 a2 a3 a4 a5 a6 a7 a8) (a1 : A1) (a2 : A2) (a3 : A3) (a4 : A4) (a5 : A5) (a6 : A6) (a7 : A7) (a8 : A8) (h : I a1 a2 a3 a4 a5 a6 a7 a8) : ∃ n, W n a1 a2 a3 a4 a5 a6 a7 a8 :=
  loop_m (σ := A1 × A2 × A3 × A4 × A5 × A6 × A7 × A8) (fun n s => W n s.1 s.2.1 s.2.2.1 s.2.2.2.1 s.2.2.2.2.1 s.2.2.2.2.2.1 s.2.2.2.2.2.2.1 s.2.2.2.2.2.2.2) (fun s => I s.1 s.2.1 s.2.2.1 s.2.2.2.1 s.2.2.2.2.1 s.2.2.2.2.2.1 s.2.2.2.2.2.2.1 s.2.2.2.2.2.2.2) (fun s => μ s.1 s.2.1 s.2.2.1 s.2.2.2.1 s.2.2.2.2.1 s.2.2.2.2.2.1 s.2.2.2.2.2.2.1 s.2.2.2.2.2.2.2) (fun n s hI hk => hs n s.1 s.2.1 s.2.2.1 s.2.2.2.1 s.2.2.2.2.1 s.2.2.2.2.2.1 s.2.2.2.2.2.2.1 s.2.2.2.2.2.2.2 hI (fun b1 b2 b3 b4 b5 b6 b7 b8 h9 hm => hk (b1, b2, b3, b4, b5, b6, b7, b8) h9 hm)) (a1, a2, a3, a4, a5, a6, a7, a8) h
theorem lp9 {A1 A2 A3 A4 A5 A6 A7 A8 A9 : Type} (W : Nat → A1 → A2 → A3 → A4 → A5 → A6 → A7 → A8 → A9 → Prop) (I : A1 → A2 → A3 → A4 → A5 → A6 → A7 → A8 → A9 → Prop) (μ : A1 → A2 → A3 → A4 → A5 → A6 → A7 → A8 → A9 → Nat) (hs : ∀ (n : Nat) (a1 : A1) (a2 : A2) (a3 : A3) (a4 : A4) (a5 : A5) (a6 : A6) (a7 : A7) (a8 : A8) (a9 : A9), I a1 a2 a3 a4 a5 a6 a7 a8 a9 → (∀ (b1 : A1) (b2 : A2) (b3 : A3) (b4 : A4) (b5 : A5) (b6 : A6) (b7 : A7) (b8 : A8) (b9 : A9), I b1 b2 b3 b4 b5 b6 b7 b8 b9 → μ b1 b2 b3 b4 b5 b6 b7 b8 b9 < μ a1 a2 a3 a4 a5 a6 a7 a8 a9 → W n b1 b2 b3 b4 b5 b6 b7 b8 b9) → W (n + 1) a1 a2 a3 a4 a5 a6 a7 a8 a9) (a1 : A1) (a2 : A2) (a3 : A3) (a4 : A4) (a5 : A5) (a6 : A6) (a7 : A7) (a8 : A8) (a9 : A9) (h : I a1 a2 a3 a4 a5 a6 a7 a8 a9) : ∃ n, W n a1 a2 a3 a4 a5 a6 a7 a8 a9 :=
  loop_m (σ := A1 × A2 × A3 × A4 × A5 × A6 × A7 × A8 × A9) (fun n s => W n s.1 s.2.1 s.2.2.1 s.2.2.2.1 s.2.2.2.2.1 s.2.2.2.2.2.1 s.2.2.2.2.2.2.1 s.2.2.2.2.2.2.2.1 s.2.2.2.2.2.2.2.2) (fun s => I s.1 s.2.1 s.2.2.1 s.2.2.2.1 s.2.2.2.2.1 s.2.2.2.2.2.1 s.2.2.2.2.2.2.1 s.2.2.2.2.2.2.2.1 s.2.2.2.2.2.2.2.2) (fun s => μ s.1 s.2.1 s.2.2.1 s.2.2.2.1 s.2.2.2.2.1 s.2.2.2.2.2.1 s.2.2.2.2.2.2.1 s.2.2.2.2.2.2.2.1 s.2.2.2.2.2.2.2.2) (fun n s hI hk => hs n s.1 s.2.1 s.2.2.1 s.2.2.2.1 s.2.2.2.2.1 s.2.2.2.2.2.1 s.2.2.2.2.2.2.1 s.2.2.2.2.2.2.2.1 s.2.2.2.2.2.2.2.2 hI (fun b1 b2 b3 b4 b5 b6 b7 b8 b9 h9 hm => hk (b1, b2, b3, b4, b5, b6, b7, b8, b9) h9 hm)) (a1, a2, a3, a4, a5, a6, a7, a8, a9) h
theorem lp10 {A1 A2 A3 A4 A5 A6 A7 A8 A9 A10 : Type} (W : Nat → A1 → A2 → A3 → A4 → A5 → A6 → A7 → A8 → A9 → A10 → Prop) (I : A1 → A2 → A3 → A4 → A5 → A6 → A7 → A8 → A9 → A10 → Prop) (μ : A1 → A2 → A3 → A4 → A5 → A6 → A7 → A8 → A9 → A10 → Nat) (hs : ∀ (n : Nat) (a1 : A1) (a2 : A2) (a3 : A3) (a4 : A4) (a5 : A5) (a6 : A6) (a7 : A7) (a8 : A8) (a9 : A9) (a10 : A10), I a1 a2 a3 a4 a5 a6 a7 a8 a9 a10 → (∀ (b1 : A1) (b2 : A2) (b3 : A3) (b4 : A4) (b5 : A5) (b6 : A6) (b7 : A7) (b8 : A8) (b9 : A9) (b10 : A10), I b1 b2 b3 b4 b5 b6 b7 b8 b9 b10 → μ b1 b2 b3 b4 b5 b6 b7 b8 b9 b10 < μ a1 a2 a3 a4 a5 a6 a7 a8 a9 a10 → W n b1 b2 b3 b4 b5 b6 b7 b8 b9 b10) → W (n + 1) a1 a2 a3 a4 a5 a6 a7 a8 a9 a10) (a1 : A1) (a2 : A2) (a3 : A3) (a4 : A4) (a5 : A5) (a6 : A6) (a7 : A7) (a8 : A8) (a9 : A9) (a10 : A10) (h : I a1 a2 a3 a4 a5 a6 a7 a8 a9 a10) : ∃ n, W n a1 a2 a3 a4 a5 a6 a7 a8 a9 a10 :=
  loop_m (σ := A1 × A2 × A3 × A4 × A5 × A6 × A7 × A8 × A9 × A10) (fun n s => W n s.1 s.2.1 s.2.2.1 s.2.2.2.1 s.2.2.2.2.1 s.2.2.2.2.2.1 s.2.2.2.2.2.2.1 s.2.2.2.2.2.2.2.1 s.2.2.2.2.2.2.2.2.1 s.2.2.2.2.2.2.2.2.2) (fun s => I s.1 s.2.1 s.2.2.1 s.2.2.2.1 s.2.2.2.2.1 s.2.2.2.2.2.1 s.2.2.2.2.2.2.1 s.2.2.2.2.2.2.2.1 s.2.2.2.2.2.2.2.2.1 s.2.2.2.2.2.2.2.2.2) (fun s => μ s.1 s.2.1 s.2.2.1 s.2.2.2.1 s.2.2.2.2.1 s.2.2.2.2.2.1 s.2.2.2.2.2.2.1 s.2.2.2.2.2.2.2.1 s.2.2.2.2.2.2.2.2.1 s.2.2.2.2.2.2.2.2.2) (fun n s hI hk => hs n s.1 s.2.1 s.2.2.1 s.2.2.2.1 s.2.2.2.2.1 s.2.2.2.2.2.1 s.2.2.2.2.2.2.1 s.2.2.2.2.2.2.2.1 s.2.2.2.2.2.2.2.2.1 s.2.2.2.2.2.2.2.2.2 hI (fun b1 b2 b3 b4 b5 b6 b7 b8 b9 b10 h9 hm => hk (b1, b2, b3, b4, b5, b6, b7, b8, b9, b10) h9 hm)) (a1, a2, a3, a4, a5, a6, a7, a8, a9, a10) h
theorem lp11 {A1 A2 A3 A4 A5 A6 A7 A8 A9 A10 A11 : Type} (W : Nat → A1 → A2 → A3 → A4 → A5 → A6 → A7 → A8 → A9 → A10 → A11 → Prop) (I : A1 → A2 → A3 → A4 → A5 → A6 → A7 → A8 → A9 → A10 → A11 → Prop) (μ : A1 → A2 → A3 → A4 → A5 → A6 → A7 → A8 → A9 → A10 → A11 → Nat) (hs : ∀ (n : Nat) (a1 : A1) (a2 : A2) (a3 : A3) (a4 : A4) (a5 : A5) (a6 : A6) (a7 : A7) (a8 : A8) (a9 : A9) (a10 : A10) (a11 : A11), I a1 a2 a3 a4 a5 a6 a7 a8 a9 a10 a11 → (∀ (b1 : A1) (b2 : A2) (b3 : A3) (b4 : A4) (b5 : A5) (b6 : A6) (b7 : A7) (b8 : A8) (b9 : A9) (b10 : A10) (b11 : A11), I b1 b2 b3 b4 b5 b6 b7 b8 b9 b10 b11 → μ b1 b2 b3 b4 b5 b6 b7 b8 b9 b10 b11 < μ a1 a2 a3 a4 a5 a6 a7 a8 a9 a10 a11 → W n b1 b2 b3 b4 b5 b6 b7 b8 b9 b10 b11) → W (n + 1) a1 a2 a3 a4 a5 a6 a7 a8 a9 a10 a11) (a1 : A1) (a2 : A2) (a3 : A3) (a4 : A4) (a5 : A5) (a6 : A6) (a7 : A7) (a8 : A8) (a9 : A9) (a10 : A10) (a11 : A11) (h : I a1 a2 a3 a4 a5 a6 a7 a8 a9 a10 a11) : ∃ n, W n a1 a2 a3 a4 a5 a6 a7 a8 a9 a10 a11 :=
  loop_m (σ := A1 × A2 × A3 × A4 × A5 × A6 × A7 × A8 × A9 × A10 × A11) (fun n s => W n s.1 s.2.1 s.2.2.1 s.2.2.2.1 s.2.2.2.2.1 s.2.2.2.2.2.1 s.2.2.2.2.2.2.1 s.2.2.2.2.2.2.2.1 s.2.2.2.2.2.2.2.2.1 s.2.2.2.2.2.2.2.2.2.1 s.2.2.2.2.2.2.2.2.2.2) (fun s => I s.1 s.2.1 s.2.2.1 s.2.2.2.1 s.2.2.2.2.1 s.2.2.2.2.2.1 s.2.2.2.2.2.2.1 s.2.2.2.2.2.2.2.1 s.2.2.2.2.2.2.2.2.1 s.2.2.2.2.2.2.2.2.2.1 s.2.2.2.2.2.2.2.2.2.2) (fun s => μ s.1 s.2.1 s.2.2.1 s.2.2.2.1 s.2.2.2.2.1 s.2.2.2.2.2.1 s.2.2.2.2.2.2.1 s.2.2.2.2.2.2.2.1 s.2.2.2.2.2.2.2.2.1 s.2.2.2.2.2.2.2.2.2.1 s.2.2.2.2.2.2.2.2.2.2) (fun n s hI hk => hs n s.1 s.2.1 s.2.2.1 s.2.2.2.1 s.2.2.2.2.1 s.2.2.2.2.2.1 s.2.2.2.2.2.2.1 s.2.2.2.2.2.2.2.1 s.2.2.2.2.2.2.2.2.1 s.2.2.2.2.2.2.2.2.2.1 s.2.2.2.2.2.2.2.2.2.2 hI (fun b1 b2 b3 b4 b5 b6 b7 b8 b9 b10 b11 h9 hm => hk (b1, b2, b3, b4, b5, b6, b7, b8, b9, b10, b11) h9 hm)) (a1, a2, a3, a4, a5, a6, a7, a8, a9, a10, a11) h
theorem lp12 {A1 A2 A3 A4 A5 A6 A7 A8 A9 A10 A11 A12 : Type} (W : Nat → A1 → A2 → A3 → A4 → A5 → A6 → A7 → A8 → A9 → A10 → A11 → A12 → Prop) (I : A1 → A2 → A3 → A4 → A5 → A6 → A7 → A8 → A9 → A10 → A11 → A12 → Prop) (μ : A1 → A2 → A3 → A4 → A5 → A6 → A7 → A8 → A9 → A10 → A11 → A12 → Nat) (hs : ∀ (n : Nat) (a1 : A1) (a2 : A2) (a3 : A3) (a4 : A4) (a5 : A5) (a6 : A6) (a7 : A7) (a8 : A8) (a9 : A9) (a10 : A10) (a11 : A11) (a12 : A12), I a1 a2 a3 a4 a5 a6 a7 a8 a9 a10 a11 a12 → (∀ (b1 : A1) (b2 : A2) (b3 : A3) (b4 : A4) (b5 : A5) (b6 : A6) (b7 : A7) (b8 : A8) (b9 : A9) (b10 : A10) (b11 : A11) (b12 : A12), I b1 b2 b3 b4 b5 b6 b7 b8 b9 b10 b11 b12 → μ b1 b2 b3 b4 b5 b6 b7 b8 b9 b10 b11 b12 < μ a1 a2 a3 a4 a5 a6 a7 a8 a9 a10 a11 a12 → W n b1 b2 b3 b4 b5 b6 b7 b8 b9 b10 b11 b12) → W (n + 1) a1 a2 a3 a4 a5 a6 a7 a8 a9 a10 a11 a12) (a1 : A1) (a2 : A2) (a3 : A3) (a4 : A4) (a5 : A5) (a6 : A6) (a7 : A7) (a8 : A8) (a9 : A9) (a10 : A10) (a11 : A11) (a12 : A12) (h : I a1 a2 a3 a4 a5 a6 a7 a8 a9 a10 a11 a12) : ∃ n, W n a1 a2 a3 a4 a5 a6 a7 a8 a9 a10 a11 a12 :=
  loop_m (σ := A1 × A2 × A3 × A4 × A5 × A6 × A7 × A8 × A9 × A10 × A11 × A12) (fun n s => W n s.1 s.2.1 s.2.2.1 s.2.2.2.1 s.2.2.2.2.1 s.2.2.2.2.2.1 s.2.2.2.2.2.2.1 s.2.2.2.2.2.2.2.1 s.2.2.2.2.2.2.2.2.1 s.2.2.2.2.2.2.2.2.2.1 s.2.2.2.2.2.2.2.2.2.2.1 s.2.2.2.2.2.2.2.2.2.2.2) (fun s => I s.1 s.2.1 s.2.2.1 s.2.2.2.1 s.2.2.2.2.1 s.2.2.2.2.2.1 s.2.2.2.2.2.2.1 s.2.2.2.2.2.2.2.1 s.2.2.2.2.2.2.2.2.1 s.2.2.2.2.2.2.2.2.2.1 s.2.2.2.2.2.2.2.2.2.2.1 s.2.2.2.2.2.2.2.2.2.2.2) (fun s => μ s.1 s.2.1 s.2.2.1 s.2.2.2.1 s.2.2.2.2.1 s.2.2.2.2.2.1 s.2.2.2.2.2.2.1 s.2.2.2.2.2.2.2.1 s.2.2.2.2.2.2.2.2.1 s.2.2.2.2.2.2.2.2.2.1 s.2.2.2.2.2.2.2.2.2.2.1 s.2.2.2.2.2.2.2.2.2.2.2) (fun n s hI hk => hs n s.1 s.2.1 s.2.2.1 s.2.2.2.1 s.2.2.2.2.1 s.2.2.2.2.2.1 s.2.2.2.2.2.2.1 s.2.2.2.2.2.2.2.1 s.2.2.2.2.2.2.2.2.1 s.2.2.2.2.2.2.2.2.2.1 s.2.2.2.2.2.2.2.2.2.2.1 s.2.2.2.2.2.2.2.2.2.2.2 hI (fun b1 b2 b3 b4 b5 b6 b7 b8 b9 b10 b11 b12 h9 hm => hk (b1, b2, b3, b4, b5, b6, b7, b8, b9, b10, b11, b12) h9 hm)) (a1, a2, a3, a4, a5, a6, a7, a8, a9, a10, a11, a12) h
theorem lp13 {A1 A2 A3 A4 A5 A6 A7 A8 A9 A10 A11 A12 A13 : Type} (W : Nat → A1 → A2 → A3 → A4 → A5 → A6 → A7 → A8 → A9 → A10 → A11 → A12 → A13 → Prop) (I : A1 → A2 → A3 → A4 → A5 → A6 → A7 → A8 → A9 → A10 → A11 → A12 → A13 → Prop) (μ : A1 → A2 → A3 → A4 → A5 → A6 → A7 → A8 → A9 → A10 → A11 → A12 → A13 → Nat) (hs : ∀ (n : Nat) (a1 : A1) (a2 : A2) (a3 : A3) (a4 : A4) (a5 : A5) (a6 : A6) (a7 : A7) (a8 : A8) (a9 : A9) (a10 : A10) (a11 : A11) (a12 : A12) (a13 : A13), I a1 a2 a3 a4 a5 a6 a7 a8 a9 a10 a11 a12 a13 → (∀ (b1 : A1) (b2 : A2) (b3 : A3) (b4 : A4) (b5 : A5) (b6 : A6) (b7 : A7) (b8 : A8) (b9 : A9) (b10 : A10) (b11 : A11) (b12 : A12) (b13 : A13), I b1 b2 b3 b4 b5 b6 b7 b8 b9 b10 b11 b12 b13 → μ b1 b2 b3 b4 b5 b6 b7 b8 b9 b10 b11 b12 b13 < μ a1 a2 a3 a4 a5 a6 a7 a8 a9 a10 a11 a12 a13 → W n b1 b2 b3 b4 b5 b6 b7 b8 b9 b10 b11 b12 b13) → W (n + 1) a1 a2 a3 a4 a5 a6 a7 a8 a9 a10 a11 a12 a13) (a1 : A1) (a2 : A2) (a3 : A3) (a4 : A4) (a5 : A5) (a6 : A6) (a7 : A7) (a8 : A8) (a9 : A9) (a10 : A10) (a11 : A11) (a12 : A12) (a13 : A13) (h : I a1 a2 a3 a4 a5 a6 a7 a8 a9 a10 a11 a12 a13) : ∃ n, W n a1 a2 a3 a4 a5 a6 a7 a8 a9 a10 a11 a12 a13 :=
  loop_m (σ := A1 × A2 × A3 × A4 × A5 × A6 × A7 × A8 × A9 × A10 × A11 × A12 × A13) (fun n s => W n s.1 s.2.1 s.2.2.1 s.2.2.2.1 s.2.2.2.2.1 s.2.2.2.2.2.1 s.2.2.2.2.2.2.1 s.2.2.2.2.2.2.2.1 s.2.2.2.2.2.2.2.2.1 s.2.2.2.2.2.2.2.2.2.1 s.2.2.2.2.2.2.2.2.2.2.1 s.2.2.2.2.2.2.2.2.2.2.2.1 s.2.2.2.2.2.2.2.2.2.2.2.2) (fun s => I s.1 s.2.1 s.2.2.1 s.2.2.2.1 s.2.2.2.2.1 s.2.2.2.2.2.1 s.2.2.2.2.2.2.1 s.2.2.2.2.2.2.2.1 s.2.2.2.2.2.2.2.2.1 s.2.2.2.2.2.2.2.2.2.1 s.2.2.2.2.2.2.2.2.2.2.1 s.2.2.2.2.2.2.2.2.2.2.2.1 s.2.2.2.2.2.2.2.2.2.2.2.2) (fun s => μ s.1 s.2.1 s.2.2.1 s.2.2.2.1 s.2.2.2.2.1 s.2.2.2.2.2.1 s.2.2.2.2.2.2.1 s.2.2.2.2.2.2.2.1 s.2.2.2.2.2.2.2.2.1 s.2.2.2.2.2.2.2.2.2.1 s.2.2.2.2.2.2.2.2.2.2.1 s.2.2.2.2.2.2.2.2.2.2.2.1 s.2.2.2.2.2.2.2.2.2.2.2.2) (fun n s hI hk => hs n s.1 s.2.1 s.2.2.1 s.2.2.2.1 s.2.2.2.2.1 s.2.2.2.2.2.1 s.2.2.2.2.2.2.1 s.2.2.2.2.2.2.2.1 s.2.2.2.2.2.2.2.2.1 s.2.2.2.2.2.2.2.2.2.1 s.2.2.2.2.2.2.2.2.2.2.1 s.2.2.2.2.2.2.2.2.2.2.2.1 s.2.2.2.2.2.2.2.2.2.2.2.2 hI (fun b1 b2 b3 b4 b5 b6 b7 b8 b9 b10 b11 b12 b13 h9 hm => hk (b1, b2, b3, b4, b5, b6, b7, b8, b9, b10, b11, b12, b13) h9 hm)) (a1, a2, a3, a4, a5, a6, a7, a8, a9, a10, a11, a12, a13) h
theorem lp14 {A1 A2 A3 A4 A5 A6 A7 A8 A9 A10 A11 A12 A13 A14 : Type} (W : Nat → A1 → A2 → A3 → A4 → A5 → A6 → A7 → A8 → A9 → A10 → A11 → A12 → A13 → A14 → Prop) (I : A1 → A2 → A3 → A4 → A5 → A6 → A7 → A8 → A9 → A10 → A11 → A12 → A13 → A14 → Prop) (μ : A1 → A2 → A3 → A4 → A5 → A6 → A7 → A8 → A9 → A10 → A11 → A12 → A13 → A14 → Nat) (hs : ∀ (n : Nat) (a1 : A1) (a2 : A2) (a3 : A3) (a4 : A4) (a5 : A5) (a6 : A6) (a7 : A7) (a8 : A8) (a9 : A9) (a10 : A10) (a11 : A11) (a12 : A12) (a13 : A13) (a14 : A14), I a1 a2 a3 a4 a5 a6 a7 a8 a9 a10 a11 a12 a13 a14 → (∀ (b1 : A1) (b2 : A2) (b3 : A3) (b4 : A4) (b5 : A5) (b6 : A6) (b7 : A7) (b8 : A8) (b9 : A9) (b10 : A10) (b11 : A11) (b12 : A12) (b13 : A13) (b14 : A14), I b1 b2 b3 b4 b5 b6 b7 b8 b9 b10 b11 b12 b13 b14 → μ b1 b2 b3 b4 b5 b6 b7 b8 b9 b10 b11 b12 b13 b14 < μ a1 a2 a3 a4 a5 a6 a7 a8 a9 a10 a11 a12 a13 a14 → W n b1 b2 b3 b4 b5 b6 b7 b8 b9 b10 b11 b12 b13 b14) → W (n + 1) a1 a2 a3 a4 a5 a6 a7 a8 a9 a10 a11 a12 a13 a14) (a1 : A1) (a2 : A2) (a3 : A3) (a4 : A4) (a5 : A5) (a6 : A6) (a7 : A7) (a8 : A8) (a9 : A9) (a10 : A10) (a11 : A11) (a12 : A12) (a13 : A13) (a14 : A14) (h : I a1 a2 a3 a4 a5 a6 a7 a8 a9 a10 a11 a12 a13 a14) : ∃ n, W n a1 a2 a3 a4 a5 a6 a7 a8 a9 a10 a11 a12 a13 a14 :=
  loop_m (σ := A1 × A2 × A3 × A4 × A5 × A6 × A7 × A8 × A9 × A10 × A11 × A12 × A13 × A14) (fun n s => W n s.1 s.2.1 s.2.2.1 s.2.2.2.1 s.2.2.2.2.1 s.2.2.2.2.2.1 s.2.2.2.2.2.2.1 s.2.2.2.2.2.2.2.1 s.2.2.2.2.2.2.2.2.1 s.2.2.2.2.2.2.2.2.2.1 s.2.2.2.2.2.2.2.2.2.2.1 s.2.2.2.2.2.2.2.2.2.2.2.1 s.2.2.2.2.2.2.2.2.2.2.2.2.1 s.2.2.2.2.2.2.2.2.2.2.2.2.2) (fun s => I s.1 s.2.1 s.2.2.1 s.2.2.2.1 s.2.2.2.2.1 s.2.2.2.2.2.1 s.2.2.2.2.2.2.1 s.2.2.2.2.2.2.2.1 s.2.2.2.2.2.2.2.2.1 s.2.2.2.2.2.2.2.2.2.1 s.2.2.2.2.2.2.2.2.2.2.1 s.2.2.2.2.2.2.2.2.2.2.2.1 s.2.2.2.2.2.2.2.2.2.2.2.2.1 s.2.2.2.2.2.2.2.2.2.2.2.2.2) (fun s => μ s.1 s.2.1 s.2.2.1 s.2.2.2.1 s.2.2.2.2.1 s.2.2.2.2.2.1 s.2.2.2.2.2.2.1 s.2.2.2.2.2.2.2.1 s.2.2.2.2.2.2.2.2.1 s.2.2.2.2.2.2.2.2.2.1 s.2.2.2.2.2.2.2.2.2.2.1 s.2.2.2.2.2.2.2.2.2.2.2.1 s.2.2.2.2.2.2.2.2.2.2.2.2.1 s.2.2.2.2.2.2.2.2.2.2.2.2.2) (fun n s hI hk => hs n s.1 s.2.1 s.2.2.1 s.2.2.2.1 s.2.2.2.2.1 s.2.2.2.2.2.1 s.2.2.2.2.2.2.1 s.2.2.2.2.2.2.2.1 s.2.2.2.2.2.2.2.2.1 s.2.2.2.2.2.2.2.2.2.1 s.2.2.2.2.2.2.2.2.2.2.1 s.2.2.2.2.2.2.2.2.2.2.2.1 s.2.2.2.2.2.2.2.2.2.2.2.2.1 s.2.2.2.2.2.2.2.2.2.2.2.2.2 hI (fun b1 b2 b3 b4 b5 b6 b7 b8 b9 b10 b11 b12 b13 b14 h9 hm => hk (b1, b2, b3, b4, b5, b6, b7, b8, b9, b10, b11, b12, b13, b14) h9 hm)) (a1, a2, a3, a4, a5, a6, a7, a8, a9, a10, a11, a12, a13, a14) h
theorem lp15 {A1 A2 A3 A4 A5 A6 A7 A8 A9 A10 A11 A12 A13 A14 A15 : Type} (W : Nat → A1 → A2 → A3 → A4 → A5 → A6 → A7 → A8 → A9 → A10 → A11 → A12 → A13 → A14 → A15 → Prop) (I : A1 → A2 → A3 → A4 → A5 → A6 → A7 → A8 → A9 → A10 → A11 → A12 → A13 → A14 → A15 → Prop) (μ : A1 → A2 → A3 → A4 → A5 → A6 → A7 → A8 → A9 → A10 → A11 → A12 → A13 → A14 → A15 → Nat) (hs : ∀ (n : Nat) (a1 : A1) (a2 : A2) (a3 : A3) (a4 : A4) (a5 : A5) (a6 : A6) (a7 : A7) (a8 : A8) (a9 : A9) (a10 : A10) (a11 : A11) (a12 : A12) (a13 : A13) (a14 : A14) (a15 : A15), I a1 a2 a3 a4 a5 a6 a7 a8 a9 a10 a11 a12 a13 a14 a15 → (∀ (b1 : A1) (b2 : A2) (b3 : A3) (b4 : A4) (b5 : A5) (b6 : A6) (b7 : A7) (b8 : A8) (b9 : A9) (b10 : A10) (b11 : A11) (b12 : A12) (b13 : A13) (b14 : A14) (b15 : A15), I b1 b2 b3 b4 b5 b6 b7 b8 b9 b10 b11 b12 b13 b14 b15 → μ b1 b2 b3 b4 b5 b6 b7 b8 b9 b10 b11 b12 b13 b14 b15 < μ a1 a2 a3 a4 a5 a6 a7 a8 a9 a10 a11 a12 a13 a14 a15 → W n b1 b2 b3 b4 b5 b6 b7 b8 b9 b10 b11 b12 b13 b14 b15) → W (n + 1) a1 a2 a3 a4 a5 a6 a7 a8 a9 a10 a11 a12 a13 a14 a15) (a1 : A1) (a2 : A2) (a3 : A3) (a4 : A4) (a5 : A5) (a6 : A6) (a7 : A7) (a8 : A8) (a9 : A9) (a10 : A10) (a11 : A11) (a12 : A12) (a13 : A13) (a14 : A14) (a15 : A15) (h : I a1 a2 a3 a4 a5 a6 a7 a8 a9 a10 a11 a12 a13 a14 a15) : ∃ n, W n a1 a2 a3 a4 a5 a6 a7 a8 a9 a10 a11 a12 a13 a14 a15 :=
  loop_m (σ := A1 × A2 × A3 × A4 × A5 × A6 × A7 × A8 × A9 × A10 × A11 × A12 × A13 × A14 × A15) (fun n s => W n s.1 s.2.1 s.2.2.1 s.2.2.2.1 s.2.2.2.2.1 s.2.2.2.2.2.1 s.2.2.2.2.2.2.1 s.2.2.2.2.2.2.2.1 s.2.2.2.2.2.2.2.2.1 s.2.2.2.2.2.2.2.2.2.1 s.2.2.2.2.2.2.2.2.2.2.1 s.2.2.2.2.2.2.2.2.2.2.2.1 s.2.2.2.2.2.2.2.2.2.2.2.2.1 s.2.2.2.2.2.2.2.2.2.2.2.2.2.1 s.2.2.2.2.2.2.2.2.2.2.2.2.2.2) (fun s => I s.1 s.2.1 s.2.2.1 s.2.2.2.1 s.2.2.2.2.1 s.2.2.2.2.2.1 s.2.2.2.2.2.2.1 s.2.2.2.2.2.2.2.1 s.2.2.2.2.2.2.2.2.1 s.2.2.2.2.2.2.2.2.2.1 s.2.2.2.2.2.2.2.2.2.2.1 s.2.2.2.2.2.2.2.2.2.2.2.1 s.2.2.2.2.2.2.2.2.2.2.2.2.1 s.2.2.2.2.2.2.2.2.2.2.2.2.2.1 s.2.2.2.2.2.2.2.2.2.2.2.2.2.2) (fun s => μ s.1 s.2.1 s.2.2.1 s.2.2.2.1 s.2.2.2.2.1 s.2.2.2.2.2.1 s.2.2.2.2.2.2.1 s.2.2.2.2.2.2.2.1 s.2.2.2.2.2.2.2.2.1 s.2.2.2.2.2.2.2.2.2.1 s.2.2.2.2.2.2.2.2.2.2.1 s.2.2.2.2.2.2.2.2.2.2.2.1 s.2.2.2.2.2.2.2.2.2.2.2.2.1 s.2.2.2.2.2.2.2.2.2.2.2.2.2.1 s.2.2.2.2.2.2.2.2.2.2.2.2.2.2) (fun n s hI hk => hs n s.1 s.2.1 s.2.2.1 s.2.2.2.1 s.2.2.2.2.1 s.2.2.2.2.2.1 s.2.2.2.2.2.2.1 s.2.2.2.2.2.2.2.1 s.2.2.2.2.2.2.2.2.1 s.2.2.2.2.2.2.2.2.2.1 s.2.2.2.2.2.2.2.2.2.2.1 s.2.2.2.2.2.2.2.2.2.2.2.1 s.2.2.2.2.2.2.2.2.2.2.2.2.1 s.2.2.2.2.2.2.2.2.2.2.2.2.2.1 s.2.2.2.2.2.2.2.2.2.2.2.2.2.2 hI (fun b1 b2 b3 b4 b5 b6 b7 b8 b9 b10 b11 b12 b13 b14 b15 h9 hm => hk (b1, b2, b3, b4, b5, b6, b7, b8, b9, b10, b11, b12, b13, b14, b15) h9 hm)) (a1, a2, a3, a4, a5, a6, a7, a8, a9, a10, a11, a12, a13, a14, a15) h
theorem lp16 {A1 A2 A3 A4 A5 A6 A7 A8 A9 A10 A11 A12 A13 A14 A15 A16 : Type} (W : Nat → A1 → A2 → A3 → A4 → A5 → A6 → A7 → A8 → A9 → A10 → A11 → A12 → A13 → A14 → A15 → A16 → Prop) (I : A1 → A2 → A3 → A4 → A5 → A6 → A7 → A8 → A9 → A10 → A11 → A12 → A13 → A14 → A15 → A16 → Prop) (μ : A1 → A2 → A3 → A4 → A5 → A6 → A7 → A8 → A9 → A10 → A11 → A12 → A13 → A14 → A15 → A16 → Nat) (hs : ∀ (n : Nat) (a1 : A1) (a2 : A2) (a3 : A3) (a4 : A4) (a5 : A5) (a6 : A6) (a7 : A7) (a8 : A8) (a9 : A9) (a10 : A10) (a11 : A11) (a12 : A12) (a13 : A13) (a14 : A14) (a15 : A15) (a16 : A16), I a1 a2 a3 a4 a5 a6 a7 a8 a9 a10 a11 a12 a13 a14 a15 a16 → (∀ (b1 : A1) (b2 : A2) (b3 : A3) (b4 : A4) (b5 : A5) (b6 : A6) (b7 : A7) (b8 : A8) (b9 : A9) (b10 : A10) (b11 : A11) (b12 : A12) (b13 : A13) (b14 : A14) (b15 : A15) (b16 : A16), I b1 b2 b3 b4 b5 b6 b7 b8 b9 b10 b11 b12 b13 b14 b15 b16 → μ b1 b2 b3 b4 b5 b6 b7 b8 b9 b10 b11 b12 b13 b14 b15 b16 < μ a1 a2 a3 a4 a5 a6 a7 a8 a9 a10 a11 a12 a13 a14 a15 a16 → W n b1 b2 b3 b4 b5 b6 b7 b8 b9 b10 b11 b12 b13 b14 b15 b16) → W (n + 1) a1 a2 a3 a4 a5 a6 a7 a8 a9 a10 a11 a12 a13 a14 a15 a16) (a1 : A1) (a2 : A2) (a3 : A3) (a4 : A4) (a5 : A5) (a6 : A6) (a7 : A7) (a8 : A8) (a9 : A9) (a10 : A10) (a11 : A11) (a12 : A12) (a13 : A13) (a14 : A14) (a15 : A15) (a16 : A16) (h : I a1 a2 a3 a4 a5 a6 a7 a8 a9 a10 a11 a12 a13 a14 a15 a16) : ∃ n, W n a1 a2 a3 a4 a5 a6 a7 a8 a9 a10 a11 a12 a13 a14 a15 a16 :=
  loop_m (σ := A1 × A2 × A3 × A4 × A5 × A6 × A7 × A8 × A9 × A10 × A11 × A12 × A13 × A14 × A15 × A16) (fun n s => W n s.1 s.2.1 s.2.2.1 s.2.2.2.1 s.2.2.2.2.1 s.2.2.2.2.2.1 s.2.2.2.2.2.2.1 s.2.2.2.2.2.2.2.1 s.2.2.2.2.2.2.2.2.1 s.2.2.2.2.2.2.2.2.2.1 s.2.2.2.2.2.2.2.2.2.2.1 s.2.2.2.2.2.2.2.2.2.2.2.1 s.2.2.2.2.2.2.2.2.2.2.2.2.1 s.2.2.2.2.2.2.2.2.2.2.2.2.2.1 s.2.2.2.2.2.2.2.2.2.2.2.2.2.2.1 s.2.2.2.2.2.2.2.2.2.2.2.2.2.2.2) (fun s => I s.1 s.2.1 s.2.2.1 s.2.2.2.1 s.2.2.2.2.1 s.2.2.2.2.2.1 s.2.2.2.2.2.2.1 s.2.2.2.2.2.2.2.1 s.2.2.2.2.2.2.2.2.1 s.2.2.2.2.2.2.2.2.2.1 s.2.2.2.2.2.2.2.2.2.2.1 s.2.2.2.2.2.2.2.2.2.2.2.1 s.2.2.2.2.2.2.2.2.2.2.2.2.1 s.2.2.2.2.2.2.2.2.2.2.2.2.2.1 s.2.2.2.2.2.2.2.2.2.2.2.2.2.2.1 s.2.2.2.2.2.2.2.2.2.2.2.2.2.2.2) (fun s => μ s.1 s.2.1 s.2.2.1 s.2.2.2.1 s.2.2.2.2.1 s.2.2.2.2.2.1 s.2.2.2.2.2.2.1 s.2.2.2.2.2.2.2.1 s.2.2.2.2.2.2.2.2.1 s.2.2.2.2.2.2.2.2.2.1 s.2.2.2.2.2.2.2.2.2.2.1 s.2.2.2.2.2.2.2.2.2.2.2.1 s.2.2.2.2.2.2.2.2.2.2.2.2.1 s.2.2.2.2.2.2.2.2.2.2.2.2.2.1 s.2.2.2.2.2.2.2.2.2.2.2.2.2.2.1 s.2.2.2.2.2.2.2.2.2.2.2.2.2.2.2) (fun n s hI hk => hs n s.1 s.2.1 s.2.2.1 s.2.2.2.1 s.2.2.2.2.1 s.2.2.2.2.2.1 s.2.2.2.2.2.2.1 s.2.2.2.2.2.2.2.1 s.2.2.2.2.2.2.2.2.1 s.2.2.2.2.2.2.2.2.2.1 s.2.2.2.2.2.2.2.2.2.2.1 s.2.2.2.2.2.2.2.2.2.2.2.1 s.2.2.2.2.2.2.2.2.2.2.2.2.1 s.2.2.2.2.2.2.2.2.2.2.2.2.2.1 s.2.2.2.2.2.2.2.2.2.2.2.2.2.2.1 s.2.2.2.2.2.2.2.2.2.2.2.2.2.2.2 hI (fun b1 b2 b3 b4 b5 b6 b7 b8 b9 b10 b11 b12 b13 b14 b15 b16 h9 hm => hk (b1, b2, b3, b4, b5, b6, b7, b8, b9, b10, b11, b12, b13, b14, b15, b16) h9 hm)) (a1, a2, a3, a4, a5, a6, a7, a8, a9, a10, a11, a12, a13, a14, a15, a16) h
theorem pk_least (P : Nat → Prop) (h : ∃ k, P k) : ∃ k, P k ∧ ∀ j, j < k → ¬ P j := by
  obtain ⟨k, hk⟩ := h
  induction k using Nat.strongRecOn with
  | ind k ih =>
    by_cases e : ∃ j, j < k ∧ P j
    · obtain ⟨j, hj, pj⟩ := e
      exact ih j hj pj
    · exact ⟨k, hk, fun j hj pj => e ⟨j, hj, pj⟩⟩
theorem rp1 {ρ A1 : Type} (W : Nat → (ρ → Prop) → A1 → Prop) (ok : A1 → Prop) (μ : A1 → Nat) (val : A1 → ρ)
    (hs : ∀ (d : Nat) (post : ρ → Prop) (a1 : A1), ok a1 → post (val a1) → (∀ (post' : ρ → Prop) (b1 : A1), ok b1 → μ b1 < μ a1 → post' (val b1) → W d post' b1) → W (d + 1) post a1) :
    ∀ (d : Nat) (post : ρ → Prop) (a1 : A1), ok a1 → μ a1 < d → post (val a1) → W d post a1 := by
  intro d
  induction d with
  | zero => intro post a1 _ h; omega
  | succ d ih =>
    intro post a1 ho hm hp
    exact hs d post a1 ho hp (fun post' b1 ho' hm' hp' => ih post' b1 ho' (by omega) hp')
theorem rp2 {ρ A1 A2 : Type} (W : Nat → (ρ → Prop) → A1 → A2 → Prop) (ok : A1 → A2 → Prop) (μ : A1 → A2 → Nat) (val : A1 → A2 → ρ)
    (hs : ∀ (d : Nat) (post : ρ → Prop) (a1 : A1) (a2 : A2), ok a1 a2 → post (val a1 a2) → (∀ (post' : ρ → Prop) (b1 : A1) (b2 : A2), ok b1 b2 → μ b1 b2 < μ a1 a2 → post' (val b1 b2) → W d post' b1 b2) → W (d + 1) post a1 a2) :
    ∀ (d : Nat) (post : ρ → Prop) (a1 : A1) (a2 : A2), ok a1 a2 → μ a1 a2 < d → post (val a1 a2) → W d post a1 a2 := by
  intro d
  induction d with
  | zero => intro post a1 a2 _ h; omega
  | succ d ih =>
    intro post a1 a2 ho hm hp
    exact hs d post a1 a2 ho hp (fun post' b1 b2 ho' hm' hp' => ih post' b1 b2 ho' (by omega) hp')
theorem rp3 {ρ A1 A2 A3 : Type} (W : Nat → (ρ → Prop) → A1 → A2 → A3 → Prop) (ok : A1 → A2 → A3 → Prop) (μ : A1 → A2 → A3 → Nat) (val : A1 → A2 → A3 → ρ)
    (hs : ∀ (d : Nat) (post : ρ → Prop) (a1 : A1) (a2 : A2) (a3 : A3), ok a1 a2 a3 → post (val a1 a2 a3) → (∀ (post' : ρ → Prop) (b1 : A1) (b2 : A2) (b3 : A3), ok b1 b2 b3 → μ b1 b2 b3 < μ a1 a2 a3 → post' (val b1 b2 b3) → W d post' b1 b2 b3) → W (d + 1) post a1 a2 a3) :
    ∀ (d : Nat) (post : ρ → Prop) (a1 : A1) (a2 : A2) (a3 : A3), ok a1 a2 a3 → μ a1 a2 a3 < d → post (val a1 a2 a3) → W d post a1 a2 a3 := by
  intro d
  induction d with
  | zero => intro post a1 a2 a3 _ h; omega
  | succ d ih =>
    intro post a1 a2 a3 ho hm hp
    exact hs d post a1 a2 a3 ho hp (fun post' b1 b2 b3 ho' hm' hp' => ih post' b1 b2 b3 ho' (by omega) hp')
theorem rp4 {ρ A1 A2 A3 A4 : Type} (W : Nat → (ρ → Prop) → A1 → A2 → A3 → A4 → Prop) (ok : A1 → A2 → A3 → A4 → Prop) (μ : A1 → A2 → A3 → A4 → Nat) (val : A1 → A2 → A3 → A4 → ρ)
    (hs : ∀ (d : Nat) (post : ρ → Prop) (a1 : A1) (a2 : A2) (a3 : A3) (a4 : A4), ok a1 a2 a3 a4 → post (val a1 a2 a3 a4) → (∀ (post' : ρ → Prop) (b1 : A1) (b2 : A2) (b3 : A3) (b4 : A4), ok b1 b2 b3 b4 → μ b1 b2 b3 b4 < μ a1 a2 a3 a4 → post' (val b1 b2 b3 b4) → W d post' b1 b2 b3 b4) → W (d + 1) post a1 a2 a3 a4) :
    ∀ (d : Nat) (post : ρ → Prop) (a1 : A1) (a2 : A2) (a3 : A3) (a4 : A4), ok a1 a2 a3 a4 → μ a1 a2 a3 a4 < d → post (val a1 a2 a3 a4) → W d post a1 a2 a3 a4 := by
  intro d
  induction d with
  | zero => intro post a1 a2 a3 a4 _ h; omega
  | succ d ih =>
    intro post a1 a2 a3 a4 ho hm hp
    exact hs d post a1 a2 a3 a4 ho hp (fun post' b1 b2 b3 b4 ho' hm' hp' => ih post' b1 b2 b3 b4 ho' (by omega) hp')
theorem rp5 {ρ A1 A2 A3 A4 A5 : Type} (W : Nat → (ρ → Prop) → A1 → A2 → A3 → A4 → A5 → Prop) (ok : A1 → A2 → A3 → A4 → A5 → Prop) (μ : A1 → A2 → A3 → A4 → A5 → Nat) (val : A1 → A2 → A3 → A4 → A5 → ρ)
    (hs : ∀ (d : Nat) (post : ρ → Prop) (a1 : A1) (a2 : A2) (a3 : A3) (a4 : A4) (a5 : A5), ok a1 a2 a3 a4 a5 → post (val a1 a2 a3 a4 a5) → (∀ (post' : ρ → Prop) (b1 : A1) (b2 : A2) (b3 : A3) (b4 : A4) (b5 : A5), ok b1 b2 b3 b4 b5 → μ b1 b2 b3 b4 b5 < μ a1 a2 a3 a4 a5 → post' (val b1 b2 b3 b4 b5) → W d post' b1 b2 b3 b4 b5) → W (d + 1) post a1 a2 a3 a4 a5) :
    ∀ (d : Nat) (post : ρ → Prop) (a1 : A1) (a2 : A2) (a3 : A3) (a4 : A4) (a5 : A5), ok a1 a2 a3 a4 a5 → μ a1 a2 a3 a4 a5 < d → post (val a1 a2 a3 a4 a5) → W d post a1 a2 a3 a4 a5 := by
  intro d
  induction d with
  | zero => intro post a1 a2 a3 a4 a5 _ h; omega
  | succ d ih =>
    intro post a1 a2 a3 a4 a5 ho hm hp
    exact hs d post a1 a2 a3 a4 a5 ho hp (fun post' b1 b2 b3 b4 b5 ho' hm' hp' => ih post' b1 b2 b3 b4 b5 ho' (by omega) hp')
theorem rp6 {ρ A1 A2 A3 A4 A5 A6 : Type} (W : Nat → (ρ → Prop) → A1 → A2 → A3 → A4 → A5 → A6 → Prop) (ok : A1 → A2 → A3 → A4 → A5 → A6 → Prop) (μ : A1 → A2 → A3 → A4 → A5 → A6 → Nat) (val : A1 → A2 → A3 → A4 → A5 → A6 → ρ)
    (hs : ∀ (d : Nat) (post : ρ → Prop) (a1 : A1) (a2 : A2) (a3 : A3) (a4 : A4) (a5 : A5) (a6 : A6), ok a1 a2 a3 a4 a5 a6 → post (val a1 a2 a3 a4 a5 a6) → (∀ (post' : ρ → Prop) (b1 : A1) (b2 : A2) (b3 : A3) (b4 : A4) (b5 : A5) (b6 : A6), ok b1 b2 b3 b4 b5 b6 → μ b1 b2 b3 b4 b5 b6 < μ a1 a2 a3 a4 a5 a6 → post' (val b1 b2 b3 b4 b5 b6) → W d post' b1 b2 b3 b4 b5 b6) → W (d + 1) post a1 a2 a3 a4 a5 a6) :
    ∀ (d : Nat) (post : ρ → Prop) (a1 : A1) (a2 : A2) (a3 : A3) (a4 : A4) (a5 : A5) (a6 : A6), ok a1 a2 a3 a4 a5 a6 → μ a1 a2 a3 a4 a5 a6 < d → post (val a1 a2 a3 a4 a5 a6) → W d post a1 a2 a3 a4 a5 a6 := by
  intro d
  induction d with
  | zero => intro post a1 a2 a3 a4 a5 a6 _ h; omega
  | succ d ih =>
    intro post a1 a2 a3 a4 a5 a6 ho hm hp
    exact hs d post a1 a2 a3 a4 a5 a6 ho hp (fun post' b1 b2 b3 b4 b5 b6 ho' hm' hp' => ih post' b1 b2 b3 b4 b5 b6 ho' (by omega) hp')
theorem rec_p {σ ρ : Type} (W : Nat → (ρ → Prop) → σ → Prop) (ok : σ → Prop) (μ : σ → Nat) (val : σ → ρ)
    (hs : ∀ d s post, ok s → post (val s) → (∀ s' post', ok s' → μ s' < μ s → post' (val s') → W d post' s') → W (d + 1) post s) :
    ∀ d s post, ok s → μ s < d → post (val s) → W d post s := by
  intro d
  induction d with
  | zero => intro s post _ h; omega
  | succ d ih =>
    intro s post ho hm hp
    exact hs d s post ho hp (fun s' post' ho' hm' hp' => ih s' post' ho' (by omega) hp')
theorem rec_q {σ ρ : Type} (W : Nat → (ρ → Prop) → σ → Prop) (ok : σ → Prop) (μ : σ → Nat) (Q : σ → ρ → Prop)
    (hs : ∀ d s post, ok s → (∀ r, Q s r → post r) → (∀ s' post', ok s' → μ s' < μ s → (∀ r, Q s' r → post' r) → W d post' s') → W (d + 1) post s) :
    ∀ d s post, ok s → μ s < d → (∀ r, Q s r → post r) → W d post s := by
  intro d
  induction d with
  | zero => intro s post _ h; omega
  | succ d ih =>
    intro s post ho hm hp
    exact hs d s post ho hp (fun s' post' ho' hm' hp' => ih s' post' ho' (by omega) hp')
def bx_sum (f : Nat → Int32) : Nat → Int32
  | 0 => 0
  | n + 1 => bx_sum f n + f n
theorem ek_u {A : Prop} {B : Nat → Prop} {k N : Nat} (hk : k < N) (h : B k) : (some k = none → A) ∧ (∀ y : Nat, some k = some y → (y < N ∧ B y)) :=
  ⟨fun z => absurd z (Option.some_ne_none k), fun _ e => (by cases e; exact ⟨hk, h⟩)⟩
theorem ek_nu {A : Prop} {B : Nat → Prop} (h : A) : ((none : Option Nat) = none → A) ∧ (∀ y : Nat, (none : Option Nat) = some y → B y) :=
  ⟨fun _ => h, fun _ e => (by cases e)⟩
theorem ek_if {c d A B : Prop} (e : c ↔ d) (f : d → A) (g : ¬ d → B) : (c → A) ∧ (¬ c → B) :=
  ⟨fun z => f (e.mp z), fun z => g (fun y => z (e.mpr y))⟩
theorem ek_v {α : Sort _} {P : α → Prop} {a b : α} (e : a = b) (h : P b) : P a := e ▸ h
theorem co_some {x : Option Nat} {A : Prop} {B : Nat → Prop} (i : Nat) (h : B i) (hx : x = some i := by rfl) : (x = none → A) ∧ (∀ y : Nat, x = some y → B y) := by
  subst hx
  exact ⟨fun e => (nomatch e), fun y e => Option.some.inj e ▸ h⟩
theorem co_none {x : Option Nat} {A : Prop} {B : Nat → Prop} (h : A) (hx : x = none := by rfl) : (x = none → A) ∧ (∀ y : Nat, x = some y → B y) := by
  subst hx
  exact ⟨fun _ => h, fun y e => (nomatch e)⟩
theorem co_any {x : Option Nat} {A : Prop} {B : Nat → Prop} (hn : x = none → A) (hs : ∀ i : Nat, x = some i → B i) : (x = none → A) ∧ (∀ y : Nat, x = some y → B y) := ⟨hn, hs⟩
theorem co_2 {P : Nat → Prop} (h0 : P 0) (h1 : P 1) {i : Nat} (hi : i < 2) : P i :=
  match i, hi with
  | 0, _ => h0
  | 1, _ => h1
theorem co_3 {P : Nat → Prop} (h0 : P 0) (h1 : P 1) (h2 : P 2) {i : Nat} (hi : i < 3) : P i :=
  match i, hi with
  | 0, _ => h0
  | 1, _ => h1
  | 2, _ => h2
theorem co_4 {P : Nat → Prop} (h0 : P 0) (h1 : P 1) (h2 : P 2) (h3 : P 3) {i : Nat} (hi : i < 4) : P i :=
  match i, hi with
  | 0, _ => h0
  | 1, _ => h1
  | 2, _ => h2
  | 3, _ => h3
theorem co_dec {N : Nat} {P : Nat → Prop} [DecidablePred P] (h : (List.range N).all (fun i => decide (P i)) = true) {i : Nat} (hi : i < N) : P i := by
  have := List.all_eq_true.mp h i (List.mem_range.mpr hi)
  exact of_decide_eq_true this
theorem co_tab {α : Type} {l : List α} {d : α} {P : α → Prop} (h : ∀ a, a ∈ l → P a) {i : Nat} (hi : i < l.length) : P (l.getD i d) := by
  rw [List.getD_eq_getElem?_getD, List.getElem?_eq_getElem hi]
  exact h _ (List.getElem_mem hi)
theorem pk_mu {x : Int32} {L : Nat} (h0 : ¬ x < 0) (h : ¬ nI L ≤ x) (hL : L < 2 ^ 31) : ∃ j : Nat, j < L ∧ x = nI j ∧ x + 1 = nI (j + 1) ∧ x.toNatClampNeg = j ∧ L - (x + 1).toNatClampNeg < L - x.toNatClampNeg := by
  obtain ⟨j, hj, rfl⟩ := nI_of h0
  have hl : j < L := Nat.not_le.mp fun q => h (nI_le q hj)
  refine ⟨j, hl, rfl, nI_1 j, nI_clamp hj, ?_⟩
  rw [nI_1, nI_clamp (by omega), nI_clamp hj]
  omega
theorem op_s {α : Type} {r : Option α} {A : Prop} {B : α → Prop} {y : α} (h : r = some y) (b : B y) : (r = none → A) ∧ ∀ z, r = some z → B z :=
  ⟨fun e => (by rw [h] at e; cases e), fun z e => (by rw [h] at e; cases e; exact b)⟩
def l_holds {α : Type} (a : Nat → Option Nat) (LP : List Nat) (p : Nat → α) (c : Nat) (b : Nat → α) : Prop :=
  ∀ j, j < c → ∃ y, a j = some y ∧ y ∈ LP ∧ p y = b j
theorem l_holds_0 {α : Type} {a : Nat → Option Nat} {LP : List Nat} {p b : Nat → α} : l_holds a LP p 0 b := fun j h => absurd h (Nat.not_lt_zero j)
theorem l_in_new (LP : List Nat) (q : Nat) : q ∈ LP ++ [q] := List.mem_append.mpr (Or.inr (List.mem_singleton.mpr rfl))
def l_sum (b : Nat → Int32) : Nat → Int32
  | 0 => 0
  | k + 1 => l_sum b k + b k
theorem sb_shr0 (x : Int32) : x >>> ((0 : Int32) &&& 31) = x := by
  rw [show ((0 : Int32) &&& 31) = 0 by decide]
  simp
theorem sb_shl0 (x : Int32) : x <<< ((0 : Int32) &&& 31) = x := by
  rw [show ((0 : Int32) &&& 31) = 0 by decide]
  simp
theorem sb_cl0 : (0 : Int32).toNatClampNeg = 0 := by decide
theorem sb_m1 {p : Nat} (h : 0 < p) : nI p + (-1) = nI (p - 1) := by
  obtain ⟨q, rfl⟩ : ∃ q, p = q + 1 := ⟨p - 1, by omega⟩
  exact pk_m1 q
def sb_b (c : Nat) : Int32 := (nI c).toInt8.toInt32
theorem sb_byte : ∀ c, c < 256 → sb_b c &&& 255 = nI c ∧ ((nI c).toUInt32 % 65536).toInt32 = nI c ∧ nI c ≤ 255 := by decide +kernel
def sb_Fit (a : Nat → Int32) : Prop := ∀ j, fits .byte (.int (a j)) = true
def sb_Lat (t : Nat → Nat) (n : Nat) (a : Nat → Int32) : Prop := ∀ j, j < n → t j < 256 ∧ a j = sb_b (t j)
theorem sb_fitB (c : Nat) : fits .byte (.int (sb_b c)) = true := pk_fb _
theorem sb_fit0 : sb_Fit (fun _ => 0) := fun _ => by
  show fits .byte (.int 0) = true
  decide
theorem sb_fitU {a : Nat → Int32} {k : Nat} {x : Int32} (h : sb_Fit a) (hx : fits .byte (.int x) = true) : sb_Fit (upd a k x) := by
  intro j
  by_cases e : j = k
  · subst e
    rw [pk_us]
    exact hx
  · rw [pk_un e]
    exact h j
def sb_cat (t : Nat → Nat) (n : Nat) (s : Nat → Nat) : Nat → Nat := fun j => if j < n then t j else s (j - n)
theorem sb_cat_lo {t s : Nat → Nat} {n j : Nat} (h : j < n) : sb_cat t n s j = t j := if_pos h
theorem sb_cat_hi {t s : Nat → Nat} {n j : Nat} : sb_cat t n s (n + j) = s j := by
  show (if n + j < n then t (n + j) else s (n + j - n)) = s j
  rw [if_neg (by omega), Nat.add_sub_cancel_left]
theorem sb_latPut {t s : Nat → Nat} {n w : Nat} {a a' : Nat → Int32} (h : sb_Lat t n a) (hk : ∀ j, j < n → a' j = a j) (hs : ∀ i, i < w → s i < 256 ∧ a' (n + i) = sb_b (s i)) : sb_Lat (sb_cat t n s) (n + w) a' := by
  intro j hj
  by_cases e : j < n
  · rw [sb_cat_lo e, hk j e]
    exact h j e
  · obtain ⟨i, rfl⟩ : ∃ i, j = n + i := ⟨j - n, by omega⟩
    rw [sb_cat_hi]
    exact hs i (by omega)
theorem sb_latKeep {t : Nat → Nat} {n : Nat} {a a' : Nat → Int32} (h : sb_Lat t n a) (hk : ∀ j, j < n → a' j = a j) : sb_Lat t n a' := fun j hj => by
  rw [hk j hj]
  exact h j hj
def sb_cap (q m : Nat) : Nat := if q ≤ m then m else if 2 * m + 2 < q then q else 2 * m + 2
def sb_Room (q m mc ms : Nat) : Prop := q ≤ m ∨ (1 ≤ mc ∧ sb_cap q m ≤ ms ∧ sb_cap q m ≤ 65536)
theorem sb_cap_ge (q m : Nat) : q ≤ sb_cap q m := by
  unfold sb_cap
  split
  · omega
  · split <;> omega
theorem sb_cap_gem (q m : Nat) : m ≤ sb_cap q m := by
  unfold sb_cap
  split
  · omega
  · split <;> omega
theorem sb_cap_le {q m mc ms : Nat} (hm : m ≤ 65536) (hr : sb_Room q m mc ms) : sb_cap q m ≤ 65536 := by
  rcases hr with h | h
  · rw [sb_cap, if_pos h]
    exact hm
  · exact h.2.2
theorem sb_at {P : Int32 → Prop} {x y : Int32} (e : x = y) (h : P y) : P x := e ▸ h
def sb_dg (w : Nat) : Nat := if w < 10 then 1 else if w < 100 then 2 else if w < 1000 then 3 else if w < 10000 then 4 else if w < 100000 then 5 else if w < 1000000 then 6 else if w < 10000000 then 7 else if w < 100000000 then 8 else if w < 1000000000 then 9 else 10
def sb_dec (v : Nat) : Nat → Nat := fun i => 48 + v / 10 ^ (sb_dg v - 1 - i) % 10
theorem sb_dg_in (w : Nat) : 1 ≤ sb_dg w ∧ sb_dg w ≤ 10 := by
  unfold sb_dg
  constructor <;> (repeat' split) <;> omega
theorem sb_dg100 {w : Nat} (h : 100 ≤ w) (hw : w < 2 ^ 31) : sb_dg w = sb_dg (w / 100) + 2 := by
  rw [sb_dg, sb_dg, if_neg (show ¬ w < 10 by omega), if_neg (show ¬ w < 100 by omega)]
  by_cases h3 : w < 1000
  · rw [if_pos h3, if_pos (show w / 100 < 10 by omega)]
  rw [if_neg h3, if_neg (show ¬ w / 100 < 10 by omega)]
  by_cases h4 : w < 10000
  · rw [if_pos h4, if_pos (show w / 100 < 100 by omega)]
  rw [if_neg h4, if_neg (show ¬ w / 100 < 100 by omega)]
  by_cases h5 : w < 100000
  · rw [if_pos h5, if_pos (show w / 100 < 1000 by omega)]
  rw [if_neg h5, if_neg (show ¬ w / 100 < 1000 by omega)]
  by_cases h6 : w < 1000000
  · rw [if_pos h6, if_pos (show w / 100 < 10000 by omega)]
  rw [if_neg h6, if_neg (show ¬ w / 100 < 10000 by omega)]
  by_cases h7 : w < 10000000
  · rw [if_pos h7, if_pos (show w / 100 < 100000 by omega)]
  rw [if_neg h7, if_neg (show ¬ w / 100 < 100000 by omega)]
  by_cases h8 : w < 100000000
  · rw [if_pos h8, if_pos (show w / 100 < 1000000 by omega)]
  rw [if_neg h8, if_neg (show ¬ w / 100 < 1000000 by omega)]
  by_cases h9 : w < 1000000000
  · rw [if_pos h9, if_pos (show w / 100 < 10000000 by omega)]
  rw [if_neg h9, if_neg (show ¬ w / 100 < 10000000 by omega)]
  rw [if_pos (show w / 100 < 100000000 by omega)]
theorem sb_negT {w : Nat} (h : w < 2 ^ 31) : (-nI w).toInt = -(w : Int) := by
  rw [Int32.toInt_neg, nI_toInt h]
  exact Int.bmod_eq_of_le (by omega) (by omega)
theorem sb_nle {a b : Nat} (ha : a < 2 ^ 31) (hb : b < 2 ^ 31) : -nI a ≤ -nI b ↔ b ≤ a := by
  rw [Int32.le_iff_toInt_le, sb_negT ha, sb_negT hb]
  omega
theorem sb_nlt {a b : Nat} (ha : a < 2 ^ 31) (hb : b < 2 ^ 31) : -nI a < -nI b ↔ b < a := by
  rw [Int32.lt_iff_toInt_lt, sb_negT ha, sb_negT hb]
  omega
theorem sb_cmp {A B : Prop} {x : Int32} (v c : Nat) (f : c ≤ v → A) (g : v < c → B) (hv : v < 2 ^ 31) (hx : x = -nI c := by rfl) (hc : c < 2 ^ 31 := by omega) : (-nI v ≤ x → A) ∧ (¬ -nI v ≤ x → B) := by
  subst hx
  rw [sb_nle hv hc]
  exact ⟨f, fun z => g (by omega)⟩
theorem sb_ndiv {w : Nat} (hw : w < 2 ^ 31) : (-nI w) / 100 = -nI (w / 100) := by
  apply Int32.toInt_inj.mp
  have h100 : (100 : Int32).toInt = 100 := by decide
  rw [Int32.toInt_div, sb_negT hw, h100, sb_negT (by omega), Int.neg_tdiv, Int.tdiv_eq_ediv_of_nonneg (by omega), Int.bmod_eq_of_le (by omega) (by omega)]
  omega
theorem sb_nrem {w : Nat} (hw : w < 2 ^ 31) : (-nI (w / 100)) * 100 - (-nI w) = nI (w % 100) := by
  have h := pk_rem (a := w) (d := 100) hw (by decide) (by decide)
  rw [pk_div hw (by decide) (by decide)] at h
  rw [← h]
  show (-nI (w / 100)) * nI 100 - (-nI w) = nI w - nI (w / 100) * nI 100
  rw [Int32.neg_mul, Int32.sub_neg, Int32.add_comm, ← Int32.sub_eq_add_neg]
end
section
/-! rows on bits, shifts and unsigned numbers, to paste: each family out of a closed proof of our own, whole with what it rests on; each by itself clean at Lean in its own claim (generation 39, form 5). Take a family whole -/
/-! ===== Int32 by its bits: bt x i ===== -/
def bt (x : Int32) (i : Nat) : Bool := x.toBitVec.getLsbD i
theorem b_ext {x y : Int32} (h : ∀ i, i < 32 → bt x i = bt y i) : x = y := Int32.toBitVec_inj.mp (BitVec.eq_of_getLsbD_eq (fun i hi => h i hi))
theorem b_or (x y : Int32) (i : Nat) : bt (x ||| y) i = (bt x i || bt y i) := by unfold bt; rw [Int32.toBitVec_or, BitVec.getLsbD_or]
theorem b_and (x y : Int32) (i : Nat) : bt (x &&& y) i = (bt x i && bt y i) := by unfold bt; rw [Int32.toBitVec_and, BitVec.getLsbD_and]
theorem b_xor (x y : Int32) (i : Nat) : bt (x ^^^ y) i = (bt x i ^^ bt y i) := by unfold bt; rw [Int32.toBitVec_xor, BitVec.getLsbD_xor]
theorem b_big {x : Int32} {i : Nat} (h : 32 ≤ i) : bt x i = false := BitVec.getLsbD_of_ge _ _ h
theorem b_255 (i : Nat) : bt 255 i = decide (i < 8) := by
  rcases Nat.lt_or_ge i 32 with h | h
  · exact (by decide +kernel : ∀ i, i < 32 → bt 255 i = decide (i < 8)) i h
  · rw [b_big h, decide_eq_false (by omega)]
theorem b_65535 (i : Nat) : bt 65535 i = decide (i < 16) := by
  rcases Nat.lt_or_ge i 32 with h | h
  · exact (by decide +kernel : ∀ i, i < 32 → bt 65535 i = decide (i < 16)) i h
  · rw [b_big h, decide_eq_false (by omega)]
theorem b_m1 : ∀ i, i < 32 → bt (-1) i = true := by decide +kernel
theorem b_0 (i : Nat) : bt 0 i = false := BitVec.getLsbD_zero
theorem s_l : ∀ n, n < 32 → ((nI n &&& 31).toBitVec.smod 32).toNat = n := by decide +kernel
theorem s_u : ∀ n, n < 32 → (((nI n).toUInt32 &&& Int32.toUInt32 31).toBitVec % 32).toNat = n := by decide +kernel
theorem b_shl (n : Nat) (hn : n < 32) (x : Int32) {i : Nat} (hi : i < 32) : bt (x <<< (nI n &&& 31)) i = (decide (n ≤ i) && bt x (i - n)) := by
  unfold bt
  rw [Int32.toBitVec_shiftLeft]
  show (x.toBitVec <<< ((nI n &&& 31).toBitVec.smod 32).toNat).getLsbD i = _
  rw [s_l n hn, BitVec.getLsbD_shiftLeft]
  rcases Nat.lt_or_ge i n with h | h
  · simp [h, Nat.not_le.mpr h]
  · simp [hi, h, Nat.not_lt.mpr h]
theorem b_ushr (n : Nat) (hn : n < 32) (x : Int32) (i : Nat) : bt ((x.toUInt32 >>> ((nI n).toUInt32 &&& Int32.toUInt32 31)).toInt32) i = bt x (n + i) := by
  show (x.toUInt32 >>> ((nI n).toUInt32 &&& Int32.toUInt32 31)).toBitVec.getLsbD i = x.toUInt32.toBitVec.getLsbD (n + i)
  rw [UInt32.toBitVec_shiftRight]
  show (x.toUInt32.toBitVec >>> (((nI n).toUInt32 &&& Int32.toUInt32 31).toBitVec % 32).toNat).getLsbD i = _
  rw [s_u n hn, BitVec.getLsbD_ushiftRight]
theorem b_sshr (n : Nat) (hn : n < 32) (x : Int32) {i : Nat} (hi : i < 32) : bt (x >>> (nI n &&& 31)) i = if n + i < 32 then bt x (n + i) else bt x 31 := by
  unfold bt
  rw [Int32.toBitVec_shiftRight]
  show (x.toBitVec.sshiftRight ((nI n &&& 31).toBitVec.smod 32).toNat).getLsbD i = _
  rw [s_l n hn, BitVec.getLsbD_sshiftRight, BitVec.msb_eq_getLsbD_last]
  simp [hi]
theorem b_shl8 (x : Int32) {i : Nat} (hi : i < 32) : bt (x <<< ((8 : Int32) &&& 31)) i = (decide (8 ≤ i) && bt x (i - 8)) := b_shl 8 (by omega) x hi
theorem b_shl16 (x : Int32) {i : Nat} (hi : i < 32) : bt (x <<< ((16 : Int32) &&& 31)) i = (decide (16 ≤ i) && bt x (i - 16)) := b_shl 16 (by omega) x hi
theorem b_shl24 (x : Int32) {i : Nat} (hi : i < 32) : bt (x <<< ((24 : Int32) &&& 31)) i = (decide (24 ≤ i) && bt x (i - 24)) := b_shl 24 (by omega) x hi
theorem b_sshr8 (x : Int32) {i : Nat} (hi : i < 32) : bt (x >>> ((8 : Int32) &&& 31)) i = if 8 + i < 32 then bt x (8 + i) else bt x 31 := b_sshr 8 (by omega) x hi
end
section
/-! the election as mathematics: counts, the chain lemma, Bellman-Ford by packed messages, Floyd-Warshall, and that they agree -/
def zb_cn (p : Nat → Bool) : Nat → Nat
  | 0 => 0
  | n + 1 => zb_cn p n + (if p n = true then 1 else 0)
theorem zb_cn_le {p q : Nat → Bool} : ∀ n, (∀ i, i < n → p i = true → q i = true) → zb_cn p n ≤ zb_cn q n := by
  intro n
  induction n with
  | zero => intro _; exact Nat.le_refl _
  | succ n ih =>
    intro h
    have h1 := ih (fun i hi => h i (by omega))
    have h2 := h n (by omega)
    simp only [zb_cn]
    by_cases hp : p n = true
    · rw [if_pos hp, if_pos (h2 hp)]; omega
    · rw [if_neg hp]; omega
theorem zb_cn_lt {p q : Nat → Bool} {z : Nat} (hz : q z = true) (hp : ¬ p z = true) : ∀ n, z < n → (∀ i, i < n → p i = true → q i = true) → zb_cn p n < zb_cn q n := by
  intro n
  induction n with
  | zero => intro h; omega
  | succ n ih =>
    intro hn h
    simp only [zb_cn]
    by_cases e : z = n
    · subst e
      have h1 := zb_cn_le z (fun i hi => h i (by omega))
      rw [if_pos hz, if_neg hp]; omega
    · have h1 := ih (by omega) (fun i hi => h i (by omega))
      have h2 := h n (by omega)
      by_cases hp : p n = true
      · rw [if_pos hp, if_pos (h2 hp)]; omega
      · rw [if_neg hp]; omega
theorem zb_cn_all : ∀ n, zb_cn (fun _ => true) n = n := by
  intro n
  induction n with
  | zero => rfl
  | succ n ih => simp [zb_cn, ih]
/-- along a falling function on six places, five steps are enough -/
theorem zb_chain (f : Nat → Nat) (P : Nat → Nat → Prop) (mono : ∀ k x, P k x → P (k + 1) x)
    (h : ∀ x, x < 6 → P 0 x ∨ ∃ z, z < 6 ∧ f z < f x ∧ ∀ k, P k z → P (k + 1) x) : ∀ x, x < 6 → P 5 x := by
  have mono' : ∀ j k x, P k x → P (k + j) x := by
    intro j
    induction j with
    | zero => intro k x h; exact h
    | succ j ih => intro k x h; exact mono _ _ (ih k x h)
  have key : ∀ m x, x < 6 → zb_cn (fun z => decide (f z < f x)) 6 ≤ m → P m x := by
    intro m
    induction m with
    | zero =>
      intro x hx hm
      rcases h x hx with h0 | ⟨z, hz, hf, _⟩
      · exact h0
      · have := zb_cn_lt (p := fun _ => false) (q := fun z => decide (f z < f x)) (z := z) (by simpa using hf) (by simp) 6 hz (by intro i _ h; simp at h)
        omega
    | succ m ih =>
      intro x hx hm
      rcases h x hx with h0 | ⟨z, hz, hf, hs⟩
      · have := mono' (m + 1) 0 x h0
        rwa [Nat.zero_add] at this
      · have := zb_cn_lt (p := fun y => decide (f y < f z)) (q := fun y => decide (f y < f x)) (z := z) (by simpa using hf) (by simp) 6 hz (by intro i _ h; simp at h ⊢; omega)
        exact hs m (ih z hz (by omega))
  intro x hx
  refine key 5 x hx ?_
  have := zb_cn_lt (p := fun y => decide (f y < f x)) (q := fun _ => true) (z := x) rfl (by simp) 6 hx (by intro i _ _; rfl)
  rw [zb_cn_all] at this
  omega
def zb_M (rk K : Nat → Nat) (j : Nat) : Nat := K (j / 4) * 2048 + rk (j / 4) * 16 + j % 4 * 4
def zb_ms (up : Nat → Bool) (sg rk K : Nat → Nat) (s : Nat) : Nat → Nat
  | 0 => 2147483647
  | j + 1 => if up j = true ∧ sg j = s ∧ zb_M rk K j < zb_ms up sg rk K s j then zb_M rk K j else zb_ms up sg rk K s j
/-- the offer at port p of bridge b -/
def zb_of (up : Nat → Bool) (sg c rk K : Nat → Nat) (b p : Nat) : Nat := zb_ms up sg rk K (sg (4 * b + p)) 24 + c (4 * b + p) * 2048 + p
def zb_ab (up : Nat → Bool) (sg c rk K : Nat → Nat) (b : Nat) : Nat → Nat
  | 0 => rk b * 1048576 + rk b * 16
  | p + 1 => if up (4 * b + p) = true ∧ zb_of up sg c rk K b p < zb_ab up sg c rk K b p then zb_of up sg c rk K b p else zb_ab up sg c rk K b p
def zb_ap (up : Nat → Bool) (sg c rk K : Nat → Nat) (b : Nat) : Nat → Nat
  | 0 => 4
  | p + 1 => if up (4 * b + p) = true ∧ zb_of up sg c rk K b p < zb_ab up sg c rk K b p then p else zb_ap up sg c rk K b p
def zb_nx (up : Nat → Bool) (sg c rk K : Nat → Nat) (b : Nat) : Nat := zb_ab up sg c rk K b 4 / 2048
def zb_bf (up : Nat → Bool) (sg c rk : Nat → Nat) : Nat → Nat → Nat
  | 0 => fun b => rk b * 512
  | k + 1 => zb_nx up sg c rk (zb_bf up sg c rk k)
section
variable {up : Nat → Bool} {sg c rk K : Nat → Nat}
theorem zb_ms_le {s j : Nat} (hu : up j = true) (hs : sg j = s) : ∀ n, j < n → zb_ms up sg rk K s n ≤ zb_M rk K j := by
  intro n
  induction n with
  | zero => intro h; omega
  | succ n ih =>
    intro h
    simp only [zb_ms]
    by_cases e : j = n
    · subst e
      by_cases q : zb_M rk K j < zb_ms up sg rk K s j
      · rw [if_pos ⟨hu, hs, q⟩]; omega
      · rw [if_neg (fun z => q z.2.2)]; omega
    · have := ih (by omega)
      by_cases q : up n = true ∧ sg n = s ∧ zb_M rk K n < zb_ms up sg rk K s n
      · rw [if_pos q]; have := q.2.2; omega
      · rw [if_neg q]; exact this
theorem zb_ms_at (s : Nat) : ∀ n, (zb_ms up sg rk K s n = 2147483647 ∧ ∀ j, j < n → up j = true → sg j = s → 2147483647 ≤ zb_M rk K j) ∨ ∃ j, j < n ∧ up j = true ∧ sg j = s ∧ zb_ms up sg rk K s n = zb_M rk K j := by
  intro n
  induction n with
  | zero => exact Or.inl ⟨rfl, fun j h => absurd h (by omega)⟩
  | succ n ih =>
    simp only [zb_ms]
    by_cases q : up n = true ∧ sg n = s ∧ zb_M rk K n < zb_ms up sg rk K s n
    · rw [if_pos q]; exact Or.inr ⟨n, by omega, q.1, q.2.1, rfl⟩
    · rw [if_neg q]
      rcases ih with ⟨h, h'⟩ | ⟨j, h1, h2⟩
      · refine Or.inl ⟨h, fun j hj hu hs => ?_⟩
        by_cases e : j = n
        · subst e
          rw [h] at q
          exact Nat.le_of_not_lt (fun z => q ⟨hu, hs, z⟩)
        · exact h' j (by omega) hu hs
      · exact Or.inr ⟨j, by omega, h2⟩
theorem zb_ab_le0 {b : Nat} : ∀ n, zb_ab up sg c rk K b n ≤ rk b * 1048576 + rk b * 16 := by
  intro n
  induction n with
  | zero => exact Nat.le_refl _
  | succ n ih =>
    simp only [zb_ab]
    by_cases q : up (4 * b + n) = true ∧ zb_of up sg c rk K b n < zb_ab up sg c rk K b n
    · rw [if_pos q]; have := q.2; omega
    · rw [if_neg q]; exact ih
theorem zb_ab_le {b p : Nat} (hu : up (4 * b + p) = true) : ∀ n, p < n → zb_ab up sg c rk K b n ≤ zb_of up sg c rk K b p := by
  intro n
  induction n with
  | zero => intro h; omega
  | succ n ih =>
    intro h
    simp only [zb_ab]
    by_cases e : p = n
    · subst e
      by_cases q : zb_of up sg c rk K b p < zb_ab up sg c rk K b p
      · rw [if_pos ⟨hu, q⟩]; omega
      · rw [if_neg (fun z => q z.2)]; omega
    · have := ih (by omega)
      by_cases q : up (4 * b + n) = true ∧ zb_of up sg c rk K b n < zb_ab up sg c rk K b n
      · rw [if_pos q]; have := q.2; omega
      · rw [if_neg q]; exact this
theorem zb_ab_at (b : Nat) : ∀ n, (zb_ab up sg c rk K b n = rk b * 1048576 + rk b * 16 ∧ zb_ap up sg c rk K b n = 4) ∨ ∃ p, p < n ∧ up (4 * b + p) = true ∧ zb_ab up sg c rk K b n = zb_of up sg c rk K b p ∧ zb_ap up sg c rk K b n = p := by
  intro n
  induction n with
  | zero => exact Or.inl ⟨rfl, rfl⟩
  | succ n ih =>
    simp only [zb_ab, zb_ap]
    by_cases q : up (4 * b + n) = true ∧ zb_of up sg c rk K b n < zb_ab up sg c rk K b n
    · rw [if_pos q, if_pos q]; exact Or.inr ⟨n, by omega, q.1, rfl, rfl⟩
    · rw [if_neg q, if_neg q]
      rcases ih with h | ⟨p, h1, h2⟩
      · exact Or.inl h
      · exact Or.inr ⟨p, by omega, h2⟩
end
/-- the numbers of a configuration are within their bounds -/
def zb_OK (c rk : Nat → Nat) : Prop := (∀ i, i < 24 → 1 ≤ c i ∧ c i ≤ 50) ∧ (∀ b, b < 6 → rk b < 128 ∧ rk b % 8 = b)
section
variable {up : Nat → Bool} {sg c rk K : Nat → Nat}
theorem zb_M_lt (H : zb_OK c rk) (hK : ∀ b, b < 6 → K b < 65536) {j : Nat} (hj : j < 24) : zb_M rk K j < 134217728 := by
  have h1 := hK (j / 4) (by omega)
  have h2 := (H.2 (j / 4) (by omega)).1
  unfold zb_M
  omega
theorem zb_ms_in (H : zb_OK c rk) (hK : ∀ b, b < 6 → K b < 65536) {i : Nat} (hi : i < 24) (hu : up i = true) : ∃ j, j < 24 ∧ up j = true ∧ sg j = sg i ∧ zb_ms up sg rk K (sg i) 24 = zb_M rk K j := by
  rcases zb_ms_at (up := up) (sg := sg) (rk := rk) (K := K) (sg i) 24 with h | h
  · have := h.2 i hi hu rfl
    have := zb_M_lt H hK hi
    omega
  · exact h
theorem zb_nx_le (H : zb_OK c rk) {b : Nat} (hb : b < 6) : zb_nx up sg c rk K b ≤ rk b * 512 := by
  have h1 := zb_ab_le0 (up := up) (sg := sg) (c := c) (rk := rk) (K := K) (b := b) 4
  have h2 := (H.2 b hb).1
  unfold zb_nx
  omega
theorem zb_nx_edge (H : zb_OK c rk) {i j : Nat} (hi : i < 24) (hj : j < 24) (ui : up i = true) (uj : up j = true) (e : sg i = sg j) : zb_nx up sg c rk K (i / 4) ≤ K (j / 4) + c i := by
  have e4 : 4 * (i / 4) + i % 4 = i := by omega
  have h1 := zb_ab_le (up := up) (sg := sg) (c := c) (rk := rk) (K := K) (b := i / 4) (p := i % 4) (by rw [e4]; exact ui) 4 (by omega)
  have h2 := zb_ms_le (rk := rk) (K := K) uj e.symm 24 hj
  have h3 := (H.2 (j / 4) (by omega)).1
  unfold zb_of at h1
  rw [e4] at h1
  unfold zb_nx
  unfold zb_M at h2
  omega
theorem zb_nx_at (H : zb_OK c rk) (hK : ∀ b, b < 6 → K b < 65536) {b : Nat} (hb : b < 6) : zb_nx up sg c rk K b = rk b * 512 ∨ ∃ i j, i < 24 ∧ j < 24 ∧ i / 4 = b ∧ up i = true ∧ up j = true ∧ sg i = sg j ∧ zb_nx up sg c rk K b = K (j / 4) + c i := by
  have h2 := (H.2 b hb).1
  rcases zb_ab_at (up := up) (sg := sg) (c := c) (rk := rk) (K := K) b 4 with h | ⟨p, hp, hu, h, _⟩
  · left
    have h := h.1
    unfold zb_nx
    omega
  · right
    obtain ⟨j, hj, uj, ej, hm⟩ := zb_ms_in (up := up) (sg := sg) (c := c) (rk := rk) (K := K) H hK (i := 4 * b + p) (by omega) hu
    refine ⟨4 * b + p, j, by omega, hj, by omega, hu, uj, ej.symm, ?_⟩
    have h3 := (H.2 (j / 4) (by omega)).1
    unfold zb_of at h
    rw [hm] at h
    unfold zb_M at h
    unfold zb_nx
    omega
theorem zb_bf_le (H : zb_OK c rk) : ∀ k b, b < 6 → zb_bf up sg c rk k b ≤ rk b * 512 := by
  intro k b hb
  cases k with
  | zero => exact Nat.le_refl _
  | succ k => exact zb_nx_le H hb
theorem zb_bf_lt (H : zb_OK c rk) (k b : Nat) (hb : b < 6) : zb_bf up sg c rk k b < 65536 := by
  have h1 := zb_bf_le (up := up) (sg := sg) H k b hb
  have h2 := (H.2 b hb).1
  omega
theorem zb_ms_cg {K' : Nat → Nat} (h : ∀ b, b < 6 → K b = K' b) (s : Nat) : ∀ n, n ≤ 24 → zb_ms up sg rk K s n = zb_ms up sg rk K' s n := by
  intro n
  induction n with
  | zero => intro _; rfl
  | succ n ih =>
    intro hn
    have e : zb_M rk K n = zb_M rk K' n := by unfold zb_M; rw [h (n / 4) (by omega)]
    simp only [zb_ms, ih (by omega), e]
theorem zb_of_cg {K' : Nat → Nat} (h : ∀ b, b < 6 → K b = K' b) (b p : Nat) : zb_of up sg c rk K b p = zb_of up sg c rk K' b p := by
  unfold zb_of
  rw [zb_ms_cg h _ 24 (by omega)]
theorem zb_ab_cg {K' : Nat → Nat} (h : ∀ b, b < 6 → K b = K' b) (b : Nat) : ∀ n, zb_ab up sg c rk K b n = zb_ab up sg c rk K' b n ∧ zb_ap up sg c rk K b n = zb_ap up sg c rk K' b n := by
  intro n
  induction n with
  | zero => exact ⟨rfl, rfl⟩
  | succ n ih => simp only [zb_ab, zb_ap, ih.1, ih.2, zb_of_cg h]; exact ⟨trivial, trivial⟩
theorem zb_nx_cg {K' : Nat → Nat} (h : ∀ b, b < 6 → K b = K' b) (b : Nat) : zb_nx up sg c rk K b = zb_nx up sg c rk K' b := by
  unfold zb_nx
  rw [(zb_ab_cg h b 4).1]
/-- once nothing moves, nothing moves -/
theorem zb_bf_fix {r : Nat} (h : ∀ b, b < 6 → zb_bf up sg c rk (r + 1) b = zb_bf up sg c rk r b) : ∀ m, ∀ b, b < 6 → zb_bf up sg c rk (r + m) b = zb_bf up sg c rk r b := by
  intro m
  induction m with
  | zero => intro b _; rfl
  | succ m ih =>
    intro b hb
    have e : zb_bf up sg c rk (r + (m + 1)) b = zb_nx up sg c rk (zb_bf up sg c rk (r + m)) b := rfl
    rw [e, zb_nx_cg ih b]
    exact h b hb
end
end
section
/-! Floyd-Warshall, and that Bellman-Ford gives the same -/
def zb_DF (up : Nat → Bool) (sg c : Nat → Nat) (t : Nat) (d : Nat → Nat → Nat) : Prop :=
  (∀ x, x < 6 → d x x = 0) ∧
  (∀ x y, x < 6 → y < 6 → d x y ≤ 1000000) ∧
  (∀ i j, i < 24 → j < 24 → up i = true → up j = true → sg i = sg j → d (i / 4) (j / 4) ≤ c i) ∧
  (∀ j x y, j < t → x < 6 → y < 6 → d x y ≤ d x j + d j y) ∧
  (∀ x y, x < 6 → y < 6 → x ≠ y → d x y < 1000000 → ∃ i j, i < 24 ∧ j < 24 ∧ up i = true ∧ up j = true ∧ sg i = sg j ∧ i / 4 = x ∧ c i + d (j / 4) y ≤ d x y)
/-- one step of Floyd-Warshall -/
def zb_mp (d : Nat → Nat → Nat) (k x y : Nat) : Nat := if d x k + d k y < d x y then d x k + d k y else d x y
theorem zb_mp_le (d : Nat → Nat → Nat) (k x y : Nat) : zb_mp d k x y ≤ d x y ∧ zb_mp d k x y ≤ d x k + d k y := by
  unfold zb_mp
  by_cases h : d x k + d k y < d x y
  · rw [if_pos h]; omega
  · rw [if_neg h]; omega
theorem zb_mp_or (d : Nat → Nat → Nat) (k x y : Nat) : zb_mp d k x y = d x y ∨ zb_mp d k x y = d x k + d k y := by
  unfold zb_mp
  by_cases h : d x k + d k y < d x y
  · rw [if_pos h]; exact Or.inr rfl
  · rw [if_neg h]; exact Or.inl rfl
section
variable {up : Nat → Bool} {sg c rk : Nat → Nat} {d : Nat → Nat → Nat} {k : Nat}
theorem zb_mp_row (hk : d k k = 0) (y : Nat) : zb_mp d k k y = d k y := by
  unfold zb_mp
  rw [hk, if_neg (by omega)]
theorem zb_mp_col (hk : d k k = 0) (x : Nat) : zb_mp d k x k = d x k := by
  unfold zb_mp
  rw [hk, if_neg (by omega)]
theorem zb_fw (hk : k < 6) (h : zb_DF up sg c k d) : zb_DF up sg c (k + 1) (zb_mp d k) := by
  obtain ⟨h1, h2, h3, h4, h5⟩ := h
  have kk := h1 k hk
  refine ⟨fun x hx => ?_, fun x y hx hy => ?_, fun i j hi hj ui uj e => ?_, fun j x y hj hx hy => ?_, fun x y hx hy hxy hd => ?_⟩
  · have := (zb_mp_le d k x x).1
    have := h1 x hx
    omega
  · have := (zb_mp_le d k x y).1
    have := h2 x y hx hy
    omega
  · have := (zb_mp_le d k (i / 4) (j / 4)).1
    have := h3 i j hi hj ui uj e
    omega
  · have hm := zb_mp_le d k x y
    by_cases e : j = k
    · subst e
      rw [zb_mp_col kk, zb_mp_row kk]
      exact hm.2
    · have a1 := h4 j x y (by omega) hx hy
      have a2 := h4 j k y (by omega) hk hy
      have a3 := h4 j x k (by omega) hx hk
      rcases zb_mp_or d k x j with e1 | e1 <;> rcases zb_mp_or d k j y with e2 | e2 <;> rw [e1, e2] <;> omega
  · rcases zb_mp_or d k x y with e | e
    · rw [e] at hd ⊢
      obtain ⟨i, j, hi, hj, ui, uj, es, ex, hc⟩ := h5 x y hx hy hxy hd
      exact ⟨i, j, hi, hj, ui, uj, es, ex, by have := (zb_mp_le d k (j / 4) y).1; omega⟩
    · by_cases exk : x = k
      · subst exk
        rw [zb_mp_row kk] at hd ⊢
        obtain ⟨i, j, hi, hj, ui, uj, es, ex, hc⟩ := h5 x y hx hy hxy hd
        exact ⟨i, j, hi, hj, ui, uj, es, ex, by have := (zb_mp_le d x (j / 4) y).1; omega⟩
      · rw [e] at hd ⊢
        obtain ⟨i, j, hi, hj, ui, uj, es, ex, hc⟩ := h5 x k hx hk exk (by omega)
        exact ⟨i, j, hi, hj, ui, uj, es, ex, by have := (zb_mp_le d k (j / 4) y).2; omega⟩
theorem zb_d250 (H : zb_OK c rk) (h : zb_DF up sg c 6 d) {x y : Nat} (hx : x < 6) (hy : y < 6) (hd : d x y < 1000000) : d x y ≤ 250 := by
  obtain ⟨h1, h2, h3, h4, h5⟩ := h
  have := zb_chain (fun x => d x y) (fun k x => d x y < 1000000 → d x y ≤ 50 * k) (fun k x h z => by have := h z; omega) (fun x hx => by
    by_cases e : x = y
    · left; intro _; rw [e, h1 y hy]; omega
    · by_cases z : d x y < 1000000
      · right
        obtain ⟨i, j, hi, hj, ui, uj, es, ex, hc⟩ := h5 x y hx hy e z
        have c1 := H.1 i hi
        refine ⟨j / 4, by omega, show d (j / 4) y < d x y by omega, fun k hk _ => ?_⟩
        have hk' := hk (by omega)
        have t1 := h4 (j / 4) x y (by omega) hx hy
        have t2 := h3 i j hi hj ui uj es
        rw [ex] at t2
        omega
      · left; intro z'; omega) x hx hd
  omega
theorem zb_dsym (H : zb_OK c rk) (h : zb_DF up sg c 6 d) : ∀ n x y, x < 6 → y < 6 → d x y < n → d x y < 1000000 → d y x < 1000000 := by
  intro n
  induction n with
  | zero => intro x y _ _ h; omega
  | succ n ih =>
    intro x y hx hy hn hd
    by_cases e : x = y
    · subst e; exact hd
    · obtain ⟨i, j, hi, hj, ui, uj, es, ex, hc⟩ := h.2.2.2.2 x y hx hy e hd
      have c1 := H.1 i hi
      have c2 := H.1 j hj
      have s1 := ih (j / 4) y (by omega) hy (by omega) (by omega)
      have s2 := zb_d250 H h hy (by omega) s1
      have t1 := h.2.2.2.1 (j / 4) y x (by omega) hy hx
      have t2 := h.2.2.1 j i hj hi uj ui es.symm
      rw [ex] at t2
      omega
/-- the best bridge that b can reach, by the reference's scan -/
def zb_bs (rk : Nat → Nat) (d : Nat → Nat → Nat) (b : Nat) : Nat → Nat
  | 0 => b
  | n + 1 => if d b n < 1000000 ∧ rk n < rk (zb_bs rk d b n) then n else zb_bs rk d b n
theorem zb_bs_in (h : zb_DF up sg c 6 d) {b : Nat} (hb : b < 6) : ∀ n, n ≤ 6 → zb_bs rk d b n < 6 ∧ d b (zb_bs rk d b n) < 1000000 ∧ ∀ y, y < n → d b y < 1000000 → rk (zb_bs rk d b n) ≤ rk y := by
  intro n
  induction n with
  | zero => intro _; exact ⟨hb, by show d b b < _; rw [h.1 b hb]; omega, fun y hy => absurd hy (by omega)⟩
  | succ n ih =>
    intro hn
    obtain ⟨i1, i2, i3⟩ := ih (by omega)
    simp only [zb_bs]
    by_cases q : d b n < 1000000 ∧ rk n < rk (zb_bs rk d b n)
    · rw [if_pos q]
      refine ⟨by omega, q.1, fun y hy hd => ?_⟩
      by_cases e : y = n
      · rw [e]; omega
      · have := i3 y (by omega) hd
        have := q.2
        omega
    · rw [if_neg q]
      refine ⟨i1, i2, fun y hy hd => ?_⟩
      by_cases e : y = n
      · subst e
        exact Nat.le_of_not_lt (fun z => q ⟨hd, z⟩)
      · exact i3 y (by omega) hd
theorem zb_bs_eq (H : zb_OK c rk) (h : zb_DF up sg c 6 d) {x y : Nat} (hx : x < 6) (hy : y < 6) : zb_bs rk d x 6 = zb_bs rk d y 6 ↔ d x y < 1000000 := by
  obtain ⟨x1, x2, x3⟩ := zb_bs_in (rk := rk) h hx 6 (by omega)
  obtain ⟨y1, y2, y3⟩ := zb_bs_in (rk := rk) h hy 6 (by omega)
  have inj : ∀ a b, a < 6 → b < 6 → rk a = rk b → a = b := fun a b ha hb e => by
    have := (H.2 a ha).2
    have := (H.2 b hb).2
    omega
  constructor
  · intro e
    rw [← e] at y2
    have s := zb_dsym H h _ y _ hy x1 (Nat.lt_succ_self _) y2
    have b1 := zb_d250 H h hx x1 x2
    have b2 := zb_d250 H h x1 hy s
    have := h.2.2.2.1 (zb_bs rk d x 6) x y x1 hx hy
    omega
  · intro e
    have s := zb_dsym H h _ x y hx hy (Nat.lt_succ_self _) e
    have b1 := zb_d250 H h hx hy e
    have b2 := zb_d250 H h hy hx s
    have b3 := zb_d250 H h hx x1 x2
    have b4 := zb_d250 H h hy y1 y2
    have t1 := h.2.2.2.1 y x (zb_bs rk d y 6) hy hx y1
    have t2 := h.2.2.2.1 x y (zb_bs rk d x 6) hx hy x1
    have r1 := x3 _ y1 (by omega)
    have r2 := y3 _ x1 (by omega)
    exact inj _ _ x1 y1 (by omega)
/-- what the election must find -/
def zb_T (rk : Nat → Nat) (d : Nat → Nat → Nat) (b : Nat) : Nat := rk (zb_bs rk d b 6) * 512 + d b (zb_bs rk d b 6)
theorem zb_T_own (H : zb_OK c rk) (h : zb_DF up sg c 6 d) {b : Nat} (hb : b < 6) : zb_T rk d b ≤ rk b * 512 := by
  obtain ⟨x1, x2, x3⟩ := zb_bs_in (rk := rk) h hb 6 (by omega)
  have hbb := h.1 b hb
  have r := x3 b hb (by omega)
  have b3 := zb_d250 H h hb x1 x2
  unfold zb_T
  by_cases e : zb_bs rk d b 6 = b
  · rw [e, hbb]; omega
  · have i1 := (H.2 _ x1).2
    have i2 := (H.2 b hb).2
    have : rk (zb_bs rk d b 6) ≠ rk b := fun z => e (by omega)
    omega
theorem zb_edge_eq (H : zb_OK c rk) (h : zb_DF up sg c 6 d) {i j : Nat} (hi : i < 24) (hj : j < 24) (ui : up i = true) (uj : up j = true) (e : sg i = sg j) : zb_bs rk d (i / 4) 6 = zb_bs rk d (j / 4) 6 := by
  have := h.2.2.1 i j hi hj ui uj e
  have := H.1 i hi
  exact (zb_bs_eq H h (by omega) (by omega)).mpr (by omega)
theorem zb_T_edge (H : zb_OK c rk) (h : zb_DF up sg c 6 d) {i j : Nat} (hi : i < 24) (hj : j < 24) (ui : up i = true) (uj : up j = true) (e : sg i = sg j) : zb_T rk d (i / 4) ≤ zb_T rk d (j / 4) + c i := by
  have q := zb_edge_eq H h hi hj ui uj e
  unfold zb_T
  rw [q]
  have t1 := h.2.2.1 i j hi hj ui uj e
  obtain ⟨x1, _, _⟩ := zb_bs_in (rk := rk) h (b := j / 4) (by omega) 6 (by omega)
  have t2 := h.2.2.2.1 (j / 4) (i / 4) (zb_bs rk d (j / 4) 6) (by omega) (by omega) x1
  omega
theorem zb_T_at (H : zb_OK c rk) (h : zb_DF up sg c 6 d) {b : Nat} (hb : b < 6) : zb_T rk d b = rk b * 512 ∨ ∃ i j, i < 24 ∧ j < 24 ∧ i / 4 = b ∧ up i = true ∧ up j = true ∧ sg i = sg j ∧ zb_T rk d (j / 4) + c i ≤ zb_T rk d b := by
  obtain ⟨x1, x2, x3⟩ := zb_bs_in (rk := rk) h hb 6 (by omega)
  by_cases e : b = zb_bs rk d b 6
  · left
    have hbb := h.1 b hb
    unfold zb_T
    rw [← e, hbb]
    omega
  · right
    obtain ⟨i, j, hi, hj, ui, uj, es, ex, hc⟩ := h.2.2.2.2 b _ hb x1 e x2
    refine ⟨i, j, hi, hj, ex, ui, uj, es, ?_⟩
    have q := zb_edge_eq H h hi hj ui uj es
    rw [ex] at q
    unfold zb_T
    rw [← q]
    omega
/-- the election finds it within five rounds -/
theorem zb_bf_T (H : zb_OK c rk) (h : zb_DF up sg c 6 d) {m b : Nat} (hm : 5 ≤ m) (hb : b < 6) : zb_bf up sg c rk m b = zb_T rk d b := by
  have lo : ∀ k b, b < 6 → zb_T rk d b ≤ zb_bf up sg c rk k b := by
    intro k
    induction k with
    | zero => intro b hb; exact zb_T_own H h hb
    | succ k ih =>
      intro b hb
      rcases zb_nx_at (up := up) (sg := sg) H (zb_bf_lt (up := up) (sg := sg) H k) hb with e | ⟨i, j, hi, hj, ex, ui, uj, es, e⟩
      · show _ ≤ zb_nx _ _ _ _ _ _
        rw [e]; exact zb_T_own H h hb
      · show _ ≤ zb_nx _ _ _ _ _ _
        rw [e]
        have := zb_T_edge H h hi hj ui uj es
        rw [ex] at this
        have := ih (j / 4) (by omega)
        omega
  have hi := zb_chain (fun b => zb_T rk d b) (fun k b => ∀ m, k ≤ m → zb_bf up sg c rk m b ≤ zb_T rk d b) (fun k x h m hm => h m (by omega)) (fun x hx => by
    rcases zb_T_at H h hx with e | ⟨i, j, hi, hj, ex, ui, uj, es, e⟩
    · left
      intro m _
      rw [e]
      exact zb_bf_le H m x hx
    · right
      have c1 := H.1 i hi
      refine ⟨j / 4, by omega, show zb_T rk d (j / 4) < zb_T rk d x by omega, fun k hk m hm => ?_⟩
      obtain ⟨m', rfl⟩ : ∃ m', m = m' + 1 := ⟨m - 1, by omega⟩
      have a := hk m' (by omega)
      have b := zb_nx_edge (K := zb_bf up sg c rk m') H hi hj ui uj es
      rw [ex] at b
      show zb_nx _ _ _ _ _ _ ≤ _
      omega) b hb m hm
  exact Nat.le_antisymm hi (lo m b hb)
theorem zb_T_div (H : zb_OK c rk) (h : zb_DF up sg c 6 d) {b : Nat} (hb : b < 6) : zb_T rk d b / 512 = rk (zb_bs rk d b 6) ∧ zb_T rk d b % 512 = d b (zb_bs rk d b 6) := by
  obtain ⟨x1, x2, x3⟩ := zb_bs_in (rk := rk) h hb 6 (by omega)
  have b3 := zb_d250 H h hb x1 x2
  unfold zb_T
  omega
theorem zb_T_eq (H : zb_OK c rk) (h : zb_DF up sg c 6 d) {x y : Nat} (hx : x < 6) (hy : y < 6) : zb_T rk d x / 512 = zb_T rk d y / 512 ↔ d x y < 1000000 := by
  rw [(zb_T_div H h hx).1, (zb_T_div H h hy).1, ← zb_bs_eq H h hx hy]
  constructor
  · intro e
    have := (H.2 _ (zb_bs_in (rk := rk) h hx 6 (by omega)).1).2
    have := (H.2 _ (zb_bs_in (rk := rk) h hy 6 (by omega)).1).2
    omega
  · intro e; rw [e]
end
end
section
/-! bits, packed messages, pointwise maps of arrays, counted loops, the configuration -/
theorem zb_b1 (i : Nat) : bt 1 i = decide (i = 0) := by
  rcases Nat.lt_or_ge i 32 with h | h
  · exact (by decide +kernel : ∀ i, i < 32 → bt 1 i = decide (i = 0)) i h
  · rw [b_big h, decide_eq_false (by omega)]
theorem zb_bv (x : Int32) {t : Nat} (ht : t < 32) : (x >>> (nI t &&& 31)) &&& 1 = if bt x t = true then 1 else 0 := by
  apply b_ext
  intro i hi
  rw [b_and, b_sshr t ht x hi, zb_b1]
  by_cases e : i = 0
  · subst e
    rw [if_pos (by omega), Nat.add_zero]
    by_cases h : bt x t = true
    · rw [if_pos h, h, zb_b1]; rfl
    · rw [if_neg h, b_0, Bool.eq_false_iff.mpr h]; rfl
  · rw [decide_eq_false e, Bool.and_false]
    by_cases h : bt x t = true
    · rw [if_pos h, zb_b1, decide_eq_false e]
    · rw [if_neg h, b_0]
theorem zb_bz0 {x : Int32} {t : Nat} (ht : t < 32) (h : ¬ bt x t = true) : (x >>> (nI t &&& 31)) &&& 1 = 0 := by
  rw [zb_bv x ht, if_neg h]
theorem zb_bz1 {x : Int32} {t : Nat} (ht : t < 32) (h : bt x t = true) : ¬ (x >>> (nI t &&& 31)) &&& 1 = 0 := by
  rw [zb_bv x ht, if_pos h]; decide
theorem zb_bor (x : Int32) {o t : Nat} (ho : o < 32) (ht : t < 32) : bt (x ||| ((1 : Int32) <<< (nI o &&& 31))) t = (bt x t || decide (t = o)) := by
  rw [b_or, b_shl o ho 1 ht, zb_b1]
  congr 1
  by_cases e : t = o
  · subst e; simp
  · rcases Nat.lt_or_ge t o with h | h
    · rw [decide_eq_false (by omega : ¬ o ≤ t), decide_eq_false e]; rfl
    · rw [decide_eq_false (by omega : ¬ t - o = 0), decide_eq_false e, Bool.and_false]
theorem zb_b1s {o t : Nat} (ho : o < 32) (ht : t < 32) : bt ((1 : Int32) <<< (nI o &&& 31)) t = decide (t = o) := by
  have := zb_bor 0 ho ht
  rw [b_or, b_0, Bool.false_or, Bool.false_or] at this
  exact this
theorem zb_or (k : Nat) {a b : Nat} (ha : a < 2 ^ k) (h : b * 2 ^ k + a < 2 ^ 32) : nI (b * 2 ^ k) ||| nI a = nI (b * 2 ^ k + a) := by
  have h1 : b * 2 ^ k ||| a = b * 2 ^ k + a := by rw [← Nat.shiftLeft_eq, Nat.shiftLeft_add_eq_or_of_lt ha]
  apply Int32.toBitVec_inj.1
  apply BitVec.eq_of_toNat_eq
  rw [Int32.toBitVec_or, BitVec.toNat_or, pk_tn (by omega), pk_tn (by omega), pk_tn h, h1]
theorem zb_sh2 {i : Nat} (h : i < 2 ^ 31) : nI i >>> ((2 : Int32) &&& 31) = nI (i / 4) := pk_shrN h _ 2 (by decide)
theorem zb_sh4 {i : Nat} (h : i < 2 ^ 31) : nI i >>> ((4 : Int32) &&& 31) = nI (i / 16) := pk_shrN h _ 4 (by decide)
theorem zb_sh11 {i : Nat} (h : i < 2 ^ 31) : nI i >>> ((11 : Int32) &&& 31) = nI (i / 2048) := pk_shrN h _ 11 (by decide)
theorem zb_sh20 {i : Nat} (h : i < 2 ^ 31) : nI i >>> ((20 : Int32) &&& 31) = nI (i / 1048576) := pk_shrN h _ 20 (by decide)
theorem zb_an3 {i : Nat} (h : i < 2 ^ 32) : nI i &&& 3 = nI (i % 4) := pk_andN h 2 (by decide)
theorem zb_an7 {i : Nat} (h : i < 2 ^ 32) : nI i &&& 7 = nI (i % 8) := pk_andN h 3 (by decide)
theorem zb_an127 {i : Nat} (h : i < 2 ^ 32) : nI i &&& 127 = nI (i % 128) := pk_andN h 7 (by decide)
theorem zb_an511 {i : Nat} (h : i < 2 ^ 32) : nI i &&& 511 = nI (i % 512) := pk_andN h 9 (by decide)
theorem zb_sl2 {i : Nat} (h : i < 2 ^ 29) : nI i <<< ((2 : Int32) &&& 31) = nI (i * 2 ^ 2) := pk_shlN _ 2 (by decide) (by omega)
theorem zb_sl4 {i : Nat} (h : i < 2 ^ 27) : nI i <<< ((4 : Int32) &&& 31) = nI (i * 2 ^ 4) := pk_shlN _ 4 (by decide) (by omega)
theorem zb_sl11 {i : Nat} (h : i < 2 ^ 20) : nI i <<< ((11 : Int32) &&& 31) = nI (i * 2 ^ 11) := pk_shlN _ 11 (by decide) (by omega)
theorem zb_sl20 {i : Nat} (h : i < 2 ^ 11) : nI i <<< ((20 : Int32) &&& 31) = nI (i * 2 ^ 20) := pk_shlN _ 20 (by decide) (by omega)
theorem zb_dv4 {i : Nat} (h : i < 2 ^ 31) : nI i / 4 = nI (i / 4) := pk_div (d := 4) h (by omega) (by omega)
theorem zb_dv8 {i : Nat} (h : i < 2 ^ 31) : nI i / 8 = nI (i / 8) := pk_div (d := 8) h (by omega) (by omega)
theorem zb_rm4 {i : Nat} (h : i < 2 ^ 31) : nI i - nI i / 4 * 4 = nI (i % 4) := pk_rem (d := 4) h (by omega) (by omega)
theorem zb_ix4 (b p : Nat) : nI b * 4 + nI p = nI (4 * b + p) := by
  rw [show (4 : Int32) = nI 4 from rfl, pk_mul, nI_add, Nat.mul_comm]
theorem zb_ix8 (b p : Nat) : nI b * 8 + nI p = nI (8 * b + p) := by
  rw [show (8 : Int32) = nI 8 from rfl, pk_mul, nI_add, Nat.mul_comm]
theorem zb_ix6 (b p : Nat) : nI b * 6 + nI p = nI (6 * b + p) := by
  rw [show (6 : Int32) = nI 6 from rfl, pk_mul, nI_add, Nat.mul_comm]
theorem zb_m4 (b : Nat) : nI b * 4 = nI (4 * b) := by
  rw [show (4 : Int32) = nI 4 from rfl, pk_mul, Nat.mul_comm]
theorem zb_m8 (b : Nat) : nI b * 8 = nI (8 * b) := by
  rw [show (8 : Int32) = nI 8 from rfl, pk_mul, Nat.mul_comm]
theorem zb_m4e (b : Nat) : nI b * 4 + 4 = nI (4 * b + 4) := zb_ix4 b 4
/-- the message of a port, packed -/
theorem zb_pack {k r i : Nat} (hk : k < 65536) (hr : r < 128) (hi : i < 2 ^ 31) :
    (((nI (k / 512) <<< ((20 : Int32) &&& 31)) ||| (nI (k % 512) <<< ((11 : Int32) &&& 31))) ||| (nI r <<< ((4 : Int32) &&& 31))) ||| ((nI i &&& 3) <<< ((2 : Int32) &&& 31)) = nI (k * 2048 + r * 16 + i % 4 * 4) := by
  rw [zb_an3 (by omega), zb_sl20 (by omega), zb_sl11 (by omega), zb_sl4 (by omega), zb_sl2 (by omega)]
  rw [zb_or 20 (a := k % 512 * 2 ^ 11) (by omega) (by omega)]
  rw [show k / 512 * 2 ^ 20 + k % 512 * 2 ^ 11 = k * 2 ^ 11 from by omega]
  rw [zb_or 11 (a := r * 2 ^ 4) (by omega) (by omega)]
  rw [show k * 2 ^ 11 + r * 2 ^ 4 = (k * 128 + r) * 2 ^ 4 from by omega]
  rw [zb_or 4 (a := i % 4 * 2 ^ 2) (by omega) (by omega)]
theorem zb_pack0 {r : Nat} (hr : r < 128) : (nI r <<< ((20 : Int32) &&& 31)) ||| (nI r <<< ((4 : Int32) &&& 31)) = nI (r * 1048576 + r * 16) := by
  rw [zb_sl20 (by omega), zb_sl4 (by omega), zb_or 20 (by omega) (by omega)]
/-- an array with its first e places mapped -/
def zb_pw (e : Nat) (f : Nat → Int32 → Int32) (a : Nat → Int32) : Nat → Int32 := fun t => if t < e then f t (a t) else a t
section
variable {f g : Nat → Int32 → Int32} {a : Nat → Int32} {e i t : Nat}
theorem zb_pw0 : zb_pw 0 f a = a := funext fun t => if_neg (by omega)
theorem zb_pw_ge (h : e ≤ t) : zb_pw e f a t = a t := if_neg (by omega)
theorem zb_pw_lt (h : t < e) : zb_pw e f a t = f t (a t) := if_pos h
theorem zb_pw_s : upd (zb_pw i f a) i (f i (a i)) = zb_pw (i + 1) f a := by
  funext t
  unfold upd zb_pw
  by_cases h : t = i
  · subst h; rw [if_pos rfl, if_pos (by omega)]
  · rw [if_neg h]
    by_cases h2 : t < i
    · rw [if_pos h2, if_pos (by omega)]
    · rw [if_neg h2, if_neg (by omega)]
theorem zb_pw_u {x : Int32} (h : x = f i (a i)) : upd (zb_pw i f a) i x = zb_pw (i + 1) f a := by rw [h, zb_pw_s]
theorem zb_pw_k (h : f i (a i) = a i) : zb_pw i f a = zb_pw (i + 1) f a := by
  funext t
  unfold zb_pw
  by_cases h2 : t < i
  · rw [if_pos h2, if_pos (by omega)]
  · rw [if_neg h2]
    by_cases h3 : t = i
    · subst h3; rw [if_pos (by omega), h]
    · rw [if_neg (by omega)]
theorem zb_pw_cg (h : ∀ t, t < e → f t (a t) = g t (a t)) : zb_pw e f a = zb_pw e g a := by
  funext t
  unfold zb_pw
  by_cases h2 : t < e
  · rw [if_pos h2, if_pos h2, h t h2]
  · rw [if_neg h2, if_neg h2]
theorem zb_pw_pw : zb_pw e g (zb_pw e f a) = zb_pw e (fun t v => g t (f t v)) a := by
  funext t
  unfold zb_pw
  by_cases h2 : t < e
  · rw [if_pos h2, if_pos h2, if_pos h2]
  · rw [if_neg h2, if_neg h2, if_neg h2]
theorem zb_pw_id (h : ∀ t, t < e → f t (a t) = a t) : zb_pw e f a = a := by
  funext t
  unfold zb_pw
  by_cases h2 : t < e
  · rw [if_pos h2, h t h2]
  · rw [if_neg h2]
end
theorem zb_upd_same {a : Nat → Int32} {k : Nat} {x : Int32} (h : a k = x) : upd a k x = a := by
  funext t
  unfold upd
  by_cases e : t = k
  · rw [if_pos e, e, h]
  · rw [if_neg e]
/-- a counted loop whose state is known at each turn -/
theorem zb_loop (W : Nat → Nat → Prop) (e : Nat) (hx : ∀ n, W (n + 1) e) (hs : ∀ n i, i < e → W n (i + 1) → W (n + 1) i) : ∀ n i, i ≤ e → e - i < n → W n i := by
  intro n
  induction n with
  | zero => intro i _ h; omega
  | succ n ih =>
    intro i hi hn
    by_cases h : i = e
    · subst h; exact hx n
    · exact hs n i (by omega) (ih (i + 1) (by omega) (by omega))
def zb_U (on lk : Nat → Int32) (i : Nat) : Bool := decide (¬ lk i = 0 ∧ ¬ on (i / 4) = 0)
def zb_N (a : Nat → Int32) (i : Nat) : Nat := (a i).toNatClampNeg
def zb_R (pr : Nat → Int32) (b : Nat) : Nat := (pr b).toNatClampNeg * 8 + b
/-- the configuration is well formed -/
def zb_WF (on pr lk co sg : Nat → Int32) : Prop :=
  (∀ b, b < 6 → on b = 0 ∨ on b = 1) ∧ (∀ b, b < 6 → ∃ p, p ≤ 15 ∧ pr b = nI p) ∧ (∀ i, i < 24 → lk i = 0 ∨ lk i = 1) ∧
  (∀ i, i < 24 → ∃ c, 1 ≤ c ∧ c ≤ 50 ∧ co i = nI c) ∧ (∀ i, i < 24 → ∃ s, s ≤ 8 ∧ sg i = nI s ∧ (¬ lk i = 0 → s < 8))
section
variable {on pr lk co sg : Nat → Int32}
theorem zb_WF_pr (h : zb_WF on pr lk co sg) {b : Nat} (hb : b < 6) : pr b * 8 + nI b = nI (zb_R pr b) ∧ zb_R pr b < 128 ∧ zb_R pr b % 8 = b := by
  obtain ⟨p, hp, e⟩ := h.2.1 b hb
  have e2 : (pr b).toNatClampNeg = p := by rw [e, nI_clamp (by omega)]
  unfold zb_R
  rw [e2, e]
  exact ⟨by rw [show (8 : Int32) = nI 8 from rfl, pk_mul, nI_add], by omega, by omega⟩
theorem zb_WF_co (h : zb_WF on pr lk co sg) {i : Nat} (hi : i < 24) : co i = nI (zb_N co i) ∧ 1 ≤ zb_N co i ∧ zb_N co i ≤ 50 := by
  obtain ⟨p, h1, h2, e⟩ := h.2.2.2.1 i hi
  have e2 : (co i).toNatClampNeg = p := by rw [e, nI_clamp (by omega)]
  unfold zb_N
  rw [e2]
  exact ⟨e, h1, h2⟩
theorem zb_WF_sg (h : zb_WF on pr lk co sg) {i : Nat} (hi : i < 24) : sg i = nI (zb_N sg i) ∧ zb_N sg i ≤ 8 ∧ (¬ lk i = 0 → zb_N sg i < 8) := by
  obtain ⟨p, h1, e, h2⟩ := h.2.2.2.2 i hi
  have e2 : (sg i).toNatClampNeg = p := by rw [e, nI_clamp (by omega)]
  unfold zb_N
  rw [e2]
  exact ⟨e, h1, h2⟩
theorem zb_WF_OK (h : zb_WF on pr lk co sg) : zb_OK (zb_N co) (zb_R pr) :=
  ⟨fun i hi => ⟨(zb_WF_co h hi).2.1, (zb_WF_co h hi).2.2⟩, fun b hb => ⟨(zb_WF_pr h hb).2.1, (zb_WF_pr h hb).2.2⟩⟩
theorem zb_U_lk {i : Nat} (h : zb_U on lk i = true) : ¬ lk i = 0 ∧ ¬ on (i / 4) = 0 := of_decide_eq_true h
theorem zb_U_f {i : Nat} (h : ¬ zb_U on lk i = true) : lk i = 0 ∨ on (i / 4) = 0 := by
  have h2 : ¬ (¬ lk i = 0 ∧ ¬ on (i / 4) = 0) := fun z => h (decide_eq_true z)
  by_cases a : lk i = 0
  · exact Or.inl a
  · by_cases b : on (i / 4) = 0
    · exact Or.inr b
    · exact absurd ⟨a, b⟩ h2
theorem zb_U_sg (hW : zb_WF on pr lk co sg) {i : Nat} (hi : i < 24) (h : zb_U on lk i = true) : sg i = nI (zb_N sg i) ∧ zb_N sg i < 8 :=
  ⟨(zb_WF_sg hW hi).1, (zb_WF_sg hW hi).2.2 (zb_U_lk h).1⟩
end
/-- the election's value after k rounds, of a configuration -/
def zb_K (on pr lk co sg : Nat → Int32) (k : Nat) : Nat → Nat := zb_bf (zb_U on lk) (zb_N sg) (zb_N co) (zb_R pr) k
theorem zb_nI_inj {a b : Nat} (ha : a < 2 ^ 31) (hb : b < 2 ^ 31) (h : nI a = nI b) : a = b := (nI_eq ha hb).mp h
theorem zb_m5 {q : Nat} (h : q < 2 ^ 31) : ¬ (-5 : Int32) = nI q := by
  intro e
  have h2 := congrArg Int32.toInt e
  rw [nI_toInt h] at h2
  have h3 : (-5 : Int32).toInt = -5 := by decide
  omega
theorem zb_m5' {q : Nat} (h : q < 2 ^ 31) : ¬ nI q = (-5 : Int32) := fun e => zb_m5 h e.symm
theorem zb_m1n {q : Nat} (h : q < 2 ^ 31) : ¬ nI q = (-1 : Int32) := by
  intro e
  have h2 := congrArg Int32.toInt e
  rw [nI_toInt h] at h2
  have h3 : (-1 : Int32).toInt = -1 := by decide
  omega
end
section
/-! the component's election -/
def zb_pI (q : Nat) : Int32 := if q = 4 then -5 else nI q
def zb_ro (up : Nat → Bool) (sg c rk K : Nat → Nat) (i : Nat) : Nat :=
  if up i = true then
    (if zb_ap up sg c rk K (i / 4) 4 = i % 4 then 3
     else if zb_ms up sg rk K (sg i) 24 / 16 % 128 = rk (i / 4) ∧ zb_ms up sg rk K (sg i) 24 / 4 % 4 = i % 4 then 2 else 1)
  else 0
section
variable {wt rt sh dl la cp : Int32} {on pr ca sc cr cc rp lk co sg st tm ro ep ea mg cs so : Nat → Int32} {post : Int32 → Prop}
theorem zx_up1 {i : Nat} (hi : i < 24) (hu : zb_U on lk i = true) (h : post 1) : wpX_isUp post (wt, rt, sh, dl, la, cp, on, pr, ca, sc, cr, cc, rp, lk, co, sg, st, tm, ro, ep, ea, mg, cs, so) (nI i) := by
  have h1 := (zb_U_lk hu).1
  have h2 := (zb_U_lk hu).2
  simp only [wpX_isUp, zb_sh2 (show i < 2 ^ 31 by omega), nI_clamp (show i < 2 ^ 31 by omega), nI_clamp (show i / 4 < 2 ^ 31 by omega)]
  exact ⟨vp_in_nI hi (by omega), br_f h1 ⟨vp_in_nI (by omega) (by omega), br_f h2 h⟩⟩
theorem zx_up0 {i : Nat} (hi : i < 24) (hu : ¬ zb_U on lk i = true) (h : post 0) : wpX_isUp post (wt, rt, sh, dl, la, cp, on, pr, ca, sc, cr, cc, rp, lk, co, sg, st, tm, ro, ep, ea, mg, cs, so) (nI i) := by
  simp only [wpX_isUp, zb_sh2 (show i < 2 ^ 31 by omega), nI_clamp (show i < 2 ^ 31 by omega), nI_clamp (show i / 4 < 2 ^ 31 by omega)]
  refine ⟨vp_in_nI hi (by omega), ?_⟩
  by_cases h1 : lk i = 0
  · exact br_t h1 h
  · have h2 : on (i / 4) = 0 := (zb_U_f hu).resolve_left h1
    exact br_f h1 ⟨vp_in_nI (by omega) (by omega), br_t h2 h⟩
theorem zx_rank (hW : zb_WF on pr lk co sg) {b : Nat} (hb : b < 6) (h : post (nI (zb_R pr b))) : wpX_rankOf post (wt, rt, sh, dl, la, cp, on, pr, ca, sc, cr, cc, rp, lk, co, sg, st, tm, ro, ep, ea, mg, cs, so) (nI b) := by
  refine And.intro (vp_in_nI hb (by omega)) ?_
  rw [nI_clamp (by omega), (zb_WF_pr hW hb).1]
  exact h
end
section
variable {wt rt sh dl la cp : Int32} {on pr ca sc cr cc rp lk co sg st tm ro ep ea mg cs so : Nat → Int32} {K : Nat → Nat}
theorem zx_tr24 {post : SX → Prop} (hW : zb_WF on pr lk co sg) (hK : ∀ b, b < 6 → K b < 65536)
    (hc : ∀ b, b < 6 → cr b = nI (K b / 512) ∧ cc b = nI (K b % 512))
    (h : ∀ mg : Nat → Int32, (∀ s, s < 8 → mg s = nI (zb_ms (zb_U on lk) (zb_N sg) (zb_R pr) K s 24)) → post (wt, rt, sh, dl, la, cp, on, pr, ca, sc, cr, cc, rp, lk, co, sg, st, tm, ro, ep, ea, mg, cs, so)) :
    ∀ n i mg, i ≤ 24 → 24 - i < n → (∀ s, s < 8 → mg s = nI (zb_ms (zb_U on lk) (zb_N sg) (zb_R pr) K s i)) → wX_transmit_24 post wt rt sh dl la cp n (nI i) on pr ca sc cr cc rp lk co sg st tm ro ep ea mg cs so := by
  intro n
  induction n with
  | zero => intro i mg _ h; omega
  | succ n ih =>
    intro i mg hi hn hm
    refine pk_le 24 i (fun hg => h mg (by have e : i = 24 := by omega
                                          subst e; exact hm)) (fun hl => ?_)
    by_cases hu : zb_U on lk i = true
    · refine zx_up1 hl hu (br_f (by decide) (nm_r (zb_sh2 (by omega)) ?_))
      obtain ⟨es, hs⟩ := zb_U_sg hW hl hu
      have hb : i / 4 < 6 := by omega
      refine zx_rank hW hb ?_
      have hM := zb_M_lt (zb_WF_OK hW) hK hl
      refine ⟨vp_in_nI hb (by omega), vp_in_nI hb (by omega), nm_r (e' := nI (zb_M (zb_R pr) K i)) ?_ ⟨vp_in_nI hl (by omega), nm_r (e' := nI (zb_N sg i)) ?_ ⟨vp_in_nI hs (by omega), ?_⟩⟩⟩
      · rw [nI_clamp (by omega), (hc _ hb).1, (hc _ hb).2]
        exact zb_pack (hK _ hb) (zb_WF_pr hW hb).2.1 (by omega)
      · rw [nI_clamp (by omega)]
        exact es
      · rw [nI_clamp (by omega)]
        have hlt : zb_ms (zb_U on lk) (zb_N sg) (zb_R pr) K (zb_N sg i) i < 2 ^ 31 := by
          rcases zb_ms_at (up := zb_U on lk) (sg := zb_N sg) (rk := zb_R pr) (K := K) (zb_N sg i) i with z | ⟨j, hj, _, _, z⟩
          · rw [z.1]; omega
          · rw [z]; have := zb_M_lt (zb_WF_OK hW) hK (show j < 24 by omega); omega
        refine pk_le (zb_ms (zb_U on lk) (zb_N sg) (zb_R pr) K (zb_N sg i) i) (zb_M (zb_R pr) K i) (fun g => nm_r (nI_1 i) (ih (i + 1) mg (by omega) (by omega) ?_)) (fun g => ⟨vp_in_nI hs (by omega), nm_e (nm_r (nI_1 i) (ih (i + 1) _ (by omega) (by omega) ?_))⟩) (hm _ hs) rfl hlt (by omega)
        · intro s h8
          rw [hm s h8]
          refine congrArg nI ?_
          simp only [zb_ms]
          rw [if_neg]
          rintro ⟨_, z2, z3⟩
          rw [← z2] at z3
          omega
        · intro s h8
          by_cases e : s = zb_N sg i
          · subst e
            rw [pk_us]
            refine congrArg nI ?_
            simp only [zb_ms]
            rw [if_pos ⟨hu, by trivial, g⟩]
          · rw [pk_un e, hm s h8]
            refine congrArg nI ?_
            simp only [zb_ms]
            rw [if_neg]
            rintro ⟨_, z2, _⟩
            exact e z2.symm
    · refine zx_up0 hl hu (br_t rfl (nm_r (nI_1 i) (ih (i + 1) mg (by omega) (by omega) ?_)))
      intro s h8
      rw [hm s h8]
      refine congrArg nI ?_
      simp only [zb_ms]
      rw [if_neg]
      rintro ⟨z1, _, _⟩
      exact hu z1
theorem zx_tr {post : SX → Prop} (hW : zb_WF on pr lk co sg) (hK : ∀ b, b < 6 → K b < 65536)
    (hc : ∀ b, b < 6 → cr b = nI (K b / 512) ∧ cc b = nI (K b % 512))
    (h : ∀ mg : Nat → Int32, (∀ s, s < 8 → mg s = nI (zb_ms (zb_U on lk) (zb_N sg) (zb_R pr) K s 24)) → post (wt, rt, sh, dl, la, cp, on, pr, ca, sc, cr, cc, rp, lk, co, sg, st, tm, ro, ep, ea, mg, cs, so)) : wpX_transmit post (wt, rt, sh, dl, la, cp, on, pr, ca, sc, cr, cc, rp, lk, co, sg, st, tm, ro, ep, ea, mg, cs, so) := by
  have l2 : ∀ n i mg, i ≤ 8 → 8 - i < n → (∀ s, s < i → mg s = 2147483647) → wX_transmit_2 post wt rt sh dl la cp n (nI i) on pr ca sc cr cc rp lk co sg st tm ro ep ea mg cs so := by
    intro n
    induction n with
    | zero => intro i mg _ h; omega
    | succ n ih =>
      intro i mg hi hn hm
      refine pk_le 8 i (fun hg => ⟨25, zx_tr24 hW hK hc h 25 0 mg (by omega) (by omega) (fun s hs => hm s (by omega))⟩) (fun hl => ⟨vp_in_nI hl (by omega), nm_e (nm_r (nI_1 i) (ih (i + 1) _ (by omega) (by omega) ?_))⟩)
      intro s hs
      rw [nI_clamp (by omega)]
      by_cases e : s = i
      · subst e; exact pk_us
      · rw [pk_un e]; exact hm s (by omega)
  exact Exists.intro 9 (l2 9 0 mg (by omega) (by omega) (fun s hs => absurd hs (by omega)))
theorem zx_ad135 {post : Int32 → SX → Prop} {b : Nat} {x4 x5 x6 z : Int32} (hb : b < 6) (hz : z = 0 ∨ z = 1) (h : post z (wt, rt, sh, dl, la, cp, on, pr, ca, sc, upd cr b x5, upd cc b x6, upd rp b x4, lk, co, sg, st, tm, ro, ep, ea, mg, cs, so)) : wX_adoptBest_135 post (nI b) x4 x5 x6 z wt rt sh dl la cp on pr ca sc cr cc rp lk co sg st tm ro ep ea mg cs so := by
  have hn : narrow .boolean (.int z) = .int z := by
    rcases hz with e | e
    · rw [e]; exact narrow_b0
    · rw [e]; exact narrow_b1
  unfold wX_adoptBest_135
  rw [nI_clamp (by omega)]
  exact ⟨vp_in_nI hb (by omega), nm_e ⟨vp_in_nI hb (by omega), nm_e ⟨vp_in_nI hb (by omega), nm_e ⟨hn, h⟩⟩⟩⟩
theorem zx_ad22 {post : Int32 → SX → Prop} (hW : zb_WF on pr lk co sg) (hK : ∀ b, b < 6 → K b < 65536) {b : Nat} (hb : b < 6)
    (hm : ∀ s, s < 8 → mg s = nI (zb_ms (zb_U on lk) (zb_N sg) (zb_R pr) K s 24))
    (hc : cr b = nI (K b / 512) ∧ cc b = nI (K b % 512))
    (h : post (if zb_nx (zb_U on lk) (zb_N sg) (zb_N co) (zb_R pr) K b = K b then 0 else 1) (wt, rt, sh, dl, la, cp, on, pr, ca, sc, upd cr b (nI (zb_nx (zb_U on lk) (zb_N sg) (zb_N co) (zb_R pr) K b / 512)), upd cc b (nI (zb_nx (zb_U on lk) (zb_N sg) (zb_N co) (zb_R pr) K b % 512)), upd rp b (zb_pI (zb_ap (zb_U on lk) (zb_N sg) (zb_N co) (zb_R pr) K b 4)), lk, co, sg, st, tm, ro, ep, ea, mg, cs, so)) :
    ∀ n p, p ≤ 4 → 4 - p < n → wX_adoptBest_22 post (nI b) wt rt sh dl la cp on pr ca sc cr cc rp lk co sg st tm ro ep ea mg cs so n (nI (zb_ab (zb_U on lk) (zb_N sg) (zb_N co) (zb_R pr) K b p)) (zb_pI (zb_ap (zb_U on lk) (zb_N sg) (zb_N co) (zb_R pr) K b p)) (nI p) := by
  have hR := (zb_WF_pr hW hb).2.1
  have hab : ∀ p, zb_ab (zb_U on lk) (zb_N sg) (zb_N co) (zb_R pr) K b p < 2 ^ 31 := fun p => by
    have := zb_ab_le0 (up := zb_U on lk) (sg := zb_N sg) (c := zb_N co) (rk := zb_R pr) (K := K) (b := b) p
    omega
  refine zb_loop (fun n p => wX_adoptBest_22 post (nI b) wt rt sh dl la cp on pr ca sc cr cc rp lk co sg st tm ro ep ea mg cs so n (nI (zb_ab (zb_U on lk) (zb_N sg) (zb_N co) (zb_R pr) K b p)) (zb_pI (zb_ap (zb_U on lk) (zb_N sg) (zb_N co) (zb_R pr) K b p)) (nI p)) 4 ?_ ?_
  · intro n
    have hnx := zb_nx_le (up := zb_U on lk) (sg := zb_N sg) (K := K) (zb_WF_OK hW) hb
    have hk := hK b hb
    have h4 := hab 4
    have e1 : nI (zb_ab (zb_U on lk) (zb_N sg) (zb_N co) (zb_R pr) K b 4) >>> ((20 : Int32) &&& 31) = nI (zb_nx (zb_U on lk) (zb_N sg) (zb_N co) (zb_R pr) K b / 512) := by
      rw [zb_sh20 h4]
      refine congrArg nI ?_
      unfold zb_nx
      omega
    have e2 : (nI (zb_ab (zb_U on lk) (zb_N sg) (zb_N co) (zb_R pr) K b 4) >>> ((11 : Int32) &&& 31)) &&& 511 = nI (zb_nx (zb_U on lk) (zb_N sg) (zb_N co) (zb_R pr) K b % 512) := by
      rw [zb_sh11 h4, zb_an511 (by omega)]
      rfl
    refine br_t (nI_le (a := 4) (b := 4) (by omega) (by omega)) (nm_r e1 (nm_r e2 ⟨vp_in_nI hb (by omega), ?_⟩))
    rw [nI_clamp (by omega), hc.1, hc.2]
    refine pk_eq (zb_nx (zb_U on lk) (zb_N sg) (zb_N co) (zb_R pr) K b / 512) (K b / 512) (fun q1 => ⟨vp_in_nI hb (by omega), pk_eq (zb_nx (zb_U on lk) (zb_N sg) (zb_N co) (zb_R pr) K b % 512) (K b % 512) (fun q2 => ?_) (fun q2 => ?_)⟩) (fun q1 => ?_)
    · rw [if_pos (by omega)] at h
      exact zx_ad135 hb (Or.inl rfl) h
    · rw [if_neg (fun z => q2 (by rw [z]))] at h
      exact zx_ad135 hb (Or.inr rfl) h
    · rw [if_neg (fun z => q1 (by rw [z]))] at h
      exact zx_ad135 hb (Or.inr rfl) h
  · intro n p hp hw
    have h4 := hab p
    refine br_f (nI_ge (a := p) (b := 4) hp (by omega)) (nm_r (zb_ix4 b p) ?_)
    have hi : 4 * b + p < 24 := by omega
    by_cases hu : zb_U on lk (4 * b + p) = true
    · obtain ⟨es, hs⟩ := zb_U_sg hW hi hu
      obtain ⟨j, hj, uj, ej, em⟩ := zb_ms_in (up := zb_U on lk) (sg := zb_N sg) (zb_WF_OK hW) hK hi hu
      have hM := zb_M_lt (zb_WF_OK hW) hK hj
      have hC := zb_WF_co hW hi
      refine zx_up1 hi hu (br_f (by decide) ⟨vp_in_nI hi (by omega), ?_⟩)
      rw [nI_clamp (by omega), es]
      refine ⟨vp_in_nI hs (by omega), vp_in_nI hi (by omega), nm_r (e' := nI (zb_of (zb_U on lk) (zb_N sg) (zb_N co) (zb_R pr) K b p)) ?_ ?_⟩
      · rw [nI_clamp (by omega), hm _ hs, hC.1, zb_sl11 (by omega), nI_add, nI_add]
        rfl
      · have hof : zb_of (zb_U on lk) (zb_N sg) (zb_N co) (zb_R pr) K b p < 2 ^ 31 := by
          unfold zb_of
          rw [em]
          omega
        refine pk_le (zb_ab (zb_U on lk) (zb_N sg) (zb_N co) (zb_R pr) K b p) (zb_of (zb_U on lk) (zb_N sg) (zb_N co) (zb_R pr) K b p) (fun g => nm_r (nI_1 p) ?_) (fun g => nm_r (nI_1 p) ?_)
        · have e : ¬ (zb_U on lk (4 * b + p) = true ∧ zb_of (zb_U on lk) (zb_N sg) (zb_N co) (zb_R pr) K b p < zb_ab (zb_U on lk) (zb_N sg) (zb_N co) (zb_R pr) K b p) := fun z => by have := z.2; omega
          simp only [zb_ab, zb_ap] at hw
          rw [if_neg e, if_neg e] at hw
          exact hw
        · have e : zb_U on lk (4 * b + p) = true ∧ zb_of (zb_U on lk) (zb_N sg) (zb_N co) (zb_R pr) K b p < zb_ab (zb_U on lk) (zb_N sg) (zb_N co) (zb_R pr) K b p := ⟨hu, g⟩
          simp only [zb_ab, zb_ap] at hw
          rw [if_pos e, if_pos e] at hw
          have e5 : zb_pI p = nI p := if_neg (by omega)
          rw [e5] at hw
          exact hw
    · refine zx_up0 hi hu (br_t rfl (nm_r (nI_1 p) ?_))
      have e : ¬ (zb_U on lk (4 * b + p) = true ∧ zb_of (zb_U on lk) (zb_N sg) (zb_N co) (zb_R pr) K b p < zb_ab (zb_U on lk) (zb_N sg) (zb_N co) (zb_R pr) K b p) := fun z => hu z.1
      simp only [zb_ab, zb_ap] at hw
      rw [if_neg e, if_neg e] at hw
      exact hw
theorem zx_ad {post : Int32 → SX → Prop} (hW : zb_WF on pr lk co sg) (hK : ∀ b, b < 6 → K b < 65536) {b : Nat} (hb : b < 6)
    (hm : ∀ s, s < 8 → mg s = nI (zb_ms (zb_U on lk) (zb_N sg) (zb_R pr) K s 24))
    (hc : cr b = nI (K b / 512) ∧ cc b = nI (K b % 512))
    (h : post (if zb_nx (zb_U on lk) (zb_N sg) (zb_N co) (zb_R pr) K b = K b then 0 else 1) (wt, rt, sh, dl, la, cp, on, pr, ca, sc, upd cr b (nI (zb_nx (zb_U on lk) (zb_N sg) (zb_N co) (zb_R pr) K b / 512)), upd cc b (nI (zb_nx (zb_U on lk) (zb_N sg) (zb_N co) (zb_R pr) K b % 512)), upd rp b (zb_pI (zb_ap (zb_U on lk) (zb_N sg) (zb_N co) (zb_R pr) K b 4)), lk, co, sg, st, tm, ro, ep, ea, mg, cs, so)) :
    wpX_adoptBest post (wt, rt, sh, dl, la, cp, on, pr, ca, sc, cr, cc, rp, lk, co, sg, st, tm, ro, ep, ea, mg, cs, so) (nI b) := by
  unfold wpX_adoptBest
  dsimp only
  refine zx_rank hW hb ?_
  refine nm_r (zb_pack0 (zb_WF_pr hW hb).2.1) ?_
  exact Exists.intro 5 (zx_ad22 hW hK hb hm hc h 5 0 (by omega) (by omega))
end
end
section
/-! the component's election: rounds and roles -/
theorem zb_fill {F : Nat → Int32} {a : Nat → Int32} {i : Nat} {v : Int32} (hi : i < 2 ^ 31) (h : ∀ j, j < i → a j = F j) (hv : v = F i) : ∀ j, j < i + 1 → upd a (nI i).toNatClampNeg v j = F j := by
  intro j hj
  rw [nI_clamp hi]
  by_cases e : j = i
  · subst e; rw [pk_us]; exact hv
  · rw [pk_un e]; exact h j (by omega)
theorem zb_nb {x : Int32} (hx : x = 0 ∨ x = 1) : narrow .boolean (.int x) = .int x := by
  rcases hx with e | e
  · rw [e]; exact narrow_b0
  · rw [e]; exact narrow_b1
section
variable {wt rt sh dl la cp : Int32} {on pr ca sc cr cc rp lk co sg st tm ro ep ea mg cs so : Nat → Int32} {K : Nat → Nat}
theorem zx_rc4 {post : Int32 → SX → Prop} (hW : zb_WF on pr lk co sg) (hK : ∀ b, b < 6 → K b < 65536)
    (hm : ∀ s, s < 8 → mg s = nI (zb_ms (zb_U on lk) (zb_N sg) (zb_R pr) K s 24))
    (h : ∀ (x : Int32) (cr cc rp : Nat → Int32), (x = 0 ∨ x = 1) → (x = 0 → ∀ b, b < 6 → zb_nx (zb_U on lk) (zb_N sg) (zb_N co) (zb_R pr) K b = K b) → (∀ b, b < 6 → cr b = nI (zb_nx (zb_U on lk) (zb_N sg) (zb_N co) (zb_R pr) K b / 512) ∧ cc b = nI (zb_nx (zb_U on lk) (zb_N sg) (zb_N co) (zb_R pr) K b % 512) ∧ rp b = zb_pI (zb_ap (zb_U on lk) (zb_N sg) (zb_N co) (zb_R pr) K b 4)) → post x (wt, rt, sh, dl, la, cp, on, pr, ca, sc, cr, cc, rp, lk, co, sg, st, tm, ro, ep, ea, mg, cs, so)) :
    ∀ n i x cr cc rp, i ≤ 6 → 6 - i < n → (x = 0 ∨ x = 1) → (x = 0 → ∀ b, b < i → zb_nx (zb_U on lk) (zb_N sg) (zb_N co) (zb_R pr) K b = K b) → (∀ b, b < i → cr b = nI (zb_nx (zb_U on lk) (zb_N sg) (zb_N co) (zb_R pr) K b / 512) ∧ cc b = nI (zb_nx (zb_U on lk) (zb_N sg) (zb_N co) (zb_R pr) K b % 512) ∧ rp b = zb_pI (zb_ap (zb_U on lk) (zb_N sg) (zb_N co) (zb_R pr) K b 4)) → (∀ b, i ≤ b → b < 6 → cr b = nI (K b / 512) ∧ cc b = nI (K b % 512)) → wX_receive_4 post n x (nI i) wt rt sh dl la cp on pr ca sc cr cc rp lk co sg st tm ro ep ea mg cs so := by
  intro n
  induction n with
  | zero => intro i x cr cc rp _ h; omega
  | succ n ih =>
    intro i x cr cc rp hi hn hx hz hl hr
    refine pk_le 6 i (fun hg => ⟨zb_nb hx, ?_⟩) (fun h6 => ?_)
    · have e : i = 6 := by omega
      subst e
      exact h x cr cc rp hx hz hl
    · have hl' : ∀ b, b < i + 1 → upd cr i (nI (zb_nx (zb_U on lk) (zb_N sg) (zb_N co) (zb_R pr) K i / 512)) b = nI (zb_nx (zb_U on lk) (zb_N sg) (zb_N co) (zb_R pr) K b / 512) ∧ upd cc i (nI (zb_nx (zb_U on lk) (zb_N sg) (zb_N co) (zb_R pr) K i % 512)) b = nI (zb_nx (zb_U on lk) (zb_N sg) (zb_N co) (zb_R pr) K b % 512) ∧ upd rp i (zb_pI (zb_ap (zb_U on lk) (zb_N sg) (zb_N co) (zb_R pr) K i 4)) b = zb_pI (zb_ap (zb_U on lk) (zb_N sg) (zb_N co) (zb_R pr) K b 4) := by
        intro b hb
        by_cases e : b = i
        · subst e; rw [pk_us, pk_us, pk_us]; exact ⟨rfl, rfl, rfl⟩
        · rw [pk_un e, pk_un e, pk_un e]; exact hl b (by omega)
      have hr' : ∀ b, i + 1 ≤ b → b < 6 → upd cr i (nI (zb_nx (zb_U on lk) (zb_N sg) (zb_N co) (zb_R pr) K i / 512)) b = nI (K b / 512) ∧ upd cc i (nI (zb_nx (zb_U on lk) (zb_N sg) (zb_N co) (zb_R pr) K i % 512)) b = nI (K b % 512) := by
        intro b hb h6
        have e : b ≠ i := by omega
        rw [pk_un e, pk_un e]; exact hr b (by omega) h6
      refine zx_ad hW hK h6 hm (hr i (Nat.le_refl i) h6) ?_
      by_cases e : zb_nx (zb_U on lk) (zb_N sg) (zb_N co) (zb_R pr) K i = K i
      · rw [if_pos e]
        refine br_t rfl (nm_r (nI_1 i) (ih (i + 1) x _ _ _ (by omega) (by omega) hx (fun z b hb => ?_) hl' hr'))
        by_cases e2 : b = i
        · rw [e2]; exact e
        · exact hz z b (by omega)
      · rw [if_neg e]
        exact br_f (by decide) (nm_r (nI_1 i) (ih (i + 1) 1 _ _ _ (by omega) (by omega) (Or.inr rfl) (fun z => absurd z (by decide)) hl' hr'))
theorem zx_rc {post : Int32 → SX → Prop} (hW : zb_WF on pr lk co sg) (hK : ∀ b, b < 6 → K b < 65536)
    (hm : ∀ s, s < 8 → mg s = nI (zb_ms (zb_U on lk) (zb_N sg) (zb_R pr) K s 24)) (hc : ∀ b, b < 6 → cr b = nI (K b / 512) ∧ cc b = nI (K b % 512))
    (h : ∀ (x : Int32) (cr cc rp : Nat → Int32), (x = 0 ∨ x = 1) → (x = 0 → ∀ b, b < 6 → zb_nx (zb_U on lk) (zb_N sg) (zb_N co) (zb_R pr) K b = K b) → (∀ b, b < 6 → cr b = nI (zb_nx (zb_U on lk) (zb_N sg) (zb_N co) (zb_R pr) K b / 512) ∧ cc b = nI (zb_nx (zb_U on lk) (zb_N sg) (zb_N co) (zb_R pr) K b % 512) ∧ rp b = zb_pI (zb_ap (zb_U on lk) (zb_N sg) (zb_N co) (zb_R pr) K b 4)) → post x (wt, rt, sh, dl, la, cp, on, pr, ca, sc, cr, cc, rp, lk, co, sg, st, tm, ro, ep, ea, mg, cs, so)) : wpX_receive post (wt, rt, sh, dl, la, cp, on, pr, ca, sc, cr, cc, rp, lk, co, sg, st, tm, ro, ep, ea, mg, cs, so) :=
  Exists.intro 7 (zx_rc4 hW hK hm h 7 0 0 cr cc rp (by omega) (by omega) (Or.inl rfl) (fun _ b hb => absurd hb (by omega)) (fun b hb => absurd hb (by omega)) (fun b _ hb => hc b hb))
theorem zx_sender {post : Int32 → Prop} (hW : zb_WF on pr lk co sg) (hK : ∀ b, b < 6 → K b < 65536)
    (hm : ∀ s, s < 8 → mg s = nI (zb_ms (zb_U on lk) (zb_N sg) (zb_R pr) K s 24)) {i : Nat} (hi : i < 24) (hu : zb_U on lk i = true)
    (h : post (if zb_ms (zb_U on lk) (zb_N sg) (zb_R pr) K (zb_N sg i) 24 / 16 % 128 = zb_R pr (i / 4) ∧ zb_ms (zb_U on lk) (zb_N sg) (zb_R pr) K (zb_N sg i) 24 / 4 % 4 = i % 4 then 1 else 0)) : wpX_isSender post (wt, rt, sh, dl, la, cp, on, pr, ca, sc, cr, cc, rp, lk, co, sg, st, tm, ro, ep, ea, mg, cs, so) (nI i) := by
  obtain ⟨es, hs⟩ := zb_U_sg hW hi hu
  obtain ⟨j, hj, uj, ej, em⟩ := zb_ms_in (up := zb_U on lk) (sg := zb_N sg) (zb_WF_OK hW) hK hi hu
  have hM := zb_M_lt (zb_WF_OK hW) hK hj
  have hR := (zb_WF_pr hW (show i / 4 < 6 by omega)).2.1
  have hlt : zb_ms (zb_U on lk) (zb_N sg) (zb_R pr) K (zb_N sg i) 24 < 2 ^ 31 := by rw [em]; omega
  unfold wpX_isSender
  dsimp only
  rw [nI_clamp (show i < 2 ^ 31 by omega), es, nI_clamp (show zb_N sg i < 2 ^ 31 by omega), hm _ hs, zb_sh2 (show i < 2 ^ 31 by omega)]
  refine ⟨vp_in_nI hi (by omega), vp_in_nI hs (by omega), nm_e ?_⟩
  refine zx_rank hW (by omega) ?_
  rw [zb_sh4 hlt, zb_sh2 hlt, zb_an127 (by omega), zb_an3 (by omega), zb_an3 (by omega)]
  refine pk_eq (zb_ms (zb_U on lk) (zb_N sg) (zb_R pr) K (zb_N sg i) 24 / 16 % 128) (zb_R pr (i / 4)) (fun q1 => pk_eq (zb_ms (zb_U on lk) (zb_N sg) (zb_R pr) K (zb_N sg i) 24 / 4 % 4) (i % 4) (fun q2 => ?_) (fun q2 => ?_)) (fun q1 => ?_)
  · rw [if_pos ⟨q1, q2⟩] at h; exact h
  · rw [if_neg (fun z => q2 z.2)] at h; exact h
  · rw [if_neg (fun z => q1 z.1)] at h; exact h
theorem zx_as2 {post : SX → Prop} (hW : zb_WF on pr lk co sg) (hK : ∀ b, b < 6 → K b < 65536)
    (hm : ∀ s, s < 8 → mg s = nI (zb_ms (zb_U on lk) (zb_N sg) (zb_R pr) K s 24)) (hr : ∀ b, b < 6 → rp b = zb_pI (zb_ap (zb_U on lk) (zb_N sg) (zb_N co) (zb_R pr) K b 4))
    (h : ∀ ro : Nat → Int32, (∀ i, i < 24 → ro i = nI (zb_ro (zb_U on lk) (zb_N sg) (zb_N co) (zb_R pr) K i)) → post (wt, rt, sh, dl, la, cp, on, pr, ca, sc, cr, cc, rp, lk, co, sg, st, tm, ro, ep, ea, mg, cs, so)) :
    ∀ n i ro, i ≤ 24 → 24 - i < n → (∀ j, j < i → ro j = nI (zb_ro (zb_U on lk) (zb_N sg) (zb_N co) (zb_R pr) K j)) → wX_assignRoles_2 post wt rt sh dl la cp n (nI i) on pr ca sc cr cc rp lk co sg st tm ro ep ea mg cs so := by
  intro n
  induction n with
  | zero => intro i ro _ h; omega
  | succ n ih =>
    intro i ro hi hn hj
    refine pk_le 24 i (fun hg => h ro (fun j hj' => hj j (by omega))) (fun hl => nm_r (zb_sh2 (by omega)) (nm_r (zb_an3 (by omega)) ?_))
    have next : ∀ v : Int32, v = nI (zb_ro (zb_U on lk) (zb_N sg) (zb_N co) (zb_R pr) K i) → wX_assignRoles_2 post wt rt sh dl la cp n (nI (i + 1)) on pr ca sc cr cc rp lk co sg st tm (upd ro (nI i).toNatClampNeg v) ep ea mg cs so := fun v hv =>
      ih (i + 1) _ (by omega) (by omega) (zb_fill (F := fun j => nI (zb_ro (zb_U on lk) (zb_N sg) (zb_N co) (zb_R pr) K j)) (by omega) hj hv)
    have hb : i / 4 < 6 := by omega
    by_cases hu : zb_U on lk i = true
    · refine zx_up1 hl hu (br_f (by decide) ⟨vp_in_nI hb (by omega), ?_⟩)
      rw [nI_clamp (show i / 4 < 2 ^ 31 by omega), hr _ hb]
      by_cases q : zb_ap (zb_U on lk) (zb_N sg) (zb_N co) (zb_R pr) K (i / 4) 4 = i % 4
      · have e5 : zb_pI (zb_ap (zb_U on lk) (zb_N sg) (zb_N co) (zb_R pr) K (i / 4) 4) = nI (i % 4) := by rw [q]; exact if_neg (by omega)
        refine br_t e5 ⟨vp_in_nI hl (by omega), nm_e (nm_r (nI_1 i) (next 3 ?_))⟩
        unfold zb_ro
        rw [if_pos hu, if_pos q]
        rfl
      · have e5 : ¬ zb_pI (zb_ap (zb_U on lk) (zb_N sg) (zb_N co) (zb_R pr) K (i / 4) 4) = nI (i % 4) := by
          unfold zb_pI
          by_cases e4 : zb_ap (zb_U on lk) (zb_N sg) (zb_N co) (zb_R pr) K (i / 4) 4 = 4
          · rw [if_pos e4]; exact zb_m5 (by omega)
          · rw [if_neg e4]
            intro z
            rcases zb_ab_at (up := zb_U on lk) (sg := zb_N sg) (c := zb_N co) (rk := zb_R pr) (K := K) (i / 4) 4 with y | ⟨p, hp, _, _, y⟩
            · exact e4 y.2
            · exact q (zb_nI_inj (by omega) (by omega) z)
        refine br_f e5 (zx_sender hW hK hm hl hu ?_)
        by_cases q2 : zb_ms (zb_U on lk) (zb_N sg) (zb_R pr) K (zb_N sg i) 24 / 16 % 128 = zb_R pr (i / 4) ∧ zb_ms (zb_U on lk) (zb_N sg) (zb_R pr) K (zb_N sg i) 24 / 4 % 4 = i % 4
        · rw [if_pos q2]
          refine br_f (by decide) ⟨vp_in_nI hl (by omega), nm_e (nm_r (nI_1 i) (next 2 ?_))⟩
          unfold zb_ro
          rw [if_pos hu, if_neg q, if_pos q2]
          rfl
        · rw [if_neg q2]
          refine br_t rfl ⟨vp_in_nI hl (by omega), nm_e (nm_r (nI_1 i) (next 1 ?_))⟩
          unfold zb_ro
          rw [if_pos hu, if_neg q, if_neg q2]
          rfl
    · refine zx_up0 hl hu (br_t rfl ⟨vp_in_nI hl (by omega), nm_e (nm_r (nI_1 i) (next 0 ?_))⟩)
      unfold zb_ro
      rw [if_neg hu]
      rfl
theorem zx_as {post : SX → Prop} (hW : zb_WF on pr lk co sg) (hK : ∀ b, b < 6 → K b < 65536)
    (hm : ∀ s, s < 8 → mg s = nI (zb_ms (zb_U on lk) (zb_N sg) (zb_R pr) K s 24)) (hr : ∀ b, b < 6 → rp b = zb_pI (zb_ap (zb_U on lk) (zb_N sg) (zb_N co) (zb_R pr) K b 4))
    (h : ∀ ro : Nat → Int32, (∀ i, i < 24 → ro i = nI (zb_ro (zb_U on lk) (zb_N sg) (zb_N co) (zb_R pr) K i)) → post (wt, rt, sh, dl, la, cp, on, pr, ca, sc, cr, cc, rp, lk, co, sg, st, tm, ro, ep, ea, mg, cs, so)) : wpX_assignRoles post (wt, rt, sh, dl, la, cp, on, pr, ca, sc, cr, cc, rp, lk, co, sg, st, tm, ro, ep, ea, mg, cs, so) :=
  Exists.intro 25 (zx_as2 hW hK hm hr h 25 0 ro (by omega) (by omega) (fun j hj => absurd hj (by omega)))
end
/-- what the component keeps of its election -/
def zb_CL (on pr lk co sg cr cc ro : Nat → Int32) : Prop :=
  (∀ b, b < 6 → cr b = nI (zb_K on pr lk co sg 6 b / 512) ∧ cc b = nI (zb_K on pr lk co sg 6 b % 512)) ∧ (∀ i, i < 24 → ro i = nI (zb_ro (zb_U on lk) (zb_N sg) (zb_N co) (zb_R pr) (zb_K on pr lk co sg 5) i))
section
variable {wt rt sh dl la cp : Int32} {on pr ca sc cr cc rp lk co sg st tm ro ep ea mg cs so : Nat → Int32}
theorem zx_el69 {post : SX → Prop} (hW : zb_WF on pr lk co sg) {r : Nat} (hr : r + 1 ≤ 6)
    (hm : ∀ s, s < 8 → mg s = nI (zb_ms (zb_U on lk) (zb_N sg) (zb_R pr) (zb_K on pr lk co sg r) s 24)) (hc : ∀ b, b < 6 → cr b = nI (zb_K on pr lk co sg (r + 1) b / 512) ∧ cc b = nI (zb_K on pr lk co sg (r + 1) b % 512) ∧ rp b = zb_pI (zb_ap (zb_U on lk) (zb_N sg) (zb_N co) (zb_R pr) (zb_K on pr lk co sg r) b 4))
    (hx : r + 1 = 6 ∨ ∀ b, b < 6 → zb_K on pr lk co sg (r + 1) b = zb_K on pr lk co sg r b)
    (h : ∀ cr cc rp ro mg : Nat → Int32, zb_CL on pr lk co sg cr cc ro → post (wt, rt, sh, dl, la, cp, on, pr, ca, sc, cr, cc, rp, lk, co, sg, st, tm, ro, ep, ea, mg, cs, so)) : wX_elect_69 post wt rt sh dl la cp on pr ca sc cr cc rp lk co sg st tm ro ep ea mg cs so := by
  have h56 : (∀ b, b < 6 → zb_K on pr lk co sg r b = zb_K on pr lk co sg 5 b) ∧ (∀ b, b < 6 → zb_K on pr lk co sg (r + 1) b = zb_K on pr lk co sg 6 b) := by
    rcases hx with e | e
    · have e2 : r = 5 := by omega
      subst e2
      exact ⟨fun _ _ => rfl, fun _ _ => rfl⟩
    · constructor
      · intro b hb
        have := zb_bf_fix (up := zb_U on lk) (sg := zb_N sg) (c := zb_N co) (rk := zb_R pr) e (5 - r) b hb
        rw [show r + (5 - r) = 5 from by omega] at this
        exact this.symm
      · intro b hb
        have := zb_bf_fix (up := zb_U on lk) (sg := zb_N sg) (c := zb_N co) (rk := zb_R pr) e (6 - r) b hb
        rw [show r + (6 - r) = 6 from by omega] at this
        exact (e b hb).trans this.symm
  unfold wX_elect_69
  refine zx_as (K := zb_K on pr lk co sg 5) hW (fun b hb => zb_bf_lt (zb_WF_OK hW) 5 b hb) (fun s hs => ?_) (fun b hb => ?_) (fun ro hro => ?_)
  · rw [hm s hs, zb_ms_cg h56.1 s 24 (by omega)]
  · rw [(hc b hb).2.2, (zb_ab_cg h56.1 b 4).2]
  · exact h cr cc rp ro mg ⟨fun b hb => by rw [(hc b hb).1, (hc b hb).2.1, h56.2 b hb]; exact ⟨rfl, rfl⟩, hro⟩
theorem zx_el44 {post : SX → Prop} (hW : zb_WF on pr lk co sg)
    (h : ∀ cr cc rp ro mg : Nat → Int32, zb_CL on pr lk co sg cr cc ro → post (wt, rt, sh, dl, la, cp, on, pr, ca, sc, cr, cc, rp, lk, co, sg, st, tm, ro, ep, ea, mg, cs, so)) :
    ∀ n r x cr cc rp mg, r ≤ 6 → 6 - r < n → (∀ b, b < 6 → cr b = nI (zb_K on pr lk co sg r b / 512) ∧ cc b = nI (zb_K on pr lk co sg r b % 512)) →
      ((r = 0 ∧ x = 1) ∨ ∃ q, r = q + 1 ∧ (∀ s, s < 8 → mg s = nI (zb_ms (zb_U on lk) (zb_N sg) (zb_R pr) (zb_K on pr lk co sg q) s 24)) ∧ (∀ b, b < 6 → rp b = zb_pI (zb_ap (zb_U on lk) (zb_N sg) (zb_N co) (zb_R pr) (zb_K on pr lk co sg q) b 4)) ∧ (x = 0 → ∀ b, b < 6 → zb_K on pr lk co sg (q + 1) b = zb_K on pr lk co sg q b)) →
      wX_elect_44 post n x (nI r) wt rt sh dl la cp on pr ca sc cr cc rp lk co sg st tm ro ep ea mg cs so := by
  intro n
  induction n with
  | zero => intro r x cr cc rp mg _ h; omega
  | succ n ih =>
    intro r x cr cc rp mg hr hn hc hq
    refine pk_le 6 r (fun hg => ?_) (fun hl => ?_)
    · rcases hq with ⟨e, _⟩ | ⟨q, e, hm, hp, hx⟩
      · omega
      · subst e
        exact zx_el69 hW hr hm (fun b hb => ⟨(hc b hb).1, (hc b hb).2, hp b hb⟩) (Or.inl (by omega)) h
    · by_cases hx0 : x = 0
      · refine br_t hx0 ?_
        rcases hq with ⟨_, e⟩ | ⟨q, e, hm, hp, hx⟩
        · rw [e] at hx0; exact absurd hx0 (by decide)
        · subst e
          exact zx_el69 hW hr hm (fun b hb => ⟨(hc b hb).1, (hc b hb).2, hp b hb⟩) (Or.inr (hx hx0)) h
      · have hK := fun b hb => zb_bf_lt (up := zb_U on lk) (sg := zb_N sg) (zb_WF_OK hW) r b hb
        refine br_f hx0 (zx_tr (K := zb_K on pr lk co sg r) hW hK hc (fun mg hm => ?_))
        refine zx_rc (K := zb_K on pr lk co sg r) hW hK hm hc (fun x cr cc rp hx hz hc' => ?_)
        refine nm_r (nI_1 r) (ih (r + 1) x cr cc rp mg (by omega) (by omega) (fun b hb => ⟨(hc' b hb).1, (hc' b hb).2.1⟩) (Or.inr ⟨r, rfl, hm, fun b hb => (hc' b hb).2.2, hz⟩))
theorem zx_el {post : SX → Prop} (hW : zb_WF on pr lk co sg)
    (h : ∀ cr cc rp ro mg : Nat → Int32, zb_CL on pr lk co sg cr cc ro → post (wt, rt, sh, dl, la, cp, on, pr, ca, sc, cr, cc, rp, lk, co, sg, st, tm, ro, ep, ea, mg, cs, so)) : wpX_elect post (wt, rt, sh, dl, la, cp, on, pr, ca, sc, cr, cc, rp, lk, co, sg, st, tm, ro, ep, ea, mg, cs, so) := by
  have l2 : ∀ n i cr cc rp, i ≤ 6 → 6 - i < n → (∀ b, b < i → cr b = nI (zb_R pr b) ∧ cc b = 0) → wX_elect_2 post wt rt sh dl la cp n (nI i) on pr ca sc cr cc rp lk co sg st tm ro ep ea mg cs so := by
    intro n
    induction n with
    | zero => intro i cr cc rp _ h; omega
    | succ n ih =>
      intro i cr cc rp hi hn hj
      refine pk_le 6 i (fun hg => ?_) (fun hl => ?_)
      · refine ⟨7, zx_el44 hW h 7 0 1 cr cc rp mg (by omega) (by omega) (fun b hb => ?_) (Or.inl ⟨rfl, rfl⟩)⟩
        have e : zb_K on pr lk co sg 0 b = zb_R pr b * 512 := rfl
        rw [e, (hj b (by omega)).1, (hj b (by omega)).2, Nat.mul_div_cancel _ (by omega), Nat.mul_mod_left]
        exact ⟨rfl, rfl⟩
      · refine zx_rank hW hl ?_
        refine ⟨vp_in_nI hl (by omega), nm_e ⟨vp_in_nI hl (by omega), nm_e ⟨vp_in_nI hl (by omega), nm_e (nm_r (nI_1 i) (ih (i + 1) _ _ _ (by omega) (by omega) ?_))⟩⟩⟩
        intro b hb
        exact ⟨zb_fill (F := fun b => nI (zb_R pr b)) (by omega) (fun b hb => (hj b hb).1) rfl b hb, zb_fill (F := fun _ => 0) (by omega) (fun b hb => (hj b hb).2) rfl b hb⟩
  exact Exists.intro 7 (l2 7 0 cr cc rp (by omega) (by omega) (fun b hb => absurd hb (by omega)))
end
end
section
/-! the reference's measure: Floyd-Warshall in place -/
def zb_DI (di : Nat → Int32) (d : Nat → Nat → Nat) : Prop := ∀ x y, x < 6 → y < 6 → di (6 * x + y) = nI (d x y)
def zb_u2 (d : Nat → Nat → Nat) (x y v : Nat) : Nat → Nat → Nat := fun a b => if a = x ∧ b = y then v else d a b
def zb_P2 (up : Nat → Bool) (sg c : Nat → Nat) (i j : Nat) (d : Nat → Nat → Nat) : Prop :=
  (∀ x, x < 6 → d x x = 0) ∧
  (∀ x y, x < 6 → y < 6 → d x y ≤ 1000000) ∧
  (∀ a b, (a < i ∨ (a = i ∧ b < j)) → a < 24 → b < 24 → up a = true → up b = true → sg a = sg b → d (a / 4) (b / 4) ≤ c a) ∧
  (∀ x y, x < 6 → y < 6 → x ≠ y → d x y < 1000000 → ∃ a b, a < 24 ∧ b < 24 ∧ up a = true ∧ up b = true ∧ sg a = sg b ∧ a / 4 = x ∧ b / 4 = y ∧ c a ≤ d x y)
section
variable {up : Nat → Bool} {sg c : Nat → Nat} {d : Nat → Nat → Nat} {i j : Nat}
theorem zb_P2_keep (h : zb_P2 up sg c i j d) (hk : up i = true → up j = true → sg i = sg j → d (i / 4) (j / 4) ≤ c i) : zb_P2 up sg c i (j + 1) d := by
  refine ⟨h.1, h.2.1, fun a b hab ha hb ua ub e => ?_, h.2.2.2⟩
  by_cases q : a = i ∧ b = j
  · obtain ⟨rfl, rfl⟩ := q
    exact hk ua ub e
  · exact h.2.2.1 a b (by omega) ha hb ua ub e
theorem zb_P2_upd (h : zb_P2 up sg c i j d) (hi : i < 24) (hj : j < 24) (ui : up i = true) (uj : up j = true) (e : sg i = sg j) (hc : c i < d (i / 4) (j / 4)) : zb_P2 up sg c i (j + 1) (zb_u2 d (i / 4) (j / 4) (c i)) := by
  have hne : i / 4 ≠ j / 4 := fun z => by
    have := h.1 (j / 4) (by omega)
    rw [z] at hc
    omega
  refine ⟨fun x hx => ?_, fun x y hx hy => ?_, fun a b hab ha hb ua ub e' => ?_, fun x y hx hy hxy hd => ?_⟩
  · show (if x = i / 4 ∧ x = j / 4 then _ else _) = 0
    rw [if_neg (by omega)]
    exact h.1 x hx
  · show (if x = i / 4 ∧ y = j / 4 then _ else _) ≤ _
    have h1 := h.2.1 x y hx hy
    have h2 := h.2.1 (i / 4) (j / 4) (by omega) (by omega)
    by_cases q : x = i / 4 ∧ y = j / 4
    · rw [if_pos q]; omega
    · rw [if_neg q]; exact h1
  · show (if a / 4 = i / 4 ∧ b / 4 = j / 4 then _ else _) ≤ _
    by_cases q0 : a = i ∧ b = j
    · obtain ⟨rfl, rfl⟩ := q0
      rw [if_pos ⟨rfl, rfl⟩]
      exact Nat.le_refl _
    · have h1 := h.2.2.1 a b (by omega) ha hb ua ub e'
      by_cases q : a / 4 = i / 4 ∧ b / 4 = j / 4
      · rw [if_pos q]
        rw [q.1, q.2] at h1
        omega
      · rw [if_neg q]; exact h1
  · by_cases q : x = i / 4 ∧ y = j / 4
    · exact ⟨i, j, hi, hj, ui, uj, e, q.1.symm, q.2.symm, by show _ ≤ (if x = i / 4 ∧ y = j / 4 then _ else _); rw [if_pos q]; exact Nat.le_refl _⟩
    · have e1 : zb_u2 d (i / 4) (j / 4) (c i) x y = d x y := if_neg q
      rw [e1] at hd ⊢
      exact h.2.2.2 x y hx hy hxy hd
theorem zb_P2_row (h : zb_P2 up sg c i 24 d) : zb_P2 up sg c (i + 1) 0 d :=
  ⟨h.1, h.2.1, fun a b hab ha hb => h.2.2.1 a b (by omega) ha hb, h.2.2.2⟩
theorem zb_P2_DF (h : zb_P2 up sg c 24 0 d) : zb_DF up sg c 0 d :=
  ⟨h.1, h.2.1, fun a b ha hb => h.2.2.1 a b (Or.inl ha) ha hb, fun j x y hj => absurd hj (by omega), fun x y hx hy hxy hd => by
    obtain ⟨a, b, h1, h2, h3, h4, h5, h6, h7, h8⟩ := h.2.2.2 x y hx hy hxy hd
    refine ⟨a, b, h1, h2, h3, h4, h5, h6, ?_⟩
    rw [h7, h.1 y hy]
    exact h8⟩
end
theorem zb_P2_0 {up : Nat → Bool} {sg c : Nat → Nat} : zb_P2 up sg c 0 0 (fun x y => if x = y then 0 else 1000000) := by
  refine ⟨fun x _ => if_pos rfl, fun x y _ _ => ?_, fun a b hab => absurd hab (by omega), fun x y _ _ hxy hd => ?_⟩
  · show (if x = y then 0 else 1000000) ≤ 1000000
    by_cases e : x = y
    · rw [if_pos e]; omega
    · rw [if_neg e]; omega
  · have hd' : (if x = y then 0 else 1000000) < 1000000 := hd
    rw [if_neg hxy] at hd'
    omega
section
variable {dl la cp wt rt sh : Int32} {on pr ca sc sg lk co st tm ep ya so cs di tc cb ev he fr : Nat → Int32} {post : SY → Prop}
theorem zy_up1 {post : Int32 → Prop} {i : Nat} (hi : i < 24) (hu : zb_U on lk i = true) (h : post 1) : wpY_up post (dl, la, cp, wt, rt, sh, on, pr, ca, sc, sg, lk, co, st, tm, ep, ya, so, cs, di, tc, cb, ev, he, fr) (nI i) := by
  have h1 := (zb_U_lk hu).1
  have h2 := (zb_U_lk hu).2
  simp only [wpY_up, zb_dv4 (show i < 2 ^ 31 by omega), nI_clamp (show i < 2 ^ 31 by omega), nI_clamp (show i / 4 < 2 ^ 31 by omega)]
  exact ⟨by decide, vp_in_nI (by omega) (by omega), br_f h2 ⟨vp_in_nI hi (by omega), br_f h1 h⟩⟩
theorem zy_up0 {post : Int32 → Prop} {i : Nat} (hi : i < 24) (hu : ¬ zb_U on lk i = true) (h : post 0) : wpY_up post (dl, la, cp, wt, rt, sh, on, pr, ca, sc, sg, lk, co, st, tm, ep, ya, so, cs, di, tc, cb, ev, he, fr) (nI i) := by
  simp only [wpY_up, zb_dv4 (show i < 2 ^ 31 by omega), nI_clamp (show i < 2 ^ 31 by omega), nI_clamp (show i / 4 < 2 ^ 31 by omega)]
  refine ⟨by decide, vp_in_nI (by omega) (by omega), ?_⟩
  by_cases h1 : on (i / 4) = 0
  · exact br_t h1 h
  · have h2 : lk i = 0 := (zb_U_f hu).resolve_right h1
    exact br_f h1 ⟨vp_in_nI hi (by omega), br_t h2 h⟩
theorem zy_m165 {J149 J157 : Int32 → (Nat → Int32) → (Nat → Int32) → (Nat → Int32) → (Nat → Int32) → (Nat → Int32) → (Nat → Int32) → (Nat → Int32) → (Nat → Int32) → (Nat → Int32) → (Nat → Int32) → (Nat → Int32) → (Nat → Int32) → (Nat → Int32) → (Nat → Int32) → (Nat → Int32) → (Nat → Int32) → (Nat → Int32) → (Nat → Int32) → (Nat → Int32) → Prop}
    {d : Nat → Nat → Nat} {k x : Nat} (hk : k < 6) (hx : x < 6) (h0 : ∀ x, x < 6 → d x x = 0) (hf : ∀ x y, x < 6 → y < 6 → d x y ≤ 1000000)
    (h : ∀ di : Nat → Int32, (∀ a b, a < 6 → b < 6 → di (6 * a + b) = nI (if 6 * a + b < 6 * (x + 1) then zb_mp d k a b else d a b)) → J157 (nI (x + 1)) on pr ca sc sg lk co st tm ep ya so cs di tc cb ev he fr) :
    ∀ n y di, y ≤ 6 → 6 - y < n → (∀ a b, a < 6 → b < 6 → di (6 * a + b) = nI (if 6 * a + b < 6 * x + y then zb_mp d k a b else d a b)) → wY_measure_165 post J149 J157 (nI k) (nI x) dl la cp wt rt sh n (nI y) on pr ca sc sg lk co st tm ep ya so cs di tc cb ev he fr := by
  intro n
  induction n with
  | zero => intro y di _ h; omega
  | succ n ih =>
    intro y di hy hn hd
    refine pk_le 6 y (fun hg => nm_r (nI_1 x) (h di ?_)) (fun hl => ?_)
    · have e : y = 6 := by omega
      subst e
      exact hd
    · rw [zb_ix6, zb_ix6, zb_ix6, nI_clamp (show 6 * x + k < 2 ^ 31 by omega), nI_clamp (show 6 * k + y < 2 ^ 31 by omega), nI_clamp (show 6 * x + y < 2 ^ 31 by omega)]
      have e1 : di (6 * x + k) = nI (d x k) := by
        rw [hd x k hx hk]
        by_cases q : 6 * x + k < 6 * x + y
        · rw [if_pos q, zb_mp_col (h0 k hk)]
        · rw [if_neg q]
      have e2 : di (6 * k + y) = nI (d k y) := by
        rw [hd k y hk hl]
        by_cases q : 6 * k + y < 6 * x + y
        · rw [if_pos q, zb_mp_row (h0 k hk)]
        · rw [if_neg q]
      have e3 : di (6 * x + y) = nI (d x y) := by
        rw [hd x y hx hl, if_neg (by omega)]
      have f1 := hf x k hx hk
      have f2 := hf k y hk hl
      have f3 := hf x y hx hl
      refine ⟨vp_in_nI (by omega) (by omega), vp_in_nI (by omega) (by omega), nm_r (e' := nI (d x k + d k y)) (by rw [e1, e2, nI_add]) ⟨vp_in_nI (by omega) (by omega), ?_⟩⟩
      refine pk_le (d x y) (d x k + d k y) (fun g => nm_r (nI_1 y) (ih (y + 1) di (by omega) (by omega) ?_)) (fun g => ⟨vp_in_nI (by omega) (by omega), nm_e (nm_r (nI_1 y) (ih (y + 1) _ (by omega) (by omega) ?_))⟩) e3 rfl (by omega) (by omega)
      · intro a b ha hb
        by_cases q : 6 * a + b = 6 * x + y
        · have qa : a = x := by omega
          have qb : b = y := by omega
          subst qa qb
          rw [e3, if_pos (by omega)]
          unfold zb_mp
          rw [if_neg (by omega)]
        · rw [hd a b ha hb]
          by_cases q2 : 6 * a + b < 6 * x + y
          · rw [if_pos q2, if_pos (by omega)]
          · rw [if_neg q2, if_neg (by omega)]
      · intro a b ha hb
        by_cases q : 6 * a + b = 6 * x + y
        · have qa : a = x := by omega
          have qb : b = y := by omega
          subst qa qb
          rw [pk_us, if_pos (by omega)]
          unfold zb_mp
          rw [if_pos (by omega)]
        · rw [pk_un q, hd a b ha hb]
          by_cases q2 : 6 * a + b < 6 * x + y
          · rw [if_pos q2, if_pos (by omega)]
          · rw [if_neg q2, if_neg (by omega)]
theorem zy_m157 {J149 : Int32 → (Nat → Int32) → (Nat → Int32) → (Nat → Int32) → (Nat → Int32) → (Nat → Int32) → (Nat → Int32) → (Nat → Int32) → (Nat → Int32) → (Nat → Int32) → (Nat → Int32) → (Nat → Int32) → (Nat → Int32) → (Nat → Int32) → (Nat → Int32) → (Nat → Int32) → (Nat → Int32) → (Nat → Int32) → (Nat → Int32) → (Nat → Int32) → Prop}
    {d : Nat → Nat → Nat} {k : Nat} (hk : k < 6) (h0 : ∀ x, x < 6 → d x x = 0) (hf : ∀ x y, x < 6 → y < 6 → d x y ≤ 1000000)
    (h : ∀ di : Nat → Int32, zb_DI di (zb_mp d k) → J149 (nI (k + 1)) on pr ca sc sg lk co st tm ep ya so cs di tc cb ev he fr) :
    ∀ n x di, x ≤ 6 → 6 - x < n → (∀ a b, a < 6 → b < 6 → di (6 * a + b) = nI (if 6 * a + b < 6 * x then zb_mp d k a b else d a b)) → wY_measure_157 post J149 (nI k) dl la cp wt rt sh n (nI x) on pr ca sc sg lk co st tm ep ya so cs di tc cb ev he fr := by
  intro n
  induction n with
  | zero => intro y di _ h; omega
  | succ n ih =>
    intro x di hx hn hd
    refine pk_le 6 x (fun hg => nm_r (nI_1 k) (h di ?_)) (fun hl => ⟨7, zy_m165 hk hl h0 hf (fun di' hd' => ih (x + 1) di' (by omega) (by omega) hd') 7 0 di (by omega) (by omega) hd⟩)
    intro a b ha hb
    rw [hd a b ha hb, if_pos (by omega)]
theorem zy_m149 (hF : ∀ (di : Nat → Int32) (d : Nat → Nat → Nat), zb_DI di d → zb_DF (zb_U on lk) (zb_N sg) (zb_N co) 6 d → post (dl, la, cp, wt, rt, sh, on, pr, ca, sc, sg, lk, co, st, tm, ep, ya, so, cs, di, tc, cb, ev, he, fr)) :
    ∀ n k di d, k ≤ 6 → 6 - k < n → zb_DI di d → zb_DF (zb_U on lk) (zb_N sg) (zb_N co) k d → wY_measure_149 post dl la cp wt rt sh n (nI k) on pr ca sc sg lk co st tm ep ya so cs di tc cb ev he fr := by
  intro n
  induction n with
  | zero => intro k di d _ h; omega
  | succ n ih =>
    intro k di d hk hn hd hD
    refine pk_le 6 k (fun hg => ?_) (fun hl => ⟨7, zy_m157 hl hD.1 hD.2.1 (fun di' hd' => ih (k + 1) di' _ (by omega) (by omega) hd' (zb_fw hl hD)) 7 0 di (by omega) (by omega) (fun a b ha hb => ?_)⟩)
    · have e : k = 6 := by omega
      subst e
      exact hF di d hd hD
    · rw [hd a b ha hb, if_neg (by omega)]
theorem zy_m60 {J52 : Int32 → (Nat → Int32) → (Nat → Int32) → (Nat → Int32) → (Nat → Int32) → (Nat → Int32) → (Nat → Int32) → (Nat → Int32) → (Nat → Int32) → (Nat → Int32) → (Nat → Int32) → (Nat → Int32) → (Nat → Int32) → (Nat → Int32) → (Nat → Int32) → (Nat → Int32) → (Nat → Int32) → (Nat → Int32) → (Nat → Int32) → (Nat → Int32) → Prop}
    (hW : zb_WF on pr lk co sg) {i : Nat} (hi : i < 24)
    (h : ∀ (di : Nat → Int32) (d : Nat → Nat → Nat), zb_DI di d → zb_P2 (zb_U on lk) (zb_N sg) (zb_N co) (i + 1) 0 d → J52 (nI (i + 1)) on pr ca sc sg lk co st tm ep ya so cs di tc cb ev he fr) :
    ∀ n j di d, j ≤ 24 → 24 - j < n → zb_DI di d → zb_P2 (zb_U on lk) (zb_N sg) (zb_N co) i j d → wY_measure_60 post J52 (nI i) dl la cp wt rt sh n (nI j) on pr ca sc sg lk co st tm ep ya so cs di tc cb ev he fr := by
  intro n
  induction n with
  | zero => intro j di d _ h; omega
  | succ n ih =>
    intro j di d hj hn hd hP
    refine pk_le 24 j (fun hg => nm_r (nI_1 i) (h di d hd ?_)) (fun hl => ?_)
    · have e : j = 24 := by omega
      subst e
      exact zb_P2_row hP
    · have eS : ∀ j, j < 24 → sg j = nI (zb_N sg j) := fun j hj => (zb_WF_sg hW hj).1
      refine ⟨by decide, by decide, nm_r (e' := nI (6 * (i / 4) + j / 4)) (by rw [zb_dv4 (by omega), zb_dv4 (by omega), zb_ix6]) ⟨vp_in_nI hi (by omega), vp_in_nI hl (by omega), ?_⟩⟩
      rw [nI_clamp (show i < 2 ^ 31 by omega), nI_clamp (show j < 2 ^ 31 by omega), nI_clamp (show 6 * (i / 4) + j / 4 < 2 ^ 31 by omega)]
      have keep : (zb_U on lk i = true → zb_U on lk j = true → zb_N sg i = zb_N sg j → d (i / 4) (j / 4) ≤ zb_N co i) → wY_measure_60 post J52 (nI i) dl la cp wt rt sh n (nI (j + 1)) on pr ca sc sg lk co st tm ep ya so cs di tc cb ev he fr := fun hk =>
        ih (j + 1) di d (by omega) (by omega) hd (zb_P2_keep hP hk)
      by_cases eq : sg i = sg j
      · refine br_t eq ?_
        have eN : zb_N sg i = zb_N sg j := congrArg Int32.toNatClampNeg eq
        by_cases ui : zb_U on lk i = true
        · refine zy_up1 hi ui (br_f (by decide) ?_)
          by_cases uj : zb_U on lk j = true
          · have hC := zb_WF_co hW hi
            have hdd := hd (i / 4) (j / 4) (by omega) (by omega)
            have hdb := hP.2.1 (i / 4) (j / 4) (by omega) (by omega)
            refine zy_up1 hl uj (br_f (by decide) ⟨vp_in_nI hi (by omega), vp_in_nI (by omega) (by omega), ?_⟩)
            refine pk_le (d (i / 4) (j / 4)) (zb_N co i) (fun g => nm_r (nI_1 j) (keep (fun _ _ _ => g))) (fun g => ⟨vp_in_nI hi (by omega), vp_in_nI (by omega) (by omega), nm_e (nm_r (nI_1 j) (ih (j + 1) _ (zb_u2 d (i / 4) (j / 4) (zb_N co i)) (by omega) (by omega) ?_ (zb_P2_upd hP hi hl ui uj eN g)))⟩) hdd hC.1 (by omega) (by omega)
            intro a b ha hb
            by_cases q : a = i / 4 ∧ b = j / 4
            · obtain ⟨rfl, rfl⟩ := q
              rw [pk_us, hC.1]
              exact congrArg nI (if_pos ⟨rfl, rfl⟩).symm
            · rw [pk_un (by omega), hd a b ha hb]
              exact congrArg nI (if_neg q).symm
          · exact zy_up0 hl uj (br_t rfl (nm_r (nI_1 j) (keep (fun _ z => absurd z uj))))
        · exact zy_up0 hi ui (br_t rfl (nm_r (nI_1 j) (keep (fun z => absurd z ui))))
      · exact br_f eq (nm_r (nI_1 j) (keep (fun _ _ z => absurd (by rw [eS i hi, eS j hl, z]) eq)))
theorem zy_m52 (hW : zb_WF on pr lk co sg) (hF : ∀ (di : Nat → Int32) (d : Nat → Nat → Nat), zb_DI di d → zb_DF (zb_U on lk) (zb_N sg) (zb_N co) 6 d → post (dl, la, cp, wt, rt, sh, on, pr, ca, sc, sg, lk, co, st, tm, ep, ya, so, cs, di, tc, cb, ev, he, fr)) :
    ∀ n i di d, i ≤ 24 → 24 - i < n → zb_DI di d → zb_P2 (zb_U on lk) (zb_N sg) (zb_N co) i 0 d → wY_measure_52 post dl la cp wt rt sh n (nI i) on pr ca sc sg lk co st tm ep ya so cs di tc cb ev he fr := by
  intro n
  induction n with
  | zero => intro i di d _ h; omega
  | succ n ih =>
    intro i di d hi hn hd hP
    refine pk_le 24 i (fun hg => ⟨7, zy_m149 hF 7 0 di d (by omega) (by omega) hd (zb_P2_DF ?_)⟩) (fun hl => ⟨25, zy_m60 hW hl (fun di' d' hd' hP' => ih (i + 1) di' d' (by omega) (by omega) hd' hP') 25 0 di d (by omega) (by omega) hd hP⟩)
    have e : i = 24 := by omega
    subst e
    exact hP
theorem zy_m10 {J2 : Int32 → (Nat → Int32) → (Nat → Int32) → (Nat → Int32) → (Nat → Int32) → (Nat → Int32) → (Nat → Int32) → (Nat → Int32) → (Nat → Int32) → (Nat → Int32) → (Nat → Int32) → (Nat → Int32) → (Nat → Int32) → (Nat → Int32) → (Nat → Int32) → (Nat → Int32) → (Nat → Int32) → (Nat → Int32) → (Nat → Int32) → (Nat → Int32) → Prop}
    {x : Nat} (hx : x < 6) (h : ∀ di : Nat → Int32, (∀ k, k < 6 * (x + 1) → di k = nI (if k / 6 = k % 6 then 0 else 1000000)) → J2 (nI (x + 1)) on pr ca sc sg lk co st tm ep ya so cs di tc cb ev he fr) :
    ∀ n y di, y ≤ 6 → 6 - y < n → (∀ k, k < 6 * x + y → di k = nI (if k / 6 = k % 6 then 0 else 1000000)) → wY_measure_10 post J2 (nI x) dl la cp wt rt sh n (nI y) on pr ca sc sg lk co st tm ep ya so cs di tc cb ev he fr := by
  intro n
  induction n with
  | zero => intro y di _ h; omega
  | succ n ih =>
    intro y di hy hn hd
    refine pk_le 6 y (fun hg => nm_r (nI_1 x) (h di (fun k hk => hd k (by omega)))) (fun hl => ?_)
    rw [zb_ix6]
    refine pk_eq x y (fun q => ⟨vp_in_nI (by omega) (by omega), nm_e (nm_r (nI_1 y) (ih (y + 1) _ (by omega) (by omega) (zb_fill (i := 6 * x + y) (F := fun k => nI (if k / 6 = k % 6 then 0 else 1000000)) (by omega) hd ?_)))⟩) (fun q => ⟨vp_in_nI (by omega) (by omega), nm_e (nm_r (nI_1 y) (ih (y + 1) _ (by omega) (by omega) (zb_fill (i := 6 * x + y) (F := fun k => nI (if k / 6 = k % 6 then 0 else 1000000)) (by omega) hd ?_)))⟩)
    · show (0 : Int32) = nI (if (6 * x + y) / 6 = (6 * x + y) % 6 then 0 else 1000000)
      rw [if_pos (by omega)]
      rfl
    · show (1000000 : Int32) = nI (if (6 * x + y) / 6 = (6 * x + y) % 6 then 0 else 1000000)
      rw [if_neg (by omega)]
      rfl
theorem zy_m2 (hW : zb_WF on pr lk co sg) (hF : ∀ (di : Nat → Int32) (d : Nat → Nat → Nat), zb_DI di d → zb_DF (zb_U on lk) (zb_N sg) (zb_N co) 6 d → post (dl, la, cp, wt, rt, sh, on, pr, ca, sc, sg, lk, co, st, tm, ep, ya, so, cs, di, tc, cb, ev, he, fr)) :
    ∀ n x di, x ≤ 6 → 6 - x < n → (∀ k, k < 6 * x → di k = nI (if k / 6 = k % 6 then 0 else 1000000)) → wY_measure_2 post dl la cp wt rt sh n (nI x) on pr ca sc sg lk co st tm ep ya so cs di tc cb ev he fr := by
  intro n
  induction n with
  | zero => intro i di _ h; omega
  | succ n ih =>
    intro x di hx hn hd
    refine pk_le 6 x (fun hg => ⟨25, zy_m52 hW hF 25 0 di (fun x y => if x = y then 0 else 1000000) (by omega) (by omega) (fun a b ha hb => ?_) zb_P2_0⟩) (fun hl => ⟨7, zy_m10 hl (fun di' hd' => ih (x + 1) di' (by omega) (by omega) hd') 7 0 di (by omega) (by omega) hd⟩)
    rw [hd (6 * a + b) (by omega)]
    refine congrArg nI ?_
    by_cases q : a = b
    · rw [if_pos (by omega)]; exact (if_pos q).symm
    · rw [if_neg (by omega)]; exact (if_neg q).symm
/-- measure leaves the least costs -/
theorem zy_ms (hW : zb_WF on pr lk co sg) (hF : ∀ (di : Nat → Int32) (d : Nat → Nat → Nat), zb_DI di d → zb_DF (zb_U on lk) (zb_N sg) (zb_N co) 6 d → post (dl, la, cp, wt, rt, sh, on, pr, ca, sc, sg, lk, co, st, tm, ep, ya, so, cs, di, tc, cb, ev, he, fr)) : wpY_measure post (dl, la, cp, wt, rt, sh, on, pr, ca, sc, sg, lk, co, st, tm, ep, ya, so, cs, di, tc, cb, ev, he, fr) :=
  Exists.intro 7 (zy_m2 hW hF 7 0 di (by omega) (by omega) (fun k hk => absurd hk (by omega)))
end
end
section
/-! the reference's best, pathCost, designated, rootPort and role, told by the election's values -/
/-- dist holds the least costs of the configuration -/
def zb_YD (on lk co sg di : Nat → Int32) : Prop := ∃ d : Nat → Nat → Nat, zb_DI di d ∧ zb_DF (zb_U on lk) (zb_N sg) (zb_N co) 6 d
section
variable {dl la cp wt rt sh : Int32} {on pr ca sc sg lk co st tm ep ya so cs di tc cb ev he fr : Nat → Int32}
theorem zb_YD_K (hW : zb_WF on pr lk co sg) (hD : zb_YD on lk co sg di) {b : Nat} (hb : b < 6) : zb_K on pr lk co sg 6 b = zb_K on pr lk co sg 5 b := by
  obtain ⟨d, _, h⟩ := hD
  exact (zb_bf_T (zb_WF_OK hW) h (by omega) hb).trans (zb_bf_T (zb_WF_OK hW) h (by omega) hb).symm
theorem zb_YD_far (hW : zb_WF on pr lk co sg) (hD : zb_YD on lk co sg di) {x y : Nat} (hx : x < 6) (hy : y < 6) : (1000000 : Int32) ≤ di (6 * x + y) ↔ ¬ zb_K on pr lk co sg 5 x / 512 = zb_K on pr lk co sg 5 y / 512 := by
  obtain ⟨d, h1, h⟩ := hD
  have e1 : zb_K on pr lk co sg 5 x = zb_T (zb_R pr) d x := zb_bf_T (zb_WF_OK hW) h (by omega) hx
  have e2 : zb_K on pr lk co sg 5 y = zb_T (zb_R pr) d y := zb_bf_T (zb_WF_OK hW) h (by omega) hy
  have hb := h.2.1 x y hx hy
  rw [e1, e2, zb_T_eq (zb_WF_OK hW) h hx hy, h1 x y hx hy, show (1000000 : Int32) = nI 1000000 from rfl, nI_leI (by omega) (by omega)]
  omega
theorem zb_YD_edge (hW : zb_WF on pr lk co sg) (hD : zb_YD on lk co sg di) {i j : Nat} (hi : i < 24) (hj : j < 24) (ui : zb_U on lk i = true) (uj : zb_U on lk j = true) (e : zb_N sg i = zb_N sg j) :
    zb_K on pr lk co sg 5 (i / 4) / 512 = zb_K on pr lk co sg 5 (j / 4) / 512 ∧ zb_K on pr lk co sg 5 (i / 4) ≤ zb_K on pr lk co sg 5 (j / 4) + zb_N co i := by
  obtain ⟨d, h1, h⟩ := hD
  have e1 : zb_K on pr lk co sg 5 (i / 4) = zb_T (zb_R pr) d (i / 4) := zb_bf_T (zb_WF_OK hW) h (by omega) (by omega)
  have e2 : zb_K on pr lk co sg 5 (j / 4) = zb_T (zb_R pr) d (j / 4) := zb_bf_T (zb_WF_OK hW) h (by omega) (by omega)
  rw [e1, e2]
  refine ⟨(zb_T_eq (zb_WF_OK hW) h (by omega) (by omega)).mpr ?_, zb_T_edge (zb_WF_OK hW) h hi hj ui uj e⟩
  have := h.2.2.1 i j hi hj ui uj e
  have := (zb_WF_co hW hi).2
  omega
theorem zb_YD_250 (hW : zb_WF on pr lk co sg) (hD : zb_YD on lk co sg di) {b : Nat} (hb : b < 6) : zb_K on pr lk co sg 5 b % 512 ≤ 250 ∧ zb_K on pr lk co sg 5 b / 512 ≤ zb_R pr b ∧ (zb_K on pr lk co sg 5 b / 512 = zb_R pr b → zb_K on pr lk co sg 5 b = zb_R pr b * 512) := by
  obtain ⟨d, h1, h⟩ := hD
  have e1 : zb_K on pr lk co sg 5 b = zb_T (zb_R pr) d b := zb_bf_T (zb_WF_OK hW) h (by omega) hb
  obtain ⟨x1, x2, x3⟩ := zb_bs_in (rk := zb_R pr) h hb 6 (by omega)
  have t1 := (zb_T_div (zb_WF_OK hW) h hb).2
  have t2 := zb_d250 (zb_WF_OK hW) h hb x1 x2
  have t3 := zb_T_own (zb_WF_OK hW) h hb
  rw [e1]
  omega
theorem zy_better (hW : zb_WF on pr lk co sg) {post : Int32 → Prop} {x y : Nat} (hx : x < 6) (hy : y < 6) (h : post (if zb_R pr x < zb_R pr y then 1 else 0)) : wpY_better post (dl, la, cp, wt, rt, sh, on, pr, ca, sc, sg, lk, co, st, tm, ep, ya, so, cs, di, tc, cb, ev, he, fr) (nI x) (nI y) := by
  obtain ⟨p, hp, ep⟩ := hW.2.1 x hx
  obtain ⟨q, hq, eq⟩ := hW.2.1 y hy
  have rx : zb_R pr x = p * 8 + x := by unfold zb_R; rw [ep, nI_clamp (by omega)]
  have ry : zb_R pr y = q * 8 + y := by unfold zb_R; rw [eq, nI_clamp (by omega)]
  rw [rx, ry] at h
  simp only [wpY_better, nI_clamp (show x < 2 ^ 31 by omega), nI_clamp (show y < 2 ^ 31 by omega), ep, eq]
  refine ⟨vp_in_nI hx (by omega), vp_in_nI hy (by omega), pk_lt p q (fun g => ?_) (fun g => ⟨vp_in_nI hx (by omega), vp_in_nI hy (by omega), pk_eq p q (fun g2 => pk_le y x (fun g3 => ?_) (fun g3 => ?_)) (fun g2 => ?_)⟩)⟩
  · rw [if_pos (by omega)] at h; exact h
  · rw [if_neg (by omega)] at h; exact h
  · rw [if_pos (by omega)] at h; exact h
  · rw [if_neg (by omega)] at h; exact h
theorem zy_best (hW : zb_WF on pr lk co sg) (hD : zb_YD on lk co sg di) {post : Int32 → Prop} {b : Nat} (hb : b < 6)
    (h : ∀ r, r < 6 → zb_R pr r = zb_K on pr lk co sg 5 b / 512 → post (nI r)) : wpY_best post (dl, la, cp, wt, rt, sh, on, pr, ca, sc, sg, lk, co, st, tm, ep, ya, so, cs, di, tc, cb, ev, he, fr) (nI b) := by
  obtain ⟨d, h1, hF⟩ := hD
  have e1 : zb_K on pr lk co sg 5 b = zb_T (zb_R pr) d b := zb_bf_T (zb_WF_OK hW) hF (by omega) hb
  have l4 : ∀ n i, i ≤ 6 → 6 - i < n → wY_best_4 post (nI b) dl la cp wt rt sh on pr ca sc sg lk co st tm ep ya so cs di tc cb ev he fr n (nI (zb_bs (zb_R pr) d b i)) (nI i) := by
    refine zb_loop (fun n i => wY_best_4 post (nI b) dl la cp wt rt sh on pr ca sc sg lk co st tm ep ya so cs di tc cb ev he fr n (nI (zb_bs (zb_R pr) d b i)) (nI i)) 6 ?_ ?_
    · intro n
      refine br_t (nI_le (a := 6) (b := 6) (by omega) (by omega)) (h _ (zb_bs_in hF hb 6 (by omega)).1 ?_)
      rw [e1, (zb_T_div (zb_WF_OK hW) hF hb).1]
    · intro n i hi hw
      have hr := (zb_bs_in (rk := zb_R pr) hF hb i (by omega)).1
      have hdb := hF.2.1 b i hb hi
      refine br_f (nI_ge (a := i) (b := 6) hi (by omega)) ?_
      rw [zb_ix6, nI_clamp (show 6 * b + i < 2 ^ 31 by omega)]
      refine ⟨vp_in_nI (by omega) (by omega), pk_le 1000000 (d b i) (fun g => nm_r (nI_1 i) ?_) (fun g => ?_) rfl (h1 b i hb hi) (by omega) (by omega)⟩
      · simp only [zb_bs] at hw
        rw [if_neg (fun z => by have := z.1; omega)] at hw
        exact hw
      · refine zy_better hW hi hr ?_
        simp only [zb_bs] at hw
        by_cases q : zb_R pr i < zb_R pr (zb_bs (zb_R pr) d b i)
        · rw [if_pos q]
          rw [if_pos ⟨g, q⟩] at hw
          exact br_f (by decide) (nm_r (nI_1 i) hw)
        · rw [if_neg q]
          rw [if_neg (fun z => q z.2)] at hw
          exact br_t rfl (nm_r (nI_1 i) hw)
  exact Exists.intro 7 (l4 7 0 (by omega) (by omega))
theorem zy_path (hW : zb_WF on pr lk co sg) (hD : zb_YD on lk co sg di) {post : Int32 → Prop} {b : Nat} (hb : b < 6)
    (h : post (nI (zb_K on pr lk co sg 5 b % 512))) : wpY_pathCost post (dl, la, cp, wt, rt, sh, on, pr, ca, sc, sg, lk, co, st, tm, ep, ya, so, cs, di, tc, cb, ev, he, fr) (nI b) := by
  have hD' := hD
  unfold wpY_pathCost
  dsimp only
  refine zy_best hW hD hb (fun r hr er => ?_)
  obtain ⟨d, h1, hF⟩ := hD'
  have e1 : zb_K on pr lk co sg 5 b = zb_T (zb_R pr) d b := zb_bf_T (zb_WF_OK hW) hF (by omega) hb
  have t := zb_T_div (zb_WF_OK hW) hF hb
  have hbs := (zb_bs_in (rk := zb_R pr) hF hb 6 (by omega)).1
  have e2 : r = zb_bs (zb_R pr) d b 6 := by
    have a1 := (zb_WF_pr hW hr).2.2
    have a2 := (zb_WF_pr hW hbs).2.2
    rw [e1, t.1] at er
    omega
  rw [zb_ix6, nI_clamp (by omega), h1 b r hb hr]
  refine ⟨vp_in_nI (by omega) (by omega), ?_⟩
  rw [e1, t.2, ← e2] at h
  exact h
/-- which of two ports on one segment has the better message -/
theorem zb_des_cmp (hW : zb_WF on pr lk co sg) (hD : zb_YD on lk co sg di) {i r : Nat} (hi : i < 24) (hr : r < i) (ui : zb_U on lk i = true) (ur : zb_U on lk r = true) (e : zb_N sg i = zb_N sg r) :
    zb_M (zb_R pr) (zb_K on pr lk co sg 5) i < zb_M (zb_R pr) (zb_K on pr lk co sg 5) r ↔ (zb_K on pr lk co sg 5 (i / 4) % 512 < zb_K on pr lk co sg 5 (r / 4) % 512 ∨ (zb_K on pr lk co sg 5 (i / 4) % 512 = zb_K on pr lk co sg 5 (r / 4) % 512 ∧ zb_R pr (i / 4) < zb_R pr (r / 4))) := by
  have h1 := (zb_YD_edge hW hD hi (by omega) ui ur e).1
  have a1 := (zb_WF_pr hW (show i / 4 < 6 by omega)).2
  have a2 := (zb_WF_pr hW (show r / 4 < 6 by omega)).2
  unfold zb_M
  generalize zb_K on pr lk co sg 5 (i / 4) = k1 at *
  generalize zb_K on pr lk co sg 5 (r / 4) = k2 at *
  generalize zb_R pr (i / 4) = r1 at *
  generalize zb_R pr (r / 4) = r2 at *
  omega
def zb_HS (on lk sg : Nat → Int32) (s : Nat) : Prop := ∃ i, i < 24 ∧ zb_U on lk i = true ∧ zb_N sg i = s
def zb_DS (on pr lk co sg : Nat → Int32) (s i : Nat) (x2 x3 : Int32) : Prop :=
  (zb_ms (zb_U on lk) (zb_N sg) (zb_R pr) (zb_K on pr lk co sg 5) s i = 2147483647 ∧ x2 = -1) ∨ ∃ r, r < i ∧ zb_U on lk r = true ∧ zb_N sg r = s ∧ zb_ms (zb_U on lk) (zb_N sg) (zb_R pr) (zb_K on pr lk co sg 5) s i = zb_M (zb_R pr) (zb_K on pr lk co sg 5) r ∧ x2 = nI r ∧ x3 = nI (zb_K on pr lk co sg 5 (r / 4) % 512)
theorem zy_des7 (hW : zb_WF on pr lk co sg) (hD : zb_YD on lk co sg di) {post : Int32 → Prop} {s : Nat} (hs : s ≤ 8)
    (hex : zb_HS on lk sg s)
    (h : ∀ r, r < 24 → zb_U on lk r = true → zb_N sg r = s → zb_ms (zb_U on lk) (zb_N sg) (zb_R pr) (zb_K on pr lk co sg 5) s 24 = zb_M (zb_R pr) (zb_K on pr lk co sg 5) r → post (nI r)) :
    ∀ n i x2 x3, i ≤ 24 → 24 - i < n →
      zb_DS on pr lk co sg s i x2 x3 →
      wY_designated_7 post (nI s) dl la cp wt rt sh on pr ca sc sg lk co st tm ep ya so cs di tc cb ev he fr n x2 x3 (nI i) := by
  have hK : ∀ b, b < 6 → zb_K on pr lk co sg 5 b < 65536 := fun b hb => zb_bf_lt (up := zb_U on lk) (sg := zb_N sg) (zb_WF_OK hW) 5 b hb
  intro n
  induction n with
  | zero => intro i x2 x3 _ h; omega
  | succ n ih =>
    intro i x2 x3 hi hn hI
    refine pk_le 24 i (fun hg => ?_) (fun hl => ⟨vp_in_nI hl (by omega), ?_⟩)
    · have e : i = 24 := by omega
      subst e
      rcases hI with ⟨e, _⟩ | ⟨r, h1, h2, h3, h4, h5, _⟩
      · obtain ⟨j, hj, uj, sj⟩ := hex
        have a1 := zb_ms_le (rk := zb_R pr) (K := zb_K on pr lk co sg 5) uj sj 24 hj
        have a2 := zb_M_lt (zb_WF_OK hW) hK hj
        have e' : zb_ms (zb_U on lk) (zb_N sg) (zb_R pr) (zb_K on pr lk co sg 5) s 24 = 2147483647 := e
        omega
      · rw [h5]
        exact h r h1 h2 h3 h4
    · rw [nI_clamp (by omega)]
      obtain ⟨es, h8, _⟩ := zb_WF_sg hW hl
      have keep : (zb_U on lk i = true → zb_N sg i = s → zb_ms (zb_U on lk) (zb_N sg) (zb_R pr) (zb_K on pr lk co sg 5) s i ≤ zb_M (zb_R pr) (zb_K on pr lk co sg 5) i) → wY_designated_7 post (nI s) dl la cp wt rt sh on pr ca sc sg lk co st tm ep ya so cs di tc cb ev he fr n x2 x3 (nI (i + 1)) := fun hk => by
        have e : zb_ms (zb_U on lk) (zb_N sg) (zb_R pr) (zb_K on pr lk co sg 5) s (i + 1) = zb_ms (zb_U on lk) (zb_N sg) (zb_R pr) (zb_K on pr lk co sg 5) s i := by
          simp only [zb_ms]
          rw [if_neg]
          rintro ⟨z1, z2, z3⟩
          have := hk z1 z2
          omega
        refine ih (i + 1) x2 x3 (by omega) (by omega) ?_
        unfold zb_DS
        rw [e]
        rcases hI with z | ⟨r, h1, h2⟩
        · exact Or.inl z
        · exact Or.inr ⟨r, by omega, h2⟩
      rw [es]
      refine pk_eq (zb_N sg i) s (fun e => ?_) (fun e => nm_r (nI_1 i) (keep (fun _ z => absurd z e)))
      by_cases ui : zb_U on lk i = true
      · have hb : i / 4 < 6 := by omega
        have hM := zb_M_lt (zb_WF_OK hW) hK hl
        have take : zb_M (zb_R pr) (zb_K on pr lk co sg 5) i < zb_ms (zb_U on lk) (zb_N sg) (zb_R pr) (zb_K on pr lk co sg 5) s i → wY_designated_7 post (nI s) dl la cp wt rt sh on pr ca sc sg lk co st tm ep ya so cs di tc cb ev he fr n (nI i) (nI (zb_K on pr lk co sg 5 (i / 4) % 512)) (nI (i + 1)) := fun hk => by
          have e' : zb_ms (zb_U on lk) (zb_N sg) (zb_R pr) (zb_K on pr lk co sg 5) s (i + 1) = zb_M (zb_R pr) (zb_K on pr lk co sg 5) i := by
            simp only [zb_ms]
            rw [if_pos ⟨ui, e, hk⟩]
          refine ih (i + 1) _ _ (by omega) (by omega) (Or.inr ⟨i, by omega, ui, e, e', rfl, rfl⟩)
        refine zy_up1 hl ui (br_f (by decide) ⟨by decide, ?_⟩)
        rw [zb_dv4 (show i < 2 ^ 31 by omega)]
        refine zy_path hW hD hb ?_
        rcases hI with ⟨z1, z2⟩ | ⟨r, h1, h2, h3, h4, h5, h6⟩
        · rw [z2]
          exact br_t (by decide) (nm_r (nI_1 i) (take (by omega)))
        · subst h5 h6
          have cmp := zb_des_cmp hW hD hl h1 ui h2 (e.trans h3.symm)
          have hrb : r / 4 < 6 := by omega
          refine br_f (nI_pos (by omega)) (pk_lt (zb_K on pr lk co sg 5 (i / 4) % 512) (zb_K on pr lk co sg 5 (r / 4) % 512) (fun g => nm_r (nI_1 i) (take (by rw [h4]; exact cmp.mpr (Or.inl g)))) (fun g => pk_eq (zb_K on pr lk co sg 5 (i / 4) % 512) (zb_K on pr lk co sg 5 (r / 4) % 512) (fun g2 => ⟨by decide, by decide, ?_⟩) (fun g2 => nm_r (nI_1 i) (keep (fun _ _ => ?_)))))
          · rw [zb_dv4 (show r < 2 ^ 31 by omega)]
            refine zy_better hW hb hrb ?_
            by_cases g3 : zb_R pr (i / 4) < zb_R pr (r / 4)
            · rw [if_pos g3]
              exact br_f (by decide) (nm_r (nI_1 i) (take (by rw [h4]; exact cmp.mpr (Or.inr ⟨g2, g3⟩))))
            · rw [if_neg g3]
              refine br_t rfl (nm_r (nI_1 i) (keep (fun _ _ => ?_)))
              rw [h4]
              exact Nat.le_of_not_lt (fun z => by rcases cmp.mp z with y | y <;> omega)
          · rw [h4]
            exact Nat.le_of_not_lt (fun z => by rcases cmp.mp z with y | y <;> omega)
      · exact zy_up0 hl ui (br_t rfl (nm_r (nI_1 i) (keep (fun z => absurd z ui))))
theorem zy_des (hW : zb_WF on pr lk co sg) (hD : zb_YD on lk co sg di) {post : Int32 → Prop} {s : Nat} (hs : s ≤ 8)
    (hex : zb_HS on lk sg s)
    (h : ∀ r, r < 24 → zb_U on lk r = true → zb_N sg r = s → zb_ms (zb_U on lk) (zb_N sg) (zb_R pr) (zb_K on pr lk co sg 5) s 24 = zb_M (zb_R pr) (zb_K on pr lk co sg 5) r → post (nI r)) : wpY_designated post (dl, la, cp, wt, rt, sh, on, pr, ca, sc, sg, lk, co, st, tm, ep, ya, so, cs, di, tc, cb, ev, he, fr) (nI s) :=
  Exists.intro 25 (zy_des7 hW hD hs hex h 25 0 (-1) 0 (by omega) (by omega) (Or.inl ⟨rfl, rfl⟩))
end
end
section
/-! the reference's rootPort and role -/
def zb_rI (b q : Nat) : Int32 := if q = 4 then -1 else nI (4 * b + q)
def zb_RI (on pr lk co sg : Nat → Int32) (b p : Nat) (x2 x3 x4 : Int32) : Prop :=
  (zb_ap (zb_U on lk) (zb_N sg) (zb_N co) (zb_R pr) (zb_K on pr lk co sg 5) b p = 4 ∧ zb_ab (zb_U on lk) (zb_N sg) (zb_N co) (zb_R pr) (zb_K on pr lk co sg 5) b p = zb_R pr b * 1048576 + zb_R pr b * 16 ∧ x2 = -1) ∨
  ∃ q s, q < p ∧ zb_ap (zb_U on lk) (zb_N sg) (zb_N co) (zb_R pr) (zb_K on pr lk co sg 5) b p = q ∧ zb_U on lk (4 * b + q) = true ∧ s < 24 ∧ zb_U on lk s = true ∧ zb_N sg s = zb_N sg (4 * b + q) ∧ zb_ms (zb_U on lk) (zb_N sg) (zb_R pr) (zb_K on pr lk co sg 5) (zb_N sg (4 * b + q)) 24 = zb_M (zb_R pr) (zb_K on pr lk co sg 5) s ∧
    zb_ab (zb_U on lk) (zb_N sg) (zb_N co) (zb_R pr) (zb_K on pr lk co sg 5) b p = zb_of (zb_U on lk) (zb_N sg) (zb_N co) (zb_R pr) (zb_K on pr lk co sg 5) b q ∧ x2 = nI (4 * b + q) ∧ x3 = nI (zb_K on pr lk co sg 5 (s / 4) % 512 + zb_N co (4 * b + q)) ∧ x4 = nI s
theorem zb_rp_cmp {k1 k2 r1 r2 c1 c2 p q r s : Nat} (e : k1 / 512 = k2 / 512) (h1 : k1 % 512 ≤ 250) (h2 : k2 % 512 ≤ 250) (hc1 : c1 ≤ 50) (hc2 : c2 ≤ 50) (hr1 : r1 < 128) (hr2 : r2 < 128) (hp : p < 4) (hq : q < p) (i1 : r1 % 8 = r / 4) (i2 : r2 % 8 = s / 4) (i3 : r / 4 = s / 4 → r1 = r2) :
    k1 * 2048 + r1 * 16 + r % 4 * 4 + c1 * 2048 + p < k2 * 2048 + r2 * 16 + s % 4 * 4 + c2 * 2048 + q ↔ (k1 % 512 + c1 < k2 % 512 + c2 ∨ (k1 % 512 + c1 = k2 % 512 + c2 ∧ ((r / 4 = s / 4 ∧ r < s) ∨ (¬ r / 4 = s / 4 ∧ r1 < r2)))) := by
  by_cases g : r / 4 = s / 4
  · have := i3 g
    omega
  · have : r1 ≠ r2 := fun z => g (by omega)
    omega
section
variable {dl la cp wt rt sh : Int32} {on pr ca sc sg lk co st tm ep ya so cs di tc cb ev he fr : Nat → Int32}
theorem zy_rp19 (hW : zb_WF on pr lk co sg) (hD : zb_YD on lk co sg di) {post : Int32 → Prop} {b ru : Nat} (hb : b < 6) (hru : ru < 6) (hne : ¬ ru = b) (hR : zb_R pr ru = zb_K on pr lk co sg 5 b / 512)
    (h : post (zb_rI b (zb_ap (zb_U on lk) (zb_N sg) (zb_N co) (zb_R pr) (zb_K on pr lk co sg 5) b 4))) :
    ∀ n p x2 x3 x4, p ≤ 4 → 4 - p < n → zb_RI on pr lk co sg b p x2 x3 x4 → wY_rootPort_19 post (nI b) (nI ru) dl la cp wt rt sh on pr ca sc sg lk co st tm ep ya so cs di tc cb ev he fr n x2 x3 x4 (nI (4 * b + p)) := by
  have hK : ∀ b, b < 6 → zb_K on pr lk co sg 5 b < 65536 := fun b hb => zb_bf_lt (up := zb_U on lk) (sg := zb_N sg) (zb_WF_OK hW) 5 b hb
  have hRb := (zb_WF_pr hW hb).2
  have hRt := (zb_WF_pr hW hru).2
  have hlt : zb_R pr ru < zb_R pr b := by
    have a1 := (zb_YD_250 hW hD hb).2.1
    have : zb_R pr ru ≠ zb_R pr b := fun z => hne (by omega)
    omega
  intro n
  induction n with
  | zero => intro p x2 x3 x4 _ h; omega
  | succ n ih =>
    intro p x2 x3 x4 hp hn hI
    refine pk_le (4 * b + 4) (4 * b + p) (fun hg => ?_) (fun hl => ?_) (zb_m4e b) rfl (by omega) (by omega)
    · have e : p = 4 := by omega
      subst e
      rcases hI with ⟨e1, _, e2⟩ | ⟨q, s, h1, h2, _, _, _, _, _, _, h3, _⟩
      · rw [e1] at h; rw [e2]; exact h
      · rw [h2] at h
        have e3 : zb_rI b q = nI (4 * b + q) := if_neg (by omega)
        rw [e3] at h
        rw [h3]; exact h
    · have hi : 4 * b + p < 24 := by omega
      refine br_f (fun z => hne (zb_nI_inj (by omega) (by omega) z)) ?_
      have kp : ¬ (zb_U on lk (4 * b + p) = true ∧ zb_of (zb_U on lk) (zb_N sg) (zb_N co) (zb_R pr) (zb_K on pr lk co sg 5) b p < zb_ab (zb_U on lk) (zb_N sg) (zb_N co) (zb_R pr) (zb_K on pr lk co sg 5) b p) → wY_rootPort_19 post (nI b) (nI ru) dl la cp wt rt sh on pr ca sc sg lk co st tm ep ya so cs di tc cb ev he fr n x2 x3 x4 (nI (4 * b + p + 1)) := fun hk => by
        have e1 : zb_ap (zb_U on lk) (zb_N sg) (zb_N co) (zb_R pr) (zb_K on pr lk co sg 5) b (p + 1) = zb_ap (zb_U on lk) (zb_N sg) (zb_N co) (zb_R pr) (zb_K on pr lk co sg 5) b p := by simp only [zb_ap]; rw [if_neg hk]
        have e2 : zb_ab (zb_U on lk) (zb_N sg) (zb_N co) (zb_R pr) (zb_K on pr lk co sg 5) b (p + 1) = zb_ab (zb_U on lk) (zb_N sg) (zb_N co) (zb_R pr) (zb_K on pr lk co sg 5) b p := by simp only [zb_ab]; rw [if_neg hk]
        refine ih (p + 1) x2 x3 x4 (by omega) (by omega) ?_
        unfold zb_RI
        rw [e1, e2]
        rcases hI with z | ⟨q, s, h1, z⟩
        · exact Or.inl z
        · exact Or.inr ⟨q, s, by omega, z⟩
      by_cases ui : zb_U on lk (4 * b + p) = true
      · refine zy_up1 hi ui (br_f (by decide) ⟨vp_in_nI hi (by omega), ?_⟩)
        obtain ⟨es, hs⟩ := zb_U_sg hW hi ui
        rw [nI_clamp (show 4 * b + p < 2 ^ 31 by omega), es]
        refine zy_des hW hD (by omega) ⟨_, hi, ui, rfl⟩ (fun r hr ur sr mr => ⟨by decide, ?_⟩)
        rw [zb_dv4 (show r < 2 ^ 31 by omega)]
        have hrb : r / 4 < 6 := by omega
        have hC := zb_WF_co hW hi
        refine zy_path hW hD hrb ⟨vp_in_nI hi (by omega), nm_r (e' := nI (zb_K on pr lk co sg 5 (r / 4) % 512 + zb_N co (4 * b + p))) (by rw [hC.1, nI_add]) ?_⟩
        have ed := (zb_YD_edge hW hD hi hr ui ur sr.symm).1
        rw [show (4 * b + p) / 4 = b from by omega] at ed
        have b1 := (zb_YD_250 hW hD hrb).1
        have b2 := (zb_WF_pr hW hrb).2
        have ofe : zb_of (zb_U on lk) (zb_N sg) (zb_N co) (zb_R pr) (zb_K on pr lk co sg 5) b p = zb_K on pr lk co sg 5 (r / 4) * 2048 + zb_R pr (r / 4) * 16 + r % 4 * 4 + zb_N co (4 * b + p) * 2048 + p := by
          unfold zb_of
          rw [mr]
          rfl
        have tk : zb_of (zb_U on lk) (zb_N sg) (zb_N co) (zb_R pr) (zb_K on pr lk co sg 5) b p < zb_ab (zb_U on lk) (zb_N sg) (zb_N co) (zb_R pr) (zb_K on pr lk co sg 5) b p → wY_rootPort_19 post (nI b) (nI ru) dl la cp wt rt sh on pr ca sc sg lk co st tm ep ya so cs di tc cb ev he fr n (nI (4 * b + p)) (nI (zb_K on pr lk co sg 5 (r / 4) % 512 + zb_N co (4 * b + p))) (nI r) (nI (4 * b + p + 1)) := fun hk => by
          have e1 : zb_ap (zb_U on lk) (zb_N sg) (zb_N co) (zb_R pr) (zb_K on pr lk co sg 5) b (p + 1) = p := by simp only [zb_ap]; rw [if_pos ⟨ui, hk⟩]
          have e2 : zb_ab (zb_U on lk) (zb_N sg) (zb_N co) (zb_R pr) (zb_K on pr lk co sg 5) b (p + 1) = zb_of (zb_U on lk) (zb_N sg) (zb_N co) (zb_R pr) (zb_K on pr lk co sg 5) b p := by simp only [zb_ab]; rw [if_pos ⟨ui, hk⟩]
          exact ih (p + 1) _ _ _ (by omega) (by omega) (Or.inr ⟨p, r, by omega, e1, ui, hr, ur, sr, mr, e2, rfl, rfl, rfl⟩)
        rcases hI with ⟨e1, e2, e3⟩ | ⟨q, s, h1, h2, uq, hs24, us, sq, mq, aq, h3, h4, h5⟩
        · rw [e3]
          refine br_t (by decide) ?_
          refine br_f (by decide) (br_f (by decide) (nm_r (nI_1 _) (tk ?_)))
          rw [e2, ofe]
          clear ih h tk kp
          generalize zb_K on pr lk co sg 5 (r / 4) = k1 at *
          generalize zb_K on pr lk co sg 5 b = k2 at *
          generalize zb_N co (4 * b + p) = c1 at *
          generalize zb_R pr (r / 4) = r1 at *
          omega
        · subst h3 h4 h5
          have hsb : s / 4 < 6 := by omega
          have hq24 : 4 * b + q < 24 := by omega
          have ed2 := (zb_YD_edge hW hD hq24 hs24 uq us sq.symm).1
          rw [show (4 * b + q) / 4 = b from by omega] at ed2
          have c1 := (zb_YD_250 hW hD hsb).1
          have c2 := (zb_WF_pr hW hsb).2
          have hCq := zb_WF_co hW hq24
          have ofq : zb_of (zb_U on lk) (zb_N sg) (zb_N co) (zb_R pr) (zb_K on pr lk co sg 5) b q = zb_K on pr lk co sg 5 (s / 4) * 2048 + zb_R pr (s / 4) * 16 + s % 4 * 4 + zb_N co (4 * b + q) * 2048 + q := by
            unfold zb_of
            rw [mq]
            rfl
          have cmp := zb_rp_cmp (r := r) (s := s) (p := p) (q := q) (ed.symm.trans ed2) b1 c1 hC.2.2 hCq.2.2 b2.1 c2.1 (by omega) h1 b2.2 c2.2 (fun z => by rw [z])
          rw [← ofe, ← ofq, ← aq] at cmp
          have kp' : ¬ (zb_of (zb_U on lk) (zb_N sg) (zb_N co) (zb_R pr) (zb_K on pr lk co sg 5) b p < zb_ab (zb_U on lk) (zb_N sg) (zb_N co) (zb_R pr) (zb_K on pr lk co sg 5) b p) → wY_rootPort_19 post (nI b) (nI ru) dl la cp wt rt sh on pr ca sc sg lk co st tm ep ya so cs di tc cb ev he fr n (nI (4 * b + q)) (nI (zb_K on pr lk co sg 5 (s / 4) % 512 + zb_N co (4 * b + q))) (nI s) (nI (4 * b + p + 1)) := fun hk => kp (fun z => hk z.2)
          refine br_f (nI_pos (by omega)) (pk_le (zb_K on pr lk co sg 5 (s / 4) % 512 + zb_N co (4 * b + q)) (zb_K on pr lk co sg 5 (r / 4) % 512 + zb_N co (4 * b + p)) (fun g => ?_) (fun g => ?_))
          · unfold wY_rootPort_90
            rw [zb_dv4 (show r < 2 ^ 31 by omega), zb_dv4 (show s < 2 ^ 31 by omega)]
            refine br_t rfl (pk_eq (zb_K on pr lk co sg 5 (r / 4) % 512 + zb_N co (4 * b + p)) (zb_K on pr lk co sg 5 (s / 4) % 512 + zb_N co (4 * b + q)) (fun g2 => ⟨by decide, by decide, pk_eq (r / 4) (s / 4) (fun g3 => pk_le s r (fun g4 => ?_) (fun g4 => ?_)) (fun g3 => ⟨by decide, by decide, ?_⟩)⟩) (fun g2 => ?_))
            · refine br_t rfl (nm_r (nI_1 _) (kp' (fun z => ?_)))
              rcases cmp.mp z with y | ⟨_, y | y⟩
              · omega
              · omega
              · exact y.1 g3
            · exact br_f (by decide) (nm_r (nI_1 _) (tk (cmp.mpr (Or.inr ⟨g2, Or.inl ⟨g3, g4⟩⟩))))
            · refine zy_better hW hrb hsb ?_
              by_cases g4 : zb_R pr (r / 4) < zb_R pr (s / 4)
              · rw [if_pos g4]
                exact br_f (by decide) (nm_r (nI_1 _) (tk (cmp.mpr (Or.inr ⟨g2, Or.inr ⟨g3, g4⟩⟩))))
              · rw [if_neg g4]
                refine br_t rfl (nm_r (nI_1 _) (kp' (fun z => ?_)))
                rcases cmp.mp z with y | ⟨_, y | y⟩
                · omega
                · exact g3 y.1
                · exact g4 y.2
            · refine br_t rfl (nm_r (nI_1 _) (kp' (fun z => ?_)))
              rcases cmp.mp z with y | ⟨y, _⟩
              · omega
              · exact g2 y
          · refine br_f (by decide) (br_f (by decide) (nm_r (nI_1 _) (tk (cmp.mpr (Or.inl g)))))
      · exact zy_up0 hi ui (br_t rfl (nm_r (nI_1 _) (kp (fun z => ui z.1))))
theorem zb_ap_own (hW : zb_WF on pr lk co sg) (hD : zb_YD on lk co sg di) {b : Nat} (hb : b < 6) (hR : zb_R pr b = zb_K on pr lk co sg 5 b / 512) : zb_ap (zb_U on lk) (zb_N sg) (zb_N co) (zb_R pr) (zb_K on pr lk co sg 5) b 4 = 4 := by
  have hK : ∀ b, b < 6 → zb_K on pr lk co sg 5 b < 65536 := fun b hb => zb_bf_lt (up := zb_U on lk) (sg := zb_N sg) (zb_WF_OK hW) 5 b hb
  rcases zb_ab_at (up := zb_U on lk) (sg := zb_N sg) (c := zb_N co) (rk := zb_R pr) (K := zb_K on pr lk co sg 5) b 4 with y | ⟨p, hp, hu, y, _⟩
  · exact y.2
  · have hi : 4 * b + p < 24 := by omega
    obtain ⟨j, hj, uj, ej, em⟩ := zb_ms_in (up := zb_U on lk) (sg := zb_N sg) (zb_WF_OK hW) hK hi hu
    have ed := (zb_YD_edge hW hD hi hj hu uj ej.symm).1
    rw [show (4 * b + p) / 4 = b from by omega] at ed
    have hC := (zb_WF_co hW hi).2
    have le := zb_ab_le0 (up := zb_U on lk) (sg := zb_N sg) (c := zb_N co) (rk := zb_R pr) (K := zb_K on pr lk co sg 5) (b := b) 4
    have hRb := (zb_WF_pr hW hb).2.1
    unfold zb_of at y
    rw [em] at y
    unfold zb_M at y
    rw [y] at le
    generalize zb_K on pr lk co sg 5 (j / 4) = k1 at *
    generalize zb_K on pr lk co sg 5 b = k2 at *
    generalize zb_N co (4 * b + p) = c1 at *
    generalize zb_R pr (j / 4) = r1 at *
    omega
theorem zy_rp (hW : zb_WF on pr lk co sg) (hD : zb_YD on lk co sg di) {post : Int32 → Prop} {b : Nat} (hb : b < 6)
    (h : post (zb_rI b (zb_ap (zb_U on lk) (zb_N sg) (zb_N co) (zb_R pr) (zb_K on pr lk co sg 5) b 4))) : wpY_rootPort post (dl, la, cp, wt, rt, sh, on, pr, ca, sc, sg, lk, co, st, tm, ep, ya, so, cs, di, tc, cb, ev, he, fr) (nI b) := by
  unfold wpY_rootPort
  dsimp only
  refine zy_best hW hD hb (fun ru hru eR => nm_r (zb_m4 b) ?_)
  by_cases e : ru = b
  · subst e
    have e4 := zb_ap_own hW hD hb eR
    rw [e4] at h
    have l : ∀ n p, p ≤ 4 → 4 - p < n → wY_rootPort_19 post (nI ru) (nI ru) dl la cp wt rt sh on pr ca sc sg lk co st tm ep ya so cs di tc cb ev he fr n (-1) 0 0 (nI (4 * ru + p)) := by
      refine zb_loop (fun n p => wY_rootPort_19 post (nI ru) (nI ru) dl la cp wt rt sh on pr ca sc sg lk co st tm ep ya so cs di tc cb ev he fr n (-1) 0 0 (nI (4 * ru + p))) 4 ?_ ?_
      · intro n
        exact pk_le (4 * ru + 4) (4 * ru + 4) (fun _ => h) (fun g => absurd g (by omega)) (zb_m4e ru) rfl (by omega) (by omega)
      · intro n p hp hw
        exact pk_le (4 * ru + 4) (4 * ru + p) (fun g => absurd g (by omega)) (fun _ => br_t rfl (nm_r (nI_1 _) hw)) (zb_m4e ru) rfl (by omega) (by omega)
    exact ⟨5, l 5 0 (by omega) (by omega)⟩
  · exact ⟨5, zy_rp19 hW hD hb hru e eR h 5 0 (-1) 0 0 (by omega) (by omega) (Or.inl ⟨rfl, rfl, rfl⟩)⟩
theorem zy_role (hW : zb_WF on pr lk co sg) (hD : zb_YD on lk co sg di) {post : Int32 → Prop} {i : Nat} (hi : i < 24)
    (h : post (nI (zb_ro (zb_U on lk) (zb_N sg) (zb_N co) (zb_R pr) (zb_K on pr lk co sg 5) i))) : wpY_role post (dl, la, cp, wt, rt, sh, on, pr, ca, sc, sg, lk, co, st, tm, ep, ya, so, cs, di, tc, cb, ev, he, fr) (nI i) := by
  unfold wpY_role
  dsimp only
  unfold zb_ro at h
  by_cases ui : zb_U on lk i = true
  · rw [if_pos ui] at h
    refine zy_up1 hi ui (br_f (by decide) ⟨by decide, ?_⟩)
    rw [zb_dv4 (show i < 2 ^ 31 by omega)]
    have hb : i / 4 < 6 := by omega
    have hap : zb_ap (zb_U on lk) (zb_N sg) (zb_N co) (zb_R pr) (zb_K on pr lk co sg 5) (i / 4) 4 ≤ 4 := by
      rcases zb_ab_at (up := zb_U on lk) (sg := zb_N sg) (c := zb_N co) (rk := zb_R pr) (K := zb_K on pr lk co sg 5) (i / 4) 4 with y | ⟨p, hp, _, _, y⟩
      · rw [y.2]; omega
      · omega
    refine zy_rp hW hD hb ?_
    by_cases q : zb_ap (zb_U on lk) (zb_N sg) (zb_N co) (zb_R pr) (zb_K on pr lk co sg 5) (i / 4) 4 = i % 4
    · rw [if_pos q] at h
      have e : zb_rI (i / 4) (zb_ap (zb_U on lk) (zb_N sg) (zb_N co) (zb_R pr) (zb_K on pr lk co sg 5) (i / 4) 4) = nI i := by
        rw [q]
        unfold zb_rI
        rw [if_neg (by omega)]
        exact congrArg nI (by omega)
      exact br_t e h
    · rw [if_neg q] at h
      have e : ¬ zb_rI (i / 4) (zb_ap (zb_U on lk) (zb_N sg) (zb_N co) (zb_R pr) (zb_K on pr lk co sg 5) (i / 4) 4) = nI i := by
        unfold zb_rI
        by_cases e4 : zb_ap (zb_U on lk) (zb_N sg) (zb_N co) (zb_R pr) (zb_K on pr lk co sg 5) (i / 4) 4 = 4
        · rw [if_pos e4]; exact fun z => zb_m1n (by omega) z.symm
        · rw [if_neg e4]
          intro z
          have := zb_nI_inj (by omega) (by omega) z
          omega
      refine br_f e ⟨vp_in_nI hi (by omega), ?_⟩
      obtain ⟨es, hs⟩ := zb_U_sg hW hi ui
      rw [nI_clamp (show i < 2 ^ 31 by omega), es]
      refine zy_des hW hD (by omega) ⟨_, hi, ui, rfl⟩ (fun r hr ur sr mr => ?_)
      have a1 := (zb_WF_pr hW hb).2
      have a2 := (zb_WF_pr hW (show r / 4 < 6 by omega)).2
      have m1 : zb_ms (zb_U on lk) (zb_N sg) (zb_R pr) (zb_K on pr lk co sg 5) (zb_N sg i) 24 / 16 % 128 = zb_R pr (r / 4) := by
        rw [mr]
        unfold zb_M
        omega
      have m2 : zb_ms (zb_U on lk) (zb_N sg) (zb_R pr) (zb_K on pr lk co sg 5) (zb_N sg i) 24 / 4 % 4 = r % 4 := by
        rw [mr]
        unfold zb_M
        omega
      rw [m1, m2] at h
      refine pk_eq r i (fun g => ?_) (fun g => ?_)
      · subst g
        rw [if_pos ⟨rfl, rfl⟩] at h
        exact h
      · rw [if_neg] at h
        · exact h
        · rintro ⟨z1, z2⟩
          rw [z1] at a2
          omega
  · rw [if_neg ui] at h
    exact zy_up0 hi ui (br_t rfl h)
end
end
section
/-! entries of the tables, states of the ports -/
/-- the component's ages: -5 where there is no entry -/
def zb_xA (ep ya : Nat → Int32) : Nat → Int32 := fun k => if ep k = -5 then -5 else ya k
/-- the entries of the first t stations naming port i dropped -/
def zb_dp (i t : Nat) (ep : Nat → Int32) : Nat → Int32 := fun k => if 8 * (i / 4) ≤ k ∧ k < 8 * (i / 4) + t ∧ ep k = nI (i % 4) then -5 else ep k
theorem zb_xA1 {ep ya : Nat → Int32} {k : Nat} (h : ep k = -5) : zb_xA ep ya k = -5 := if_pos h
theorem zb_xA0 {ep ya : Nat → Int32} {k : Nat} (h : ¬ ep k = -5) : zb_xA ep ya k = ya k := if_neg h
theorem zb_xA_cg {ep ep' ya ya' : Nat → Int32} {j : Nat} (h : ep j = ep' j) (h' : ya j = ya' j) : zb_xA ep ya j = zb_xA ep' ya' j := by
  unfold zb_xA
  rw [h, h']
theorem zb_xA_drop {ep ya : Nat → Int32} {k : Nat} : upd (zb_xA ep ya) k (-5) = zb_xA (upd ep k (-5)) ya := by
  funext j
  by_cases e : j = k
  · subst e; rw [pk_us, zb_xA1 pk_us]
  · rw [pk_un e]; exact zb_xA_cg (pk_un e).symm rfl
theorem zb_dp0 {i : Nat} {ep : Nat → Int32} : zb_dp i 0 ep = ep := by
  funext k
  exact if_neg (fun z => by omega)
theorem zb_dp_at {i t : Nat} {ep : Nat → Int32} : zb_dp i t ep (8 * (i / 4) + t) = ep (8 * (i / 4) + t) := if_neg (fun z => by omega)
theorem zb_dp_s1 {i t : Nat} {ep : Nat → Int32} (h : ep (8 * (i / 4) + t) = nI (i % 4)) : upd (zb_dp i t ep) (8 * (i / 4) + t) (-5) = zb_dp i (t + 1) ep := by
  funext k
  unfold upd zb_dp
  by_cases e : k = 8 * (i / 4) + t
  · rw [if_pos e, if_pos]
    rw [e]
    exact ⟨by omega, by omega, h⟩
  · rw [if_neg e]
    by_cases q : 8 * (i / 4) ≤ k ∧ k < 8 * (i / 4) + t ∧ ep k = nI (i % 4)
    · rw [if_pos q, if_pos ⟨q.1, by omega, q.2.2⟩]
    · rw [if_neg q, if_neg (fun z => q ⟨z.1, by omega, z.2.2⟩)]
theorem zb_dp_s0 {i t : Nat} {ep : Nat → Int32} (h : ¬ ep (8 * (i / 4) + t) = nI (i % 4)) : zb_dp i t ep = zb_dp i (t + 1) ep := by
  funext k
  unfold zb_dp
  by_cases q : 8 * (i / 4) ≤ k ∧ k < 8 * (i / 4) + t ∧ ep k = nI (i % 4)
  · rw [if_pos q, if_pos ⟨q.1, by omega, q.2.2⟩]
  · rw [if_neg q, if_neg]
    rintro ⟨z1, z2, z3⟩
    by_cases e : k = 8 * (i / 4) + t
    · rw [e] at z3; exact h z3
    · exact q ⟨z1, by omega, z3⟩
theorem zb_dp_id {i : Nat} {ep : Nat → Int32} (h : ∀ t, t < 8 → ¬ ep (8 * (i / 4) + t) = nI (i % 4)) : zb_dp i 8 ep = ep := by
  funext k
  refine if_neg (fun z => h (k - 8 * (i / 4)) (by omega) ?_)
  rw [show 8 * (i / 4) + (k - 8 * (i / 4)) = k from by omega]
  exact z.2.2
section
variable {wt rt sh dl la cp : Int32} {on pr ca sc cr cc rp lk co sg st tm ro ep ea mg cs so ya di tc cb ev he fr : Nat → Int32}
theorem zx_drop {post : SX → Prop} {k : Nat} (hk : k < 48) (h : post (wt, rt, sh, dl, la, cp, on, pr, ca, sc, cr, cc, rp, lk, co, sg, st, tm, ro, upd ep k (-5), zb_xA (upd ep k (-5)) ya, mg, cs, so)) : wpX_dropEntry post (wt, rt, sh, dl, la, cp, on, pr, ca, sc, cr, cc, rp, lk, co, sg, st, tm, ro, ep, zb_xA ep ya, mg, cs, so) (nI k) := by
  unfold wpX_dropEntry
  dsimp only
  rw [nI_clamp (by omega)]
  exact ⟨vp_in_nI hk (by omega), nm_e ⟨vp_in_nI hk (by omega), nm_r zb_xA_drop h⟩⟩
theorem zx_dropEs {post : SX → Prop} {i : Nat} (hi : i < 24) (h : post (wt, rt, sh, dl, la, cp, on, pr, ca, sc, cr, cc, rp, lk, co, sg, st, tm, ro, zb_dp i 8 ep, zb_xA (zb_dp i 8 ep) ya, mg, cs, so)) : wpX_dropEntriesOf post (wt, rt, sh, dl, la, cp, on, pr, ca, sc, cr, cc, rp, lk, co, sg, st, tm, ro, ep, zb_xA ep ya, mg, cs, so) (nI i) := by
  have l : ∀ n t, t ≤ 8 → 8 - t < n → wX_dropEntriesOf_14 post (nI (8 * (i / 4))) (nI (i % 4)) n (nI t) wt rt sh dl la cp on pr ca sc cr cc rp lk co sg st tm ro (zb_dp i t ep) (zb_xA (zb_dp i t ep) ya) mg cs so := by
    refine zb_loop (fun n t => wX_dropEntriesOf_14 post (nI (8 * (i / 4))) (nI (i % 4)) n (nI t) wt rt sh dl la cp on pr ca sc cr cc rp lk co sg st tm ro (zb_dp i t ep) (zb_xA (zb_dp i t ep) ya) mg cs so) 8 ?_ ?_
    · intro n
      exact br_t (nI_le (a := 8) (b := 8) (by omega) (by omega)) h
    · intro n t ht hw
      refine br_f (nI_ge (a := t) (b := 8) ht (by omega)) (nm_r (nI_add _ _) ⟨vp_in_nI (by omega) (by omega), ?_⟩)
      rw [nI_clamp (by omega), zb_dp_at]
      by_cases q : ep (8 * (i / 4) + t) = nI (i % 4)
      · refine br_t q (zx_drop (by omega) ?_)
        rw [zb_dp_s1 q]
        exact nm_r (nI_1 t) hw
      · refine br_f q (nm_r (nI_1 t) ?_)
        rw [zb_dp_s0 q]
        exact hw
  unfold wpX_dropEntriesOf
  dsimp only
  rw [zb_sh2 (by omega), zb_an3 (by omega), zb_m8]
  refine nm_e (nm_e ⟨9, ?_⟩)
  have := l 9 0 (by omega) (by omega)
  rw [zb_dp0] at this
  exact this
theorem zx_move1 {post : Int32 → SX → Prop} {i s t : Nat} (hi : i < 24) (es : st i = nI s) (hs : 3 ≤ s) (hs4 : s ≤ 4) (ht : t < 3)
    (h : post 1 (wt, rt, sh, dl, la, cp, on, pr, ca, sc, cr, cc, rp, lk, co, sg, upd st i (nI t), upd tm i 0, ro, zb_dp i 8 ep, zb_xA (zb_dp i 8 ep) ya, mg, cs, so)) : wpX_moveTo post (wt, rt, sh, dl, la, cp, on, pr, ca, sc, cr, cc, rp, lk, co, sg, st, tm, ro, ep, zb_xA ep ya, mg, cs, so) (nI i) (nI t) := by
  unfold wpX_moveTo
  dsimp only
  rw [nI_clamp (by omega), es]
  refine ⟨vp_in_nI hi (by omega), br_f (nI_nlt (a := s) (b := 3) hs (by omega)) (br_f (nI_ge (a := t) (b := 3) ht (by omega)) ?_)⟩
  unfold wX_moveTo_20
  rw [nI_clamp (by omega)]
  refine ⟨vp_in_nI hi (by omega), nm_e ⟨vp_in_nI hi (by omega), nm_e (br_f (by decide) (zx_dropEs hi ?_))⟩⟩
  exact ⟨narrow_b1, h⟩
theorem zx_move0 {post : Int32 → SX → Prop} {i s t : Nat} (hi : i < 24) (es : st i = nI s) (hs4 : s ≤ 4) (ht4 : t ≤ 4) (ht : s < 3 ∨ 3 ≤ t)
    (h : post 0 (wt, rt, sh, dl, la, cp, on, pr, ca, sc, cr, cc, rp, lk, co, sg, upd st i (nI t), upd tm i 0, ro, ep, ea, mg, cs, so)) : wpX_moveTo post (wt, rt, sh, dl, la, cp, on, pr, ca, sc, cr, cc, rp, lk, co, sg, st, tm, ro, ep, ea, mg, cs, so) (nI i) (nI t) := by
  unfold wpX_moveTo
  dsimp only
  rw [nI_clamp (by omega), es]
  have h19 : wX_moveTo_19 post (nI i) (nI t) wt rt sh dl la cp on pr ca sc cr cc rp lk co sg st tm ro ep ea mg cs so := by
    unfold wX_moveTo_19 wX_moveTo_20
    rw [nI_clamp (by omega)]
    exact ⟨vp_in_nI hi (by omega), nm_e ⟨vp_in_nI hi (by omega), nm_e (br_t rfl ⟨narrow_b0, h⟩)⟩⟩
  exact ⟨vp_in_nI hi (by omega), pk_lt s 3 (fun _ => h19) (fun g => pk_le 3 t (fun _ => h19) (fun g2 => absurd ht (by omega)))⟩
end
/-- states and timers are within their bounds -/
def zb_PS (st tm : Nat → Int32) (d : Nat) : Prop := ∀ i, i < 24 → st i = nI (zb_N st i) ∧ zb_N st i ≤ 4 ∧ tm i = nI (zb_N tm i) ∧ zb_N tm i < d ∧ (zb_N st i = 0 → zb_N tm i = 0)
/-- an entry names a port that learns or forwards -/
def zb_PE (st ep : Nat → Int32) : Prop := ∀ k, k < 48 → ep k = -5 ∨ (ep k = nI (zb_N ep k) ∧ zb_N ep k < 4 ∧ 3 ≤ zb_N st (4 * (k / 8) + zb_N ep k))
/-- a port is disabled if and only if it is not up -/
def zb_PU (on lk st : Nat → Int32) (i : Nat) : Prop := zb_N st i = 0 ↔ ¬ zb_U on lk i = true
theorem zb_N_upd {a : Nat → Int32} {i j s : Nat} (hs : s < 2 ^ 31) : zb_N (upd a i (nI s)) j = if j = i then s else zb_N a j := by
  unfold zb_N upd
  by_cases e : j = i
  · rw [if_pos e, if_pos e, nI_clamp hs]
  · rw [if_neg e, if_neg e]
section
variable {on lk st tm ep : Nat → Int32} {d : Nat}
theorem zb_PE_no (hE : zb_PE st ep) {i : Nat} (hi : i < 24) (hs : zb_N st i < 3) : zb_dp i 8 ep = ep := by
  refine zb_dp_id (fun t ht e => ?_)
  rcases hE (8 * (i / 4) + t) (by omega) with z | ⟨z1, z2, z3⟩
  · rw [e] at z; exact zb_m5' (by omega) z
  · have e2 : zb_N ep (8 * (i / 4) + t) = i % 4 := by unfold zb_N; rw [e, nI_clamp (by omega)]
    rw [e2, show 4 * ((8 * (i / 4) + t) / 8) + i % 4 = i from by omega] at z3
    omega
theorem zb_PS_upd (hS : zb_PS st tm d) (hd : 1 ≤ d) {i s : Nat} (hs : s ≤ 4) : zb_PS (upd st i (nI s)) (upd tm i 0) d := by
  intro j hj
  have e0 : zb_N (upd tm i 0) j = if j = i then 0 else zb_N tm j := zb_N_upd (s := 0) (by omega)
  rw [zb_N_upd (by omega), e0]
  by_cases e : j = i
  · subst e
    rw [if_pos rfl, if_pos rfl, pk_us, pk_us]
    exact ⟨rfl, hs, rfl, hd, fun _ => rfl⟩
  · rw [if_neg e, if_neg e, pk_un e, pk_un e]
    exact hS j hj
theorem zb_PE_dp (hE : zb_PE st ep) {i s : Nat} (hi : i < 24) (hs : s ≤ 4) : zb_PE (upd st i (nI s)) (zb_dp i 8 ep) := by
  intro k hk
  by_cases q : 8 * (i / 4) ≤ k ∧ k < 8 * (i / 4) + 8 ∧ ep k = nI (i % 4)
  · exact Or.inl (if_pos q)
  · have e1 : zb_dp i 8 ep k = ep k := if_neg q
    have e2 : zb_N (zb_dp i 8 ep) k = zb_N ep k := by unfold zb_N; rw [e1]
    rw [e1, e2]
    rcases hE k hk with z | ⟨z1, z2, z3⟩
    · exact Or.inl z
    · refine Or.inr ⟨z1, z2, ?_⟩
      rw [zb_N_upd (by omega), if_neg]
      · exact z3
      · intro z
        refine q ⟨by omega, by omega, ?_⟩
        rw [z1]
        exact congrArg nI (by omega)
theorem zb_PE_lo (hE : zb_PE st ep) {i s : Nat} (hi : i < 24) (h : zb_N st i < 3) (hs : s ≤ 4) : zb_PE (upd st i (nI s)) ep := by
  have := zb_PE_dp hE hi hs
  rw [zb_PE_no hE hi h] at this
  exact this
theorem zb_PE_hi (hE : zb_PE st ep) {i s : Nat} (h3 : 3 ≤ s) (hs : s ≤ 4) : zb_PE (upd st i (nI s)) ep := by
  intro k hk
  rcases hE k hk with z | ⟨z1, z2, z3⟩
  · exact Or.inl z
  · refine Or.inr ⟨z1, z2, ?_⟩
    rw [zb_N_upd (by omega)]
    by_cases e : 4 * (k / 8) + zb_N ep k = i
    · rw [if_pos e]; exact h3
    · rw [if_neg e]; exact z3
end
end
section
/-! a change of a bridge: ports refreshed, counters reset -/
abbrev zb_Q : Type := (Nat → Int32) × (Nat → Int32) × (Nat → Int32) × Int32
def zb_rS (u : Bool) (j : Nat) (st : Nat → Int32) : Nat → Int32 := if u = true then (if st j = 0 then upd st j 1 else st) else upd st j 0
def zb_rT (u : Bool) (j : Nat) (tm : Nat → Int32) : Nat → Int32 := if u = true then tm else upd tm j 0
def zb_rE (u : Bool) (j : Nat) (ep : Nat → Int32) : Nat → Int32 := if u = true then ep else zb_dp j 8 ep
def zb_rL (u : Bool) (j : Nat) (st : Nat → Int32) (l : Int32) : Int32 := if u = true then l else if zb_N st j < 3 then l else 1
/-- port j refreshed -/
def zb_rf (U : Nat → Bool) (j : Nat) (s : zb_Q) : zb_Q := (zb_rS (U j) j s.1, zb_rT (U j) j s.2.1, zb_rE (U j) j s.2.2.1, zb_rL (U j) j s.1 s.2.2.2)
/-- the first p ports of bridge b refreshed -/
def zb_ri (U : Nat → Bool) (b : Nat) (s : zb_Q) : Nat → zb_Q
  | 0 => s
  | p + 1 => zb_rf U (4 * b + p) (zb_ri U b s p)
def zb_PV (d : Nat) (s : zb_Q) : Prop := zb_PS s.1 s.2.1 d ∧ zb_PE s.1 s.2.2.1 ∧ (s.2.2.2 = 0 ∨ s.2.2.2 = 1)
theorem zb_st0 {st tm : Nat → Int32} {d j : Nat} (hS : zb_PS st tm d) (hj : j < 24) : st j = 0 ↔ zb_N st j = 0 := by
  constructor
  · intro e; unfold zb_N; rw [e]; rfl
  · intro e; rw [(hS j hj).1, e]; rfl
theorem zb_tm0 {st tm : Nat → Int32} {d j : Nat} (hS : zb_PS st tm d) (hj : j < 24) (h : zb_N st j = 0) : upd tm j 0 = tm := by
  refine zb_upd_same ?_
  rw [(hS j hj).2.2.1, (hS j hj).2.2.2.2 h]
  rfl
section
variable {U : Nat → Bool} {d j : Nat} {s : zb_Q}
theorem zb_rf_PV (hV : zb_PV d s) (hd : 1 ≤ d) (hj : j < 24) : zb_PV d (zb_rf U j s) := by
  obtain ⟨st, tm, ep, l⟩ := s
  obtain ⟨hS, hE, hl⟩ := hV
  unfold zb_rf zb_rS zb_rT zb_rE zb_rL
  dsimp only at hS hE hl ⊢
  by_cases u : U j = true
  · simp only [if_pos u]
    by_cases z : st j = 0
    · rw [if_pos z]
      have z' := (zb_st0 hS hj).mp z
      refine ⟨?_, zb_PE_lo (s := 1) hE hj (by omega) (by omega), hl⟩
      have := zb_PS_upd (s := 1) (i := j) hS hd (by omega)
      rw [zb_tm0 hS hj z'] at this
      exact this
    · rw [if_neg z]
      exact ⟨hS, hE, hl⟩
  · simp only [if_neg u]
    refine ⟨zb_PS_upd (s := 0) hS hd (by omega), zb_PE_dp (s := 0) hE hj (by omega), ?_⟩
    show (if zb_N st j < 3 then l else 1) = 0 ∨ (if zb_N st j < 3 then l else 1) = 1
    by_cases q : zb_N st j < 3
    · rw [if_pos q]; exact hl
    · rw [if_neg q]; exact Or.inr rfl
theorem zb_rf_ne {i : Nat} (h : i ≠ j) : (zb_rf U j s).1 i = s.1 i := by
  unfold zb_rf zb_rS
  dsimp only
  by_cases u : U j = true
  · rw [if_pos u]
    by_cases z : s.1 j = 0
    · rw [if_pos z, pk_un h]
    · rw [if_neg z]
  · rw [if_neg u, pk_un h]
theorem zb_rf_eq (hV : zb_PV d s) (hj : j < 24) : zb_N (zb_rf U j s).1 j = 0 ↔ ¬ U j = true := by
  unfold zb_rf zb_rS
  dsimp only
  by_cases u : U j = true
  · rw [if_pos u]
    refine ⟨fun h => ?_, fun h => absurd u h⟩
    by_cases z : s.1 j = 0
    · rw [if_pos z] at h
      have e1 : zb_N (upd s.1 j 1) j = 1 := (zb_N_upd (s := 1) (by omega)).trans (if_pos rfl)
      omega
    · rw [if_neg z] at h
      exact absurd ((zb_st0 hV.1 hj).mpr h) z
  · rw [if_neg u]
    have e1 : zb_N (upd s.1 j 0) j = 0 := (zb_N_upd (s := 0) (by omega)).trans (if_pos rfl)
    exact ⟨fun _ => u, fun _ => e1⟩
/-- a port that fits already stays as it is -/
theorem zb_rf_id (hV : zb_PV d s) (hj : j < 24) (hu : zb_N s.1 j = 0 ↔ ¬ U j = true) : zb_rf U j s = s := by
  obtain ⟨st, tm, ep, l⟩ := s
  obtain ⟨hS, hE, hl⟩ := hV
  unfold zb_rf zb_rS zb_rT zb_rE zb_rL
  dsimp only at hS hE hl hu ⊢
  by_cases u : U j = true
  · have z : ¬ st j = 0 := fun e => (hu.mp ((zb_st0 hS hj).mp e)) u
    simp only [if_pos u]
    rw [if_neg z]
  · have z := hu.mpr u
    simp only [if_neg u]
    rw [zb_upd_same ((zb_st0 hS hj).mpr z), zb_tm0 hS hj z, zb_PE_no hE hj (by omega), if_pos (by omega)]
theorem zb_ri_PV {b : Nat} (hV : zb_PV d s) (hd : 1 ≤ d) (hb : b < 6) : ∀ p, p ≤ 4 → zb_PV d (zb_ri U b s p) := by
  intro p
  induction p with
  | zero => intro _; exact hV
  | succ p ih => intro hp; exact zb_rf_PV (ih (by omega)) hd (by omega)
theorem zb_ri_ge {b : Nat} : ∀ p i, (i < 4 * b ∨ 4 * b + p ≤ i) → (zb_ri U b s p).1 i = s.1 i := by
  intro p
  induction p with
  | zero => intro i _; rfl
  | succ p ih => intro i hi; show (zb_rf U (4 * b + p) (zb_ri U b s p)).1 i = _; rw [zb_rf_ne (by omega), ih i (by omega)]
/-- behind the pass every port of the bridge fits -/
theorem zb_ri_fit {b : Nat} (hV : zb_PV d s) (hd : 1 ≤ d) (hb : b < 6) : ∀ p, p ≤ 4 → ∀ i, 4 * b ≤ i → i < 4 * b + p → (zb_N (zb_ri U b s p).1 i = 0 ↔ ¬ U i = true) := by
  intro p
  induction p with
  | zero => intro _ i h1 h2; omega
  | succ p ih =>
    intro hp i h1 h2
    show zb_N (zb_rf U (4 * b + p) (zb_ri U b s p)).1 i = 0 ↔ _
    by_cases e : i = 4 * b + p
    · subst e
      exact zb_rf_eq (zb_ri_PV hV hd hb p (by omega)) (by omega)
    · unfold zb_N
      rw [zb_rf_ne e]
      exact ih (by omega) i h1 (by omega)
theorem zb_ri_id {b : Nat} (hV : zb_PV d s) (hb : b < 6) (hu : ∀ i, i < 24 → (zb_N s.1 i = 0 ↔ ¬ U i = true)) : ∀ p, p ≤ 4 → zb_ri U b s p = s := by
  intro p
  induction p with
  | zero => intro _; rfl
  | succ p ih =>
    intro hp
    show zb_rf U (4 * b + p) (zb_ri U b s p) = s
    rw [ih (by omega)]
    exact zb_rf_id hV (by omega) (hu _ (by omega))
theorem zb_ri_one {b i : Nat} (hV : zb_PV d s) (hd : 1 ≤ d) (hb : b < 6) (hi : 4 * b ≤ i) (hi4 : i < 4 * b + 4) (hu : ∀ j, j < 24 → j ≠ i → (zb_N s.1 j = 0 ↔ ¬ U j = true)) : ∀ p, p ≤ 4 → zb_ri U b s p = if i < 4 * b + p then zb_rf U i s else s := by
  intro p
  induction p with
  | zero => intro _; rw [if_neg (by omega)]; rfl
  | succ p ih =>
    intro hp
    show zb_rf U (4 * b + p) (zb_ri U b s p) = _
    rw [ih (by omega)]
    by_cases e : i = 4 * b + p
    · subst e
      rw [if_neg (by omega), if_pos (by omega)]
    · by_cases q : i < 4 * b + p
      · rw [if_pos q, if_pos (by omega)]
        refine zb_rf_id (zb_rf_PV hV hd (by omega)) (by omega) ?_
        unfold zb_N
        rw [zb_rf_ne (fun z => e z.symm)]
        exact hu _ (by omega) (fun z => e z.symm)
      · rw [if_neg q, if_neg (by omega)]
        exact zb_rf_id hV (by omega) (hu _ (by omega) (fun z => e z.symm))
end
section
variable {wt rt sh dl la cp : Int32} {on pr ca sc cr cc rp lk co sg st tm ro ep ea mg cs so ya di tc cb ev he fr : Nat → Int32}
theorem zx_ref {post : Int32 → SX → Prop} {d j : Nat} (hS : zb_PS st tm d) (hE : zb_PE st ep) (hj : j < 24)
    (h : post (zb_rL (zb_U on lk j) j st 0) (wt, rt, sh, dl, la, cp, on, pr, ca, sc, cr, cc, rp, lk, co, sg, zb_rS (zb_U on lk j) j st, zb_rT (zb_U on lk j) j tm, ro, zb_rE (zb_U on lk j) j ep, zb_xA (zb_rE (zb_U on lk j) j ep) ya, mg, cs, so)) : wpX_refreshPort post (wt, rt, sh, dl, la, cp, on, pr, ca, sc, cr, cc, rp, lk, co, sg, st, tm, ro, ep, zb_xA ep ya, mg, cs, so) (nI j) := by
  unfold wpX_refreshPort
  dsimp only
  unfold zb_rS zb_rT zb_rE zb_rL at h
  have hs := hS j hj
  by_cases u : zb_U on lk j = true
  · simp only [if_pos u] at h
    refine zx_up1 hj u (br_f (by decide) ⟨vp_in_nI hj (by omega), ?_⟩)
    rw [nI_clamp (by omega)]
    by_cases z : st j = 0
    · rw [if_pos z] at h
      refine br_t z (zx_move0 (s := 0) (t := 1) hj z (by omega) (by omega) (Or.inl (by omega)) ?_)
      rw [zb_tm0 hS hj ((zb_st0 hS hj).mp z)]
      exact ⟨narrow_b0, h⟩
    · rw [if_neg z] at h
      exact br_f z (br_f (by decide) h)
  · simp only [if_neg u] at h
    refine zx_up0 hj u (br_t rfl ?_)
    unfold wX_refreshPort_26
    rw [nI_clamp (by omega)]
    refine br_t rfl ⟨vp_in_nI hj (by omega), ?_⟩
    by_cases z : st j = 0
    · have z' := (zb_st0 hS hj).mp z
      rw [zb_upd_same z, zb_tm0 hS hj z', zb_PE_no hE hj (by omega), if_pos (by omega)] at h
      exact br_t z h
    · refine br_f z ?_
      by_cases q : zb_N st j < 3
      · rw [zb_PE_no hE hj q, if_pos q] at h
        exact zx_move0 (t := 0) hj hs.1 hs.2.1 (by omega) (Or.inl q) ⟨narrow_b0, h⟩
      · rw [if_neg q] at h
        exact zx_move1 (t := 0) hj hs.1 (by omega) hs.2.1 (by omega) ⟨narrow_b1, h⟩
theorem zx_comp {post : Int32 → Prop} {b : Nat} (hb : b < 6) (h : ∀ m, (∀ t, t < 6 → bt m t = decide (cr t = cr b)) → post m) : wpX_componentOf post (wt, rt, sh, dl, la, cp, on, pr, ca, sc, cr, cc, rp, lk, co, sg, st, tm, ro, ep, ea, mg, cs, so) (nI b) := by
  have l : ∀ n i m, i ≤ 6 → 6 - i < n → (∀ t, t < 6 → bt m t = decide (t < i ∧ cr t = cr b)) → wX_componentOf_4 post (nI b) wt rt sh dl la cp on pr ca sc cr cc rp lk co sg st tm ro ep ea mg cs so n m (nI i) := by
    intro n
    induction n with
    | zero => intro i m _ h; omega
    | succ n ih =>
      intro i m hi hn hm
      refine pk_le 6 i (fun hg => h m (fun t ht => ?_)) (fun hl => ⟨vp_in_nI hl (by omega), vp_in_nI hb (by omega), ?_⟩)
      · rw [hm t ht]
        exact decide_eq_decide.mpr ⟨fun z => z.2, fun z => ⟨by omega, z⟩⟩
      · rw [nI_clamp (by omega), nI_clamp (by omega)]
        by_cases q : cr i = cr b
        · refine br_t q (nm_e (nm_r (nI_1 i) (ih (i + 1) _ (by omega) (by omega) (fun t ht => ?_))))
          rw [zb_bor m (by omega) (by omega), hm t ht, ← Bool.decide_or]
          refine decide_eq_decide.mpr ⟨fun z => ?_, fun z => ?_⟩
          · rcases z with z | z
            · exact ⟨by omega, z.2⟩
            · subst z; exact ⟨by omega, q⟩
          · by_cases e : t = i
            · exact Or.inr e
            · exact Or.inl ⟨by omega, z.2⟩
        · refine br_f q (nm_r (nI_1 i) (ih (i + 1) _ (by omega) (by omega) (fun t ht => ?_)))
          rw [hm t ht]
          refine decide_eq_decide.mpr ⟨fun z => ⟨by omega, z.2⟩, fun z => ⟨?_, z.2⟩⟩
          by_cases e : t = i
          · subst e; exact absurd z.2 q
          · omega
  exact Exists.intro 7 (l 7 0 0 (by omega) (by omega) (fun t _ => by rw [b_0, decide_eq_false (by omega)]))
end
/-- the bridges in b's component -/
def zb_cq (on pr lk co sg : Nat → Int32) (b t : Nat) : Bool := decide (zb_K on pr lk co sg 6 t / 512 = zb_K on pr lk co sg 6 b / 512)
def zb_gc (P Q : Nat → Bool) (x : Int32) : Nat → Int32 → Int32 := fun t v => if (P t || Q t) = true then x else v
def zb_gs (l : Int32) (P Q : Nat → Bool) (x : Int32) (i : Nat) (sc : Nat → Int32) : Nat → Int32 := if l = 0 then sc else zb_pw i (zb_gc P Q x) sc
section
variable {wt rt sh dl la cp : Int32} {on pr ca sc cr cc rp lk co sg st tm ro ep ea mg cs so ya di tc cb ev he fr : Nat → Int32}
theorem zb_CL_cq (hW : zb_WF on pr lk co sg) (hC : zb_CL on pr lk co sg cr cc ro) {b t : Nat} (hb : b < 6) (ht : t < 6) : decide (cr t = cr b) = zb_cq on pr lk co sg b t := by
  unfold zb_cq
  have h1 : zb_K on pr lk co sg 6 t < 65536 := zb_bf_lt (zb_WF_OK hW) 6 t ht
  have h2 : zb_K on pr lk co sg 6 b < 65536 := zb_bf_lt (zb_WF_OK hW) 6 b hb
  rw [(hC.1 t ht).1, (hC.1 b hb).1]
  exact decide_eq_decide.mpr (nI_eq (by omega) (by omega))
theorem zb_YD_cq (hW : zb_WF on pr lk co sg) (hD : zb_YD on lk co sg di) {b t : Nat} (hb : b < 6) (ht : t < 6) : (1000000 : Int32) ≤ di (6 * b + t) ↔ ¬ zb_cq on pr lk co sg b t = true := by
  rw [zb_YD_far hW hD hb ht, ← zb_YD_K hW hD hb, ← zb_YD_K hW hD ht]
  unfold zb_cq
  rw [decide_eq_true_iff]
  exact ⟨fun z y => z y.symm, fun z y => z y.symm⟩
theorem zx_short {post : SX → Prop} {m : Int32} {P : Nat → Bool} (hm : ∀ t, t < 6 → bt m t = P t) (h : post (wt, rt, sh, dl, la, cp, on, pr, ca, zb_pw 6 (fun t v => if P t = true then sh else v) sc, cr, cc, rp, lk, co, sg, st, tm, ro, ep, ea, mg, cs, so)) : wpX_shortenAgeing post (wt, rt, sh, dl, la, cp, on, pr, ca, sc, cr, cc, rp, lk, co, sg, st, tm, ro, ep, ea, mg, cs, so) m := by
  have l : ∀ n i, i ≤ 6 → 6 - i < n → wX_shortenAgeing_2 post m wt rt sh dl la cp n (nI i) on pr ca (zb_pw i (fun t v => if P t = true then sh else v) sc) cr cc rp lk co sg st tm ro ep ea mg cs so := by
    refine zb_loop (fun n i => wX_shortenAgeing_2 post m wt rt sh dl la cp n (nI i) on pr ca (zb_pw i (fun t v => if P t = true then sh else v) sc) cr cc rp lk co sg st tm ro ep ea mg cs so) 6 ?_ ?_
    · intro n
      exact br_t (nI_le (a := 6) (b := 6) (by omega) (by omega)) h
    · intro n i hi hw
      refine br_f (nI_ge (a := i) (b := 6) hi (by omega)) ?_
      by_cases q : P i = true
      · refine br_f (zb_bz1 (by omega) ((hm i hi).trans q)) ⟨vp_in_nI hi (by omega), nm_r (e' := zb_pw (i + 1) (fun t v => if P t = true then sh else v) sc) ?_ (nm_r (nI_1 i) hw)⟩
        rw [nI_clamp (by omega)]
        exact zb_pw_u (if_pos q).symm
      · refine br_t (zb_bz0 (by omega) (by rw [hm i hi]; exact q)) (nm_r (nI_1 i) ?_)
        rw [zb_pw_k (if_neg q)]
        exact hw
  have := l 7 0 (by omega) (by omega)
  rw [zb_pw0] at this
  exact Exists.intro 7 this
theorem zx_settle {post : SX → Prop} {b : Nat} {m l : Int32} {P : Nat → Bool} (hW : zb_WF on pr lk co sg) (hb : b < 6) (hm : ∀ t, t < 6 → bt m t = P t)
    (h : ∀ cr cc rp ro mg : Nat → Int32, zb_CL on pr lk co sg cr cc ro → post (wt, rt, sh, dl, la, cp, on, pr, zb_pw 6 (zb_gc P (zb_cq on pr lk co sg b) 0) ca, zb_gs l P (zb_cq on pr lk co sg b) sh 6 sc, cr, cc, rp, lk, co, sg, st, tm, ro, ep, ea, mg, cs, so)) : wpX_settle post (wt, rt, sh, dl, la, cp, on, pr, ca, sc, cr, cc, rp, lk, co, sg, st, tm, ro, ep, ea, mg, cs, so) (nI b) m l := by
  unfold wpX_settle
  dsimp only
  refine zx_el hW (fun cr cc rp ro mg hC => ?_)
  refine zx_comp hb (fun m2 hm2 => nm_e ?_)
  have hM : ∀ t, t < 6 → bt (m ||| m2) t = (P t || zb_cq on pr lk co sg b t) := fun t ht => by
    rw [b_or, hm t ht, hm2 t ht, zb_CL_cq hW hC hb ht]
  have h' := h cr cc rp ro mg hC
  have l2 : ∀ n i, i ≤ 6 → 6 - i < n → wX_settle_20 post l (m ||| m2) wt rt sh dl la cp n (nI i) on pr (zb_pw i (zb_gc P (zb_cq on pr lk co sg b) 0) ca) sc cr cc rp lk co sg st tm ro ep ea mg cs so := by
    refine zb_loop (fun n i => wX_settle_20 post l (m ||| m2) wt rt sh dl la cp n (nI i) on pr (zb_pw i (zb_gc P (zb_cq on pr lk co sg b) 0) ca) sc cr cc rp lk co sg st tm ro ep ea mg cs so) 6 ?_ ?_
    · intro n
      refine br_t (nI_le (a := 6) (b := 6) (by omega) (by omega)) ?_
      unfold zb_gs at h'
      by_cases z : l = 0
      · rw [if_pos z] at h'
        exact br_t z h'
      · rw [if_neg z] at h'
        exact br_f z (zx_short (P := fun t => P t || zb_cq on pr lk co sg b t) hM h')
    · intro n i hi hw
      refine br_f (nI_ge (a := i) (b := 6) hi (by omega)) ?_
      by_cases q : (P i || zb_cq on pr lk co sg b i) = true
      · refine br_f (zb_bz1 (by omega) ((hM i hi).trans q)) ⟨vp_in_nI hi (by omega), nm_r (e' := zb_pw (i + 1) (zb_gc P (zb_cq on pr lk co sg b) 0) ca) ?_ (nm_r (nI_1 i) hw)⟩
        rw [nI_clamp (by omega)]
        exact zb_pw_u (if_pos q).symm
      · refine br_t (zb_bz0 (by omega) (by rw [hM i hi]; exact q)) (nm_r (nI_1 i) ?_)
        rw [zb_pw_k (if_neg q)]
        exact hw
  have := l2 7 0 (by omega) (by omega)
  rw [zb_pw0] at this
  exact ⟨7, this⟩
end
end
section
/-! the reference's forget, before and after -/
section
variable {dl la cp wt rt sh : Int32} {on pr ca sc sg lk co st tm ep ya so cs di tc cb ev he fr : Nat → Int32} {post : SY → Prop}
theorem zy_forget {i : Nat} (hi : i < 24) (h : post (dl, la, cp, wt, rt, sh, on, pr, ca, sc, sg, lk, co, st, tm, zb_dp i 8 ep, ya, so, cs, di, tc, cb, ev, he, fr)) : wpY_forget post (dl, la, cp, wt, rt, sh, on, pr, ca, sc, sg, lk, co, st, tm, ep, ya, so, cs, di, tc, cb, ev, he, fr) (nI i) := by
  have l : ∀ n t, t ≤ 8 → 8 - t < n → wY_forget_2 post (nI i) dl la cp wt rt sh n (nI t) on pr ca sc sg lk co st tm (zb_dp i t ep) ya so cs di tc cb ev he fr := by
    refine zb_loop (fun n t => wY_forget_2 post (nI i) dl la cp wt rt sh n (nI t) on pr ca sc sg lk co st tm (zb_dp i t ep) ya so cs di tc cb ev he fr) 8 ?_ ?_
    · intro n
      exact br_t (nI_le (a := 8) (b := 8) (by omega) (by omega)) h
    · intro n t ht hw
      refine br_f (nI_ge (a := t) (b := 8) ht (by omega)) ⟨by decide, nm_r (e' := nI (8 * (i / 4) + t)) (by rw [zb_dv4 (by omega), zb_ix8]) ⟨vp_in_nI (by omega) (by omega), by decide, ?_⟩⟩
      rw [nI_clamp (by omega), zb_dp_at, zb_rm4 (by omega)]
      by_cases q : ep (8 * (i / 4) + t) = nI (i % 4)
      · exact br_t q ⟨vp_in_nI (by omega) (by omega), nm_r (zb_dp_s1 q) (nm_r (nI_1 t) hw)⟩
      · refine br_f q (nm_r (nI_1 t) ?_)
        rw [zb_dp_s0 q]
        exact hw
  have := l 9 0 (by omega) (by omega)
  rw [zb_dp0] at this
  exact Exists.intro 9 this
theorem zy_before {b : Nat} (hW : zb_WF on pr lk co sg) (hb : b < 6) (h : ∀ di tc : Nat → Int32, zb_YD on lk co sg di → (∀ t, t < 6 → tc t = if zb_cq on pr lk co sg b t = true then 1 else 0) → post (dl, la, cp, wt, rt, sh, on, pr, ca, sc, sg, lk, co, st, tm, ep, ya, so, cs, di, tc, cb, ev, he, fr)) : wpY_before post (dl, la, cp, wt, rt, sh, on, pr, ca, sc, sg, lk, co, st, tm, ep, ya, so, cs, di, tc, cb, ev, he, fr) (nI b) := by
  unfold wpY_before
  dsimp only
  refine zy_ms hW (fun di d hd hF => ?_)
  have hD : zb_YD on lk co sg di := ⟨d, hd, hF⟩
  have l : ∀ n i tc, i ≤ 6 → 6 - i < n → (∀ t, t < i → tc t = if zb_cq on pr lk co sg b t = true then 1 else 0) → wY_before_6 post (nI b) dl la cp wt rt sh n (nI i) on pr ca sc sg lk co st tm ep ya so cs di tc cb ev he fr := by
    intro n
    induction n with
    | zero => intro i tc _ h; omega
    | succ n ih =>
      intro i tc hi hn ht
      refine pk_le 6 i (fun hg => h di tc hD (fun t h6 => ht t (by omega))) (fun hl => ?_)
      rw [zb_ix6, nI_clamp (by omega)]
      refine ⟨vp_in_nI (by omega) (by omega), ?_⟩
      by_cases q : zb_cq on pr lk co sg b i = true
      · refine br_f (fun z => (zb_YD_cq hW hD hb hl).mp z q) ⟨vp_in_nI hl (by omega), nm_e (nm_r (nI_1 i) (ih (i + 1) _ (by omega) (by omega) (zb_fill (F := fun t => if zb_cq on pr lk co sg b t = true then 1 else 0) (by omega) ht ?_)))⟩
        exact (if_pos q).symm
      · refine br_t ((zb_YD_cq hW hD hb hl).mpr q) ⟨vp_in_nI hl (by omega), nm_e (nm_r (nI_1 i) (ih (i + 1) _ (by omega) (by omega) (zb_fill (F := fun t => if zb_cq on pr lk co sg b t = true then 1 else 0) (by omega) ht ?_)))⟩
        exact (if_neg q).symm
  exact ⟨7, l 7 0 tc (by omega) (by omega) (fun t ht => absurd ht (by omega))⟩
theorem zy_af85 {b : Nat} {l : Int32} {P : Nat → Bool} (hW : zb_WF on pr lk co sg) (hD : zb_YD on lk co sg di) (hb : b < 6) (ht : ∀ t, t < 6 → tc t = if P t = true then 1 else 0)
    (h : post (dl, la, cp, wt, rt, sh, on, pr, zb_pw 6 (zb_gc P (zb_cq on pr lk co sg b) 0) ca, zb_gs l P (zb_cq on pr lk co sg b) sh 6 sc, sg, lk, co, st, tm, ep, ya, so, cs, di, tc, cb, ev, he, fr)) :
    ∀ n i, i ≤ 6 → 6 - i < n → wY_after_85 post (nI b) l dl la cp wt rt sh n (nI i) on pr (zb_pw i (zb_gc P (zb_cq on pr lk co sg b) 0) ca) (zb_gs l P (zb_cq on pr lk co sg b) sh i sc) sg lk co st tm ep ya so cs di tc cb ev he fr := by
  refine zb_loop (fun n i => wY_after_85 post (nI b) l dl la cp wt rt sh n (nI i) on pr (zb_pw i (zb_gc P (zb_cq on pr lk co sg b) 0) ca) (zb_gs l P (zb_cq on pr lk co sg b) sh i sc) sg lk co st tm ep ya so cs di tc cb ev he fr) 6 ?_ ?_
  · intro n
    exact br_t (nI_le (a := 6) (b := 6) (by omega) (by omega)) h
  · intro n i hi hw
    refine br_f (nI_ge (a := i) (b := 6) hi (by omega)) ⟨vp_in_nI hi (by omega), ?_⟩
    rw [nI_clamp (by omega), ht i hi]
    have h116 : (P i || zb_cq on pr lk co sg b i) = true → wY_after_116 post (wY_after_85 post (nI b) l dl la cp wt rt sh n) (nI b) l (nI i) dl la cp wt rt sh on pr (zb_pw i (zb_gc P (zb_cq on pr lk co sg b) 0) ca) (zb_gs l P (zb_cq on pr lk co sg b) sh i sc) sg lk co st tm ep ya so cs di tc cb ev he fr := fun q => by
      unfold wY_after_116
      rw [nI_clamp (by omega)]
      refine ⟨vp_in_nI hi (by omega), nm_r (e' := zb_pw (i + 1) (zb_gc P (zb_cq on pr lk co sg b) 0) ca) (zb_pw_u (if_pos q).symm) ?_⟩
      unfold zb_gs at hw ⊢
      by_cases z : l = 0
      · simp only [if_pos z] at hw ⊢
        exact br_t z (nm_r (nI_1 i) hw)
      · simp only [if_neg z] at hw ⊢
        exact br_f z ⟨vp_in_nI hi (by omega), nm_r (e' := zb_pw (i + 1) (zb_gc P (zb_cq on pr lk co sg b) sh) sc) (zb_pw_u (if_pos q).symm) (nm_r (nI_1 i) hw)⟩
    by_cases q1 : P i = true
    · rw [if_pos q1]
      exact br_f (by decide) (h116 (by rw [q1, Bool.true_or]))
    · rw [if_neg q1]
      refine br_t rfl ?_
      rw [zb_ix6, nI_clamp (by omega)]
      refine ⟨vp_in_nI (by omega) (by omega), ?_⟩
      by_cases q2 : zb_cq on pr lk co sg b i = true
      · exact br_f (fun z => (zb_YD_cq hW hD hb hi).mp z q2) (h116 (by rw [q2, Bool.or_true]))
      · refine br_t ((zb_YD_cq hW hD hb hi).mpr q2) (nm_r (nI_1 i) ?_)
        have q : ¬ (P i || zb_cq on pr lk co sg b i) = true := by
          rw [Bool.or_eq_true]
          exact fun z => z.elim q1 q2
        have e1 : zb_pw i (zb_gc P (zb_cq on pr lk co sg b) 0) ca = zb_pw (i + 1) (zb_gc P (zb_cq on pr lk co sg b) 0) ca := zb_pw_k (if_neg q)
        have e2 : zb_gs l P (zb_cq on pr lk co sg b) sh i sc = zb_gs l P (zb_cq on pr lk co sg b) sh (i + 1) sc := by
          unfold zb_gs
          rw [zb_pw_k (if_neg q)]
        rw [e1, e2]
        exact hw
theorem zy_after {b d : Nat} {P : Nat → Bool} (hW : zb_WF on pr lk co sg) (hb : b < 6) (hd : 1 ≤ d) (hV : zb_PV d (st, tm, ep, 0)) (ht : ∀ t, t < 6 → tc t = if P t = true then 1 else 0)
    (h : ∀ di : Nat → Int32, post (dl, la, cp, wt, rt, sh, on, pr, zb_pw 6 (zb_gc P (zb_cq on pr lk co sg b) 0) ca, zb_gs (zb_ri (zb_U on lk) b (st, tm, ep, 0) 4).2.2.2 P (zb_cq on pr lk co sg b) sh 6 sc, sg, lk, co, (zb_ri (zb_U on lk) b (st, tm, ep, 0) 4).1, (zb_ri (zb_U on lk) b (st, tm, ep, 0) 4).2.1, (zb_ri (zb_U on lk) b (st, tm, ep, 0) 4).2.2.1, ya, so, cs, di, tc, cb, ev, he, fr)) :
    wpY_after post (dl, la, cp, wt, rt, sh, on, pr, ca, sc, sg, lk, co, st, tm, ep, ya, so, cs, di, tc, cb, ev, he, fr) (nI b) := by
  have l6 : ∀ n p, p ≤ 4 → 4 - p < n → wY_after_6 post (nI b) n (zb_ri (zb_U on lk) b (st, tm, ep, 0) p).2.2.2 (nI (4 * b + p)) dl la cp wt rt sh on pr ca sc sg lk co ((zb_ri (zb_U on lk) b (st, tm, ep, 0) p).1) ((zb_ri (zb_U on lk) b (st, tm, ep, 0) p).2.1) ((zb_ri (zb_U on lk) b (st, tm, ep, 0) p).2.2.1) ya so cs di tc cb ev he fr := by
    refine zb_loop (fun n p => wY_after_6 post (nI b) n (zb_ri (zb_U on lk) b (st, tm, ep, 0) p).2.2.2 (nI (4 * b + p)) dl la cp wt rt sh on pr ca sc sg lk co ((zb_ri (zb_U on lk) b (st, tm, ep, 0) p).1) ((zb_ri (zb_U on lk) b (st, tm, ep, 0) p).2.1) ((zb_ri (zb_U on lk) b (st, tm, ep, 0) p).2.2.1) ya so cs di tc cb ev he fr) 4 ?_ ?_
    · intro n
      refine pk_le (4 * b + 4) (4 * b + 4) (fun _ => zy_ms hW (fun di d hdi hF => ?_)) (fun g => absurd g (by omega)) (zb_m4e b) rfl (by omega) (by omega)
      have := zy_af85 hW ⟨d, hdi, hF⟩ hb ht (h di) 7 0 (by omega) (by omega)
      rw [zb_pw0] at this
      unfold zb_gs at this
      rw [zb_pw0, ite_self] at this
      exact ⟨7, this⟩
    · intro n p hp hw
      have hV' := zb_ri_PV (U := zb_U on lk) hV hd hb p (by omega)
      have eq : zb_ri (zb_U on lk) b (st, tm, ep, 0) (p + 1) = zb_rf (zb_U on lk) (4 * b + p) (zb_ri (zb_U on lk) b (st, tm, ep, 0) p) := rfl
      rw [eq] at hw
      revert hw
      generalize zb_ri (zb_U on lk) b (st, tm, ep, 0) p = s at hV'
      intro hw
      obtain ⟨st, tm, ep, l⟩ := s
      obtain ⟨hS, hE, hl⟩ := hV'
      unfold zb_rf zb_rS zb_rT zb_rE zb_rL at hw
      dsimp only at hS hE hl hw ⊢
      have hj : 4 * b + p < 24 := by omega
      have hs := hS _ hj
      refine pk_le (4 * b + 4) (4 * b + p) (fun g => absurd g (by omega)) (fun _ => ?_) (zb_m4e b) rfl (by omega) (by omega)
      by_cases u : zb_U on lk (4 * b + p) = true
      · simp only [if_pos u] at hw
        refine zy_up1 hj u (br_f (by decide) ⟨vp_in_nI hj (by omega), ?_⟩)
        rw [nI_clamp (by omega)]
        by_cases z : st (4 * b + p) = 0
        · rw [if_pos z] at hw
          exact br_t z ⟨vp_in_nI hj (by omega), nm_e (nm_r (nI_1 _) hw)⟩
        · rw [if_neg z] at hw
          exact br_f z (nm_r (nI_1 _) hw)
      · simp only [if_neg u] at hw
        refine zy_up0 hj u (br_t rfl ⟨vp_in_nI hj (by omega), ?_⟩)
        rw [nI_clamp (by omega), hs.1]
        refine pk_lt (zb_N st (4 * b + p)) 3 (fun g => ?_) (fun g => ?_)
        · rw [if_pos g] at hw
          unfold wY_after_54
          rw [nI_clamp (by omega)]
          exact ⟨vp_in_nI hj (by omega), nm_e ⟨vp_in_nI hj (by omega), nm_e (zy_forget hj (nm_r (nI_1 _) hw))⟩⟩
        · rw [if_neg (by omega)] at hw
          unfold wY_after_54
          rw [nI_clamp (by omega)]
          exact ⟨vp_in_nI hj (by omega), nm_e ⟨vp_in_nI hj (by omega), nm_e (zy_forget hj (nm_r (nI_1 _) hw))⟩⟩
  unfold wpY_after
  dsimp only
  exact nm_r (zb_m4 b) ⟨5, l6 5 0 (by omega) (by omega)⟩
end
end
section
/-! the relation between the two states -/
def zb_INV (wt rt dl : Int32) (on pr lk co sg cr cc ro st tm ep so fr : Nat → Int32) (w d : Nat) : Prop :=
  zb_WF on pr lk co sg ∧ zb_CL on pr lk co sg cr cc ro ∧ (zb_PS st tm d ∧ zb_PE st ep) ∧ (∀ i, i < 24 → zb_PU on lk st i) ∧
  (wt = nI w ∧ rt = nI (w + 2 * d) ∧ dl = nI d ∧ 1 ≤ w ∧ w ≤ 18 ∧ 1 ≤ d ∧ d ≤ 8) ∧ (∀ t, t < 8 → so t = nI (zb_N so t) ∧ zb_N so t ≤ 8) ∧ fr 8 = 0
def i_Rel (_ : Nat) (u : SX) (v : SY) : Prop := ∃ (wt rt sh dl la cp : Int32) (on pr ca sc cr cc rp lk co sg st tm ro ep mg cs so ya di tc cb ev he fr : Nat → Int32) (w d : Nat), u = (wt, rt, sh, dl, la, cp, on, pr, ca, sc, cr, cc, rp, lk, co, sg, st, tm, ro, ep, zb_xA ep ya, mg, cs, so) ∧ v = (dl, la, cp, wt, rt, sh, on, pr, ca, sc, sg, lk, co, st, tm, ep, ya, so, cs, di, tc, cb, ev, he, fr) ∧ zb_INV wt rt dl on pr lk co sg cr cc ro st tm ep so fr w d
theorem i_up {k : Nat} {u : SX} {v : SY} (h : i_Rel k u v) : i_Rel (k + 4) u v := h
section
variable {wt rt sh dl la cp : Int32} {on pr ca sc cr cc rp lk co sg st tm ro ep ea mg cs so ya di tc cb ev he fr : Nat → Int32}
theorem zz_in {k : Nat} {w d : Nat} (h : zb_INV wt rt dl on pr lk co sg cr cc ro st tm ep so fr w d) : i_Rel k (wt, rt, sh, dl, la, cp, on, pr, ca, sc, cr, cc, rp, lk, co, sg, st, tm, ro, ep, zb_xA ep ya, mg, cs, so) (dl, la, cp, wt, rt, sh, on, pr, ca, sc, sg, lk, co, st, tm, ep, ya, so, cs, di, tc, cb, ev, he, fr) :=
  ⟨wt, rt, sh, dl, la, cp, on, pr, ca, sc, cr, cc, rp, lk, co, sg, st, tm, ro, ep, mg, cs, so, ya, di, tc, cb, ev, he, fr, w, d, rfl, rfl, h⟩
end
theorem zz_el {P : SX → SY → Prop} (h : ∀ (wt rt sh dl la cp : Int32) (on pr ca sc cr cc rp lk co sg st tm ro ep mg cs so ya di tc cb ev he fr : Nat → Int32) (w d : Nat), zb_INV wt rt dl on pr lk co sg cr cc ro st tm ep so fr w d → P (wt, rt, sh, dl, la, cp, on, pr, ca, sc, cr, cc, rp, lk, co, sg, st, tm, ro, ep, zb_xA ep ya, mg, cs, so) (dl, la, cp, wt, rt, sh, on, pr, ca, sc, sg, lk, co, st, tm, ep, ya, so, cs, di, tc, cb, ev, he, fr)) {k : Nat} {u : SX} {v : SY} (I : i_Rel k u v) : P u v :=
  Exists.elim I fun wt I => Exists.elim I fun rt I => Exists.elim I fun sh I => Exists.elim I fun dl I => Exists.elim I fun la I => Exists.elim I fun cp I => Exists.elim I fun on I => Exists.elim I fun pr I => Exists.elim I fun ca I => Exists.elim I fun sc I => Exists.elim I fun cr I => Exists.elim I fun cc I => Exists.elim I fun rp I => Exists.elim I fun lk I => Exists.elim I fun co I => Exists.elim I fun sg I => Exists.elim I fun st I => Exists.elim I fun tm I => Exists.elim I fun ro I => Exists.elim I fun ep I => Exists.elim I fun mg I => Exists.elim I fun cs I => Exists.elim I fun so I => Exists.elim I fun ya I => Exists.elim I fun di I => Exists.elim I fun tc I => Exists.elim I fun cb I => Exists.elim I fun ev I => Exists.elim I fun he I => Exists.elim I fun fr I => Exists.elim I fun w I => Exists.elim I fun d I => by rw [I.1, I.2.1]; exact h wt rt sh dl la cp on pr ca sc cr cc rp lk co sg st tm ro ep mg cs so ya di tc cb ev he fr w d I.2.2
end
section
/-! range checks, questions, place -/
theorem zb_ix (x : Int32) {n : Nat} (hn : n < 2 ^ 31) : (x < 0 ∨ nI n ≤ x) ∨ ∃ j : Nat, j < n ∧ x = nI j := by
  rcases pk_ix x hn with h | h | h
  · exact Or.inl (Or.inl h)
  · exact Or.inl (Or.inr h)
  · exact Or.inr h
section
variable {wt rt sh dl la cp : Int32} {on pr ca sc cr cc rp lk co sg st tm ro ep ea mg cs so ya di tc cb ev he fr : Nat → Int32} {post : Int32 → Prop}
theorem zx_br1 {b : Nat} (hb : b < 6) (h : post 1) : wpX_isBridge post (wt, rt, sh, dl, la, cp, on, pr, ca, sc, cr, cc, rp, lk, co, sg, st, tm, ro, ep, ea, mg, cs, so) (nI b) := br_f (nI_pos (by omega)) (br_f (nI_ge (b := 6) hb (by omega)) h)
theorem zx_br0 {x : Int32} (hx : x < 0 ∨ nI 6 ≤ x) (h : post 0) : wpX_isBridge post (wt, rt, sh, dl, la, cp, on, pr, ca, sc, cr, cc, rp, lk, co, sg, st, tm, ro, ep, ea, mg, cs, so) x := by
  by_cases z : x < 0
  · exact br_t z h
  · exact br_f z (br_t (hx.resolve_left z) h)
theorem zx_sa1 {b : Nat} (hb : b < 8) (h : post 1) : wpX_isStation post (wt, rt, sh, dl, la, cp, on, pr, ca, sc, cr, cc, rp, lk, co, sg, st, tm, ro, ep, ea, mg, cs, so) (nI b) := br_f (nI_pos (by omega)) (br_f (nI_ge (b := 8) hb (by omega)) h)
theorem zx_sa0 {x : Int32} (hx : x < 0 ∨ nI 8 ≤ x) (h : post 0) : wpX_isStation post (wt, rt, sh, dl, la, cp, on, pr, ca, sc, cr, cc, rp, lk, co, sg, st, tm, ro, ep, ea, mg, cs, so) x := by
  by_cases z : x < 0
  · exact br_t z h
  · exact br_f z (br_t (hx.resolve_left z) h)
theorem zx_po1 {b p : Nat} (hb : b < 6) (hp : p < 4) (h : post 1) : wpX_isPort post (wt, rt, sh, dl, la, cp, on, pr, ca, sc, cr, cc, rp, lk, co, sg, st, tm, ro, ep, ea, mg, cs, so) (nI b) (nI p) :=
  br_f (nI_pos (by omega)) (br_f (nI_ge (b := 6) hb (by omega)) (br_f (nI_pos (by omega)) (br_f (nI_ge (b := 4) hp (by omega)) h)))
theorem zx_po0 {x y : Int32} (hx : x < 0 ∨ nI 6 ≤ x) (h : post 0) : wpX_isPort post (wt, rt, sh, dl, la, cp, on, pr, ca, sc, cr, cc, rp, lk, co, sg, st, tm, ro, ep, ea, mg, cs, so) x y := by
  by_cases z : x < 0
  · exact br_t z h
  · exact br_f z (br_t (hx.resolve_left z) h)
theorem zx_po0' {b : Nat} {y : Int32} (hb : b < 6) (hy : y < 0 ∨ nI 4 ≤ y) (h : post 0) : wpX_isPort post (wt, rt, sh, dl, la, cp, on, pr, ca, sc, cr, cc, rp, lk, co, sg, st, tm, ro, ep, ea, mg, cs, so) (nI b) y := by
  refine br_f (nI_pos (by omega)) (br_f (nI_ge (b := 6) hb (by omega)) ?_)
  by_cases z : y < 0
  · exact br_t z h
  · exact br_f z (br_t (hy.resolve_left z) h)
theorem zy_out0 {n m : Nat} (hn : n ≤ m) (hm : m < 2 ^ 31) (h : post 0) : wpY_out post (dl, la, cp, wt, rt, sh, on, pr, ca, sc, sg, lk, co, st, tm, ep, ya, so, cs, di, tc, cb, ev, he, fr) (nI n) (nI m) :=
  br_f (nI_pos (by omega)) (br_t (nI_le hn hm) h)
theorem zy_out1 {x : Int32} {m : Nat} (hm : m + 1 < 2 ^ 31) (hx : x < 0 ∨ nI (m + 1) ≤ x) (h : post 1) : wpY_out post (dl, la, cp, wt, rt, sh, on, pr, ca, sc, sg, lk, co, st, tm, ep, ya, so, cs, di, tc, cb, ev, he, fr) x (nI m) := by
  by_cases z : x < 0
  · exact br_t z h
  · refine br_f z (br_f (fun y => ?_) h)
    have h1 := hx.resolve_left z
    rw [Int32.le_iff_toInt_le, nI_toInt hm] at h1
    rw [Int32.le_iff_toInt_le, nI_toInt (by omega)] at y
    omega
end
theorem i_vc_calm {k : Nat} {u : SX} {v : SY} (I : i_Rel k u v) (hk : k + 4 ≤ 2052) (v1 : Int32) : wpX_calm (fun r => wpY_calm (fun r' => r' = r ∧ i_Rel (k + 4) u v) v v1) u v1 := by
  refine zz_el (P := fun u v => wpX_calm (fun r => wpY_calm (fun r' => r' = r ∧ i_Rel (k + 4) u v) v v1) u v1) ?_ I
  intro wt rt sh dl la cp on pr ca sc cr cc rp lk co sg st tm ro ep mg cs so ya di tc cb ev he fr w d hI
  have hR : i_Rel (k + 4) (wt, rt, sh, dl, la, cp, on, pr, ca, sc, cr, cc, rp, lk, co, sg, st, tm, ro, ep, zb_xA ep ya, mg, cs, so) (dl, la, cp, wt, rt, sh, on, pr, ca, sc, sg, lk, co, st, tm, ep, ya, so, cs, di, tc, cb, ev, he, fr) := zz_in hI
  unfold wpX_calm
  dsimp only
  rcases zb_ix v1 (n := 6) (by omega) with hx | ⟨b, hb, rfl⟩
  · refine zx_br0 hx (br_t rfl ?_)
    unfold wpY_calm
    dsimp only
    exact zy_out1 (m := 5) (by omega) hx (br_f (by decide) ⟨rfl, hR⟩)
  · refine zx_br1 hb (br_f (by decide) ⟨vp_in_nI hb (by omega), ?_⟩)
    unfold wpY_calm
    dsimp only
    exact zy_out0 (m := 5) (by omega) (by omega) (br_t rfl ⟨vp_in_nI hb (by omega), rfl, hR⟩)
theorem i_vc_shortLeft {k : Nat} {u : SX} {v : SY} (I : i_Rel k u v) (hk : k + 4 ≤ 2052) (v1 : Int32) : wpX_shortLeft (fun r => wpY_shortLeft (fun r' => r' = r ∧ i_Rel (k + 4) u v) v v1) u v1 := by
  refine zz_el (P := fun u v => wpX_shortLeft (fun r => wpY_shortLeft (fun r' => r' = r ∧ i_Rel (k + 4) u v) v v1) u v1) ?_ I
  intro wt rt sh dl la cp on pr ca sc cr cc rp lk co sg st tm ro ep mg cs so ya di tc cb ev he fr w d hI
  have hR : i_Rel (k + 4) (wt, rt, sh, dl, la, cp, on, pr, ca, sc, cr, cc, rp, lk, co, sg, st, tm, ro, ep, zb_xA ep ya, mg, cs, so) (dl, la, cp, wt, rt, sh, on, pr, ca, sc, sg, lk, co, st, tm, ep, ya, so, cs, di, tc, cb, ev, he, fr) := zz_in hI
  unfold wpX_shortLeft
  dsimp only
  rcases zb_ix v1 (n := 6) (by omega) with hx | ⟨b, hb, rfl⟩
  · refine zx_br0 hx (br_t rfl ?_)
    unfold wpY_shortLeft
    dsimp only
    exact zy_out1 (m := 5) (by omega) hx (br_f (by decide) ⟨rfl, hR⟩)
  · refine zx_br1 hb (br_f (by decide) ⟨vp_in_nI hb (by omega), ?_⟩)
    unfold wpY_shortLeft
    dsimp only
    exact zy_out0 (m := 5) (by omega) (by omega) (br_t rfl ⟨vp_in_nI hb (by omega), rfl, hR⟩)
theorem i_vc_stationSegment {k : Nat} {u : SX} {v : SY} (I : i_Rel k u v) (hk : k + 4 ≤ 2052) (v1 : Int32) : wpX_stationSegment (fun r => wpY_stationSegment (fun r' => r' = r ∧ i_Rel (k + 4) u v) v v1) u v1 := by
  refine zz_el (P := fun u v => wpX_stationSegment (fun r => wpY_stationSegment (fun r' => r' = r ∧ i_Rel (k + 4) u v) v v1) u v1) ?_ I
  intro wt rt sh dl la cp on pr ca sc cr cc rp lk co sg st tm ro ep mg cs so ya di tc cb ev he fr w d hI
  have hR : i_Rel (k + 4) (wt, rt, sh, dl, la, cp, on, pr, ca, sc, cr, cc, rp, lk, co, sg, st, tm, ro, ep, zb_xA ep ya, mg, cs, so) (dl, la, cp, wt, rt, sh, on, pr, ca, sc, sg, lk, co, st, tm, ep, ya, so, cs, di, tc, cb, ev, he, fr) := zz_in hI
  unfold wpX_stationSegment
  dsimp only
  rcases zb_ix v1 (n := 8) (by omega) with hx | ⟨b, hb, rfl⟩
  · refine zx_sa0 hx (br_t rfl ?_)
    unfold wpY_stationSegment
    dsimp only
    exact zy_out1 (m := 7) (by omega) hx (br_f (by decide) ⟨rfl, hR⟩)
  · refine zx_sa1 hb (br_f (by decide) ⟨vp_in_nI hb (by omega), ?_⟩)
    unfold wpY_stationSegment
    dsimp only
    exact zy_out0 (m := 7) (by omega) (by omega) (br_t rfl ⟨vp_in_nI hb (by omega), rfl, hR⟩)
theorem i_vc_crossed {k : Nat} {u : SX} {v : SY} (I : i_Rel k u v) (hk : k + 4 ≤ 2052) (v1 : Int32) : wpX_crossed (fun r => wpY_crossed (fun r' => r' = r ∧ i_Rel (k + 4) u v) v v1) u v1 := by
  refine zz_el (P := fun u v => wpX_crossed (fun r => wpY_crossed (fun r' => r' = r ∧ i_Rel (k + 4) u v) v v1) u v1) ?_ I
  intro wt rt sh dl la cp on pr ca sc cr cc rp lk co sg st tm ro ep mg cs so ya di tc cb ev he fr w d hI
  have hR : i_Rel (k + 4) (wt, rt, sh, dl, la, cp, on, pr, ca, sc, cr, cc, rp, lk, co, sg, st, tm, ro, ep, zb_xA ep ya, mg, cs, so) (dl, la, cp, wt, rt, sh, on, pr, ca, sc, sg, lk, co, st, tm, ep, ya, so, cs, di, tc, cb, ev, he, fr) := zz_in hI
  unfold wpX_crossed
  dsimp only
  rcases zb_ix v1 (n := 8) (by omega) with hx | ⟨b, hb, rfl⟩
  · have hY : wpY_crossed (fun r' => r' = -1 ∧ i_Rel (k + 4) (wt, rt, sh, dl, la, cp, on, pr, ca, sc, cr, cc, rp, lk, co, sg, st, tm, ro, ep, zb_xA ep ya, mg, cs, so) (dl, la, cp, wt, rt, sh, on, pr, ca, sc, sg, lk, co, st, tm, ep, ya, so, cs, di, tc, cb, ev, he, fr)) (dl, la, cp, wt, rt, sh, on, pr, ca, sc, sg, lk, co, st, tm, ep, ya, so, cs, di, tc, cb, ev, he, fr) v1 := by
      unfold wpY_crossed
      dsimp only
      exact zy_out1 (m := 7) (by omega) hx (br_f (by decide) ⟨rfl, hR⟩)
    by_cases z : v1 < 0
    · exact br_t z hY
    · exact br_f z (br_f (fun y => absurd (hx.resolve_left z) (Int32.not_le.mpr y)) hY)
  · refine br_f (nI_pos (by omega)) (br_t (nI_lt (b := 8) hb (by omega)) ⟨vp_in_nI hb (by omega), ?_⟩)
    unfold wpY_crossed
    dsimp only
    exact zy_out0 (m := 7) (by omega) (by omega) (br_t rfl ⟨vp_in_nI hb (by omega), rfl, hR⟩)
theorem i_vc_bridgeInfo {k : Nat} {u : SX} {v : SY} (I : i_Rel k u v) (hk : k + 4 ≤ 2052) (v1 : Int32) : wpX_bridgeInfo (fun r => wpY_bridgeInfo (fun r' => r' = r ∧ i_Rel (k + 4) u v) v v1) u v1 := by
  refine zz_el (P := fun u v => wpX_bridgeInfo (fun r => wpY_bridgeInfo (fun r' => r' = r ∧ i_Rel (k + 4) u v) v v1) u v1) ?_ I
  intro wt rt sh dl la cp on pr ca sc cr cc rp lk co sg st tm ro ep mg cs so ya di tc cb ev he fr w d hI
  have hR : i_Rel (k + 4) (wt, rt, sh, dl, la, cp, on, pr, ca, sc, cr, cc, rp, lk, co, sg, st, tm, ro, ep, zb_xA ep ya, mg, cs, so) (dl, la, cp, wt, rt, sh, on, pr, ca, sc, sg, lk, co, st, tm, ep, ya, so, cs, di, tc, cb, ev, he, fr) := zz_in hI
  unfold wpX_bridgeInfo
  dsimp only
  rcases zb_ix v1 (n := 6) (by omega) with hx | ⟨b, hb, rfl⟩
  · refine zx_br0 hx (br_t rfl ?_)
    unfold wpY_bridgeInfo
    dsimp only
    exact zy_out1 (m := 5) (by omega) hx (br_f (by decide) ⟨rfl, hR⟩)
  · refine zx_br1 hb (br_f (by decide) ⟨vp_in_nI hb (by omega), nm_e ⟨vp_in_nI hb (by omega), ?_⟩⟩)
    have hY : ∀ r, (on (nI b).toNatClampNeg = 0 → r = pr (nI b).toNatClampNeg + 16) → (¬ on (nI b).toNatClampNeg = 0 → r = pr (nI b).toNatClampNeg) → wpY_bridgeInfo (fun r' => r' = r ∧ i_Rel (k + 4) (wt, rt, sh, dl, la, cp, on, pr, ca, sc, cr, cc, rp, lk, co, sg, st, tm, ro, ep, zb_xA ep ya, mg, cs, so) (dl, la, cp, wt, rt, sh, on, pr, ca, sc, sg, lk, co, st, tm, ep, ya, so, cs, di, tc, cb, ev, he, fr)) (dl, la, cp, wt, rt, sh, on, pr, ca, sc, sg, lk, co, st, tm, ep, ya, so, cs, di, tc, cb, ev, he, fr) (nI b) := fun r h1 h2 => by
      unfold wpY_bridgeInfo
      dsimp only
      exact zy_out0 (m := 5) (by omega) (by omega) (br_t rfl ⟨vp_in_nI hb (by omega), br_c (fun z => ⟨vp_in_nI hb (by omega), (h1 z).symm, hR⟩) (fun z => ⟨vp_in_nI hb (by omega), (h2 z).symm, hR⟩)⟩)
    exact br_c (fun z => nm_e (hY _ (fun _ => rfl) (fun z' => absurd z z'))) (fun z => hY _ (fun z' => absurd z' z) (fun _ => rfl))
theorem i_vc_portState {k : Nat} {u : SX} {v : SY} (I : i_Rel k u v) (hk : k + 4 ≤ 2052) (v1 : Int32) (v2 : Int32) : wpX_portState (fun r => wpY_portState (fun r' => r' = r ∧ i_Rel (k + 4) u v) v v1 v2) u v1 v2 := by
  refine zz_el (P := fun u v => wpX_portState (fun r => wpY_portState (fun r' => r' = r ∧ i_Rel (k + 4) u v) v v1 v2) u v1 v2) ?_ I
  intro wt rt sh dl la cp on pr ca sc cr cc rp lk co sg st tm ro ep mg cs so ya di tc cb ev he fr w d hI
  have hR : i_Rel (k + 4) (wt, rt, sh, dl, la, cp, on, pr, ca, sc, cr, cc, rp, lk, co, sg, st, tm, ro, ep, zb_xA ep ya, mg, cs, so) (dl, la, cp, wt, rt, sh, on, pr, ca, sc, sg, lk, co, st, tm, ep, ya, so, cs, di, tc, cb, ev, he, fr) := zz_in hI
  unfold wpX_portState
  dsimp only
  rcases zb_ix v1 (n := 6) (by omega) with hx | ⟨b, hb, rfl⟩
  · refine zx_po0 hx (br_t rfl ?_)
    unfold wpY_portState
    dsimp only
    exact zy_out1 (m := 5) (by omega) hx (br_f (by decide) ⟨rfl, hR⟩)
  · rcases zb_ix v2 (n := 4) (by omega) with hx | ⟨p, hp, rfl⟩
    · refine zx_po0' hb hx (br_t rfl ?_)
      unfold wpY_portState
      dsimp only
      exact zy_out0 (m := 5) (by omega) (by omega) (br_t rfl (zy_out1 (m := 3) (by omega) hx (br_f (by decide) ⟨rfl, hR⟩)))
    · have hi : vp_in (nI b * 4 + nI p) 24 := by rw [zb_ix4]; exact vp_in_nI (by omega) (by omega)
      refine zx_po1 hb hp (br_f (by decide) ⟨hi, ?_⟩)
      unfold wpY_portState
      dsimp only
      exact zy_out0 (m := 5) (by omega) (by omega) (br_t rfl (zy_out0 (m := 3) (by omega) (by omega) (br_t rfl ⟨hi, rfl, hR⟩)))
theorem i_vc_portTimer {k : Nat} {u : SX} {v : SY} (I : i_Rel k u v) (hk : k + 4 ≤ 2052) (v1 : Int32) (v2 : Int32) : wpX_portTimer (fun r => wpY_portTimer (fun r' => r' = r ∧ i_Rel (k + 4) u v) v v1 v2) u v1 v2 := by
  refine zz_el (P := fun u v => wpX_portTimer (fun r => wpY_portTimer (fun r' => r' = r ∧ i_Rel (k + 4) u v) v v1 v2) u v1 v2) ?_ I
  intro wt rt sh dl la cp on pr ca sc cr cc rp lk co sg st tm ro ep mg cs so ya di tc cb ev he fr w d hI
  have hR : i_Rel (k + 4) (wt, rt, sh, dl, la, cp, on, pr, ca, sc, cr, cc, rp, lk, co, sg, st, tm, ro, ep, zb_xA ep ya, mg, cs, so) (dl, la, cp, wt, rt, sh, on, pr, ca, sc, sg, lk, co, st, tm, ep, ya, so, cs, di, tc, cb, ev, he, fr) := zz_in hI
  unfold wpX_portTimer
  dsimp only
  rcases zb_ix v1 (n := 6) (by omega) with hx | ⟨b, hb, rfl⟩
  · refine zx_po0 hx (br_t rfl ?_)
    unfold wpY_portTimer
    dsimp only
    exact zy_out1 (m := 5) (by omega) hx (br_f (by decide) ⟨rfl, hR⟩)
  · rcases zb_ix v2 (n := 4) (by omega) with hx | ⟨p, hp, rfl⟩
    · refine zx_po0' hb hx (br_t rfl ?_)
      unfold wpY_portTimer
      dsimp only
      exact zy_out0 (m := 5) (by omega) (by omega) (br_t rfl (zy_out1 (m := 3) (by omega) hx (br_f (by decide) ⟨rfl, hR⟩)))
    · have hi : vp_in (nI b * 4 + nI p) 24 := by rw [zb_ix4]; exact vp_in_nI (by omega) (by omega)
      refine zx_po1 hb hp (br_f (by decide) ⟨hi, ?_⟩)
      unfold wpY_portTimer
      dsimp only
      exact zy_out0 (m := 5) (by omega) (by omega) (br_t rfl (zy_out0 (m := 3) (by omega) (by omega) (br_t rfl ⟨hi, rfl, hR⟩)))
theorem i_vc_portInfo {k : Nat} {u : SX} {v : SY} (I : i_Rel k u v) (hk : k + 4 ≤ 2052) (v1 : Int32) (v2 : Int32) : wpX_portInfo (fun r => wpY_portInfo (fun r' => r' = r ∧ i_Rel (k + 4) u v) v v1 v2) u v1 v2 := by
  refine zz_el (P := fun u v => wpX_portInfo (fun r => wpY_portInfo (fun r' => r' = r ∧ i_Rel (k + 4) u v) v v1 v2) u v1 v2) ?_ I
  intro wt rt sh dl la cp on pr ca sc cr cc rp lk co sg st tm ro ep mg cs so ya di tc cb ev he fr w d hI
  have hR : i_Rel (k + 4) (wt, rt, sh, dl, la, cp, on, pr, ca, sc, cr, cc, rp, lk, co, sg, st, tm, ro, ep, zb_xA ep ya, mg, cs, so) (dl, la, cp, wt, rt, sh, on, pr, ca, sc, sg, lk, co, st, tm, ep, ya, so, cs, di, tc, cb, ev, he, fr) := zz_in hI
  unfold wpX_portInfo
  dsimp only
  rcases zb_ix v1 (n := 6) (by omega) with hx | ⟨b, hb, rfl⟩
  · refine zx_po0 hx (br_t rfl ?_)
    unfold wpY_portInfo
    dsimp only
    exact zy_out1 (m := 5) (by omega) hx (br_f (by decide) ⟨rfl, hR⟩)
  · rcases zb_ix v2 (n := 4) (by omega) with hx | ⟨p, hp, rfl⟩
    · refine zx_po0' hb hx (br_t rfl ?_)
      unfold wpY_portInfo
      dsimp only
      exact zy_out0 (m := 5) (by omega) (by omega) (br_t rfl (zy_out1 (m := 3) (by omega) hx (br_f (by decide) ⟨rfl, hR⟩)))
    · have hi : vp_in (nI b * 4 + nI p) 24 := by rw [zb_ix4]; exact vp_in_nI (by omega) (by omega)
      have hY : ∀ r, (lk (nI b * 4 + nI p).toNatClampNeg = 0 → r = co (nI b * 4 + nI p).toNatClampNeg * 32 + 0 + sg (nI b * 4 + nI p).toNatClampNeg) → (¬ lk (nI b * 4 + nI p).toNatClampNeg = 0 → r = co (nI b * 4 + nI p).toNatClampNeg * 32 + 16 + sg (nI b * 4 + nI p).toNatClampNeg) → wpY_portInfo (fun r' => r' = r ∧ i_Rel (k + 4) (wt, rt, sh, dl, la, cp, on, pr, ca, sc, cr, cc, rp, lk, co, sg, st, tm, ro, ep, zb_xA ep ya, mg, cs, so) (dl, la, cp, wt, rt, sh, on, pr, ca, sc, sg, lk, co, st, tm, ep, ya, so, cs, di, tc, cb, ev, he, fr)) (dl, la, cp, wt, rt, sh, on, pr, ca, sc, sg, lk, co, st, tm, ep, ya, so, cs, di, tc, cb, ev, he, fr) (nI b) (nI p) := fun r h1 h2 => by
        unfold wpY_portInfo
        dsimp only
        exact zy_out0 (m := 5) (by omega) (by omega) (br_t rfl (zy_out0 (m := 3) (by omega) (by omega) (br_t rfl (nm_e ⟨hi, hi, br_c (fun z => ⟨hi, (h1 z).symm, hR⟩) (fun z => ⟨hi, (h2 z).symm, hR⟩)⟩))))
      refine zx_po1 hb hp (br_f (by decide) (nm_e ⟨hi, hi, nm_e ⟨hi, br_c (fun z => hY _ (fun _ => ?_) (fun z' => absurd z z')) (fun z => nm_e (hY _ (fun z' => absurd z' z) (fun _ => ?_)))⟩⟩))
      · rw [Int32.add_zero]
      · rw [Int32.add_assoc, Int32.add_assoc, Int32.add_comm (sg _) 16]
theorem i_vc_learnedPort {k : Nat} {u : SX} {v : SY} (I : i_Rel k u v) (hk : k + 4 ≤ 2052) (v1 : Int32) (v2 : Int32) : wpX_learnedPort (fun r => wpY_learnedPort (fun r' => r' = r ∧ i_Rel (k + 4) u v) v v1 v2) u v1 v2 := by
  refine zz_el (P := fun u v => wpX_learnedPort (fun r => wpY_learnedPort (fun r' => r' = r ∧ i_Rel (k + 4) u v) v v1 v2) u v1 v2) ?_ I
  intro wt rt sh dl la cp on pr ca sc cr cc rp lk co sg st tm ro ep mg cs so ya di tc cb ev he fr w d hI
  have hR : i_Rel (k + 4) (wt, rt, sh, dl, la, cp, on, pr, ca, sc, cr, cc, rp, lk, co, sg, st, tm, ro, ep, zb_xA ep ya, mg, cs, so) (dl, la, cp, wt, rt, sh, on, pr, ca, sc, sg, lk, co, st, tm, ep, ya, so, cs, di, tc, cb, ev, he, fr) := zz_in hI
  unfold wpX_learnedPort
  dsimp only
  rcases zb_ix v1 (n := 6) (by omega) with hx | ⟨b, hb, rfl⟩
  · refine zx_br0 hx (br_t rfl ?_)
    unfold wpY_learnedPort
    dsimp only
    exact zy_out1 (m := 5) (by omega) hx (br_f (by decide) ⟨rfl, hR⟩)
  · rcases zb_ix v2 (n := 8) (by omega) with hx | ⟨p, hp, rfl⟩
    · refine zx_br1 hb (br_f (by decide) (zx_sa0 hx (br_t rfl ?_)))
      unfold wpY_learnedPort
      dsimp only
      exact zy_out0 (m := 5) (by omega) (by omega) (br_t rfl (zy_out1 (m := 7) (by omega) hx (br_f (by decide) ⟨rfl, hR⟩)))
    · have hi : vp_in (nI b * 8 + nI p) 48 := by rw [zb_ix8]; exact vp_in_nI (by omega) (by omega)
      refine zx_br1 hb (br_f (by decide) (zx_sa1 hp (br_f (by decide) ⟨hi, ?_⟩)))
      unfold wpY_learnedPort
      dsimp only
      exact zy_out0 (m := 5) (by omega) (by omega) (br_t rfl (zy_out0 (m := 7) (by omega) (by omega) (br_t rfl ⟨hi, rfl, hR⟩)))
theorem i_vc_learnedAge {k : Nat} {u : SX} {v : SY} (I : i_Rel k u v) (hk : k + 4 ≤ 2052) (v1 : Int32) (v2 : Int32) : wpX_learnedAge (fun r => wpY_learnedAge (fun r' => r' = r ∧ i_Rel (k + 4) u v) v v1 v2) u v1 v2 := by
  refine zz_el (P := fun u v => wpX_learnedAge (fun r => wpY_learnedAge (fun r' => r' = r ∧ i_Rel (k + 4) u v) v v1 v2) u v1 v2) ?_ I
  intro wt rt sh dl la cp on pr ca sc cr cc rp lk co sg st tm ro ep mg cs so ya di tc cb ev he fr w d hI
  have hR : i_Rel (k + 4) (wt, rt, sh, dl, la, cp, on, pr, ca, sc, cr, cc, rp, lk, co, sg, st, tm, ro, ep, zb_xA ep ya, mg, cs, so) (dl, la, cp, wt, rt, sh, on, pr, ca, sc, sg, lk, co, st, tm, ep, ya, so, cs, di, tc, cb, ev, he, fr) := zz_in hI
  unfold wpX_learnedAge
  dsimp only
  rcases zb_ix v1 (n := 6) (by omega) with hx | ⟨b, hb, rfl⟩
  · refine zx_br0 hx (br_t rfl ?_)
    unfold wpY_learnedAge
    dsimp only
    exact zy_out1 (m := 5) (by omega) hx (br_f (by decide) ⟨rfl, hR⟩)
  · rcases zb_ix v2 (n := 8) (by omega) with hx | ⟨p, hp, rfl⟩
    · refine zx_br1 hb (br_f (by decide) (zx_sa0 hx (br_t rfl ?_)))
      unfold wpY_learnedAge
      dsimp only
      exact zy_out0 (m := 5) (by omega) (by omega) (br_t rfl (zy_out1 (m := 7) (by omega) hx (br_f (by decide) ⟨rfl, hR⟩)))
    · have hi : vp_in (nI b * 8 + nI p) 48 := by rw [zb_ix8]; exact vp_in_nI (by omega) (by omega)
      refine zx_br1 hb (br_f (by decide) (zx_sa1 hp (br_f (by decide) ⟨hi, ?_⟩)))
      unfold wpY_learnedAge
      dsimp only
      exact zy_out0 (m := 5) (by omega) (by omega) (br_t rfl (zy_out0 (m := 7) (by omega) (by omega) (br_t rfl ⟨hi, br_c (fun z => ⟨(zb_xA1 z).symm, hR⟩) (fun z => ⟨hi, (zb_xA0 z).symm, hR⟩)⟩)))
end
section
/-! questions about roots and roles; place -/
theorem zb_nle {x : Int32} {m : Nat} (hm : m + 1 < 2 ^ 31) (h : nI (m + 1) ≤ x) : ¬ x ≤ nI m := by
  intro y
  rw [Int32.le_iff_toInt_le, nI_toInt hm] at h
  rw [Int32.le_iff_toInt_le, nI_toInt (by omega)] at y
  omega
theorem i_vc_rootOf {k : Nat} {u : SX} {v : SY} (I : i_Rel k u v) (hk : k + 4 ≤ 2052) (v1 : Int32) : wpX_rootOf (fun r => wpY_rootOf (fun r' v' => r' = r ∧ i_Rel (k + 4) u v') v v1) u v1 := by
  refine zz_el (P := fun u v => wpX_rootOf (fun r => wpY_rootOf (fun r' v' => r' = r ∧ i_Rel (k + 4) u v') v v1) u v1) ?_ I
  intro wt rt sh dl la cp on pr ca sc cr cc rp lk co sg st tm ro ep mg cs so ya di tc cb ev he fr w d hI
  have hR : ∀ di : Nat → Int32, i_Rel (k + 4) (wt, rt, sh, dl, la, cp, on, pr, ca, sc, cr, cc, rp, lk, co, sg, st, tm, ro, ep, zb_xA ep ya, mg, cs, so) (dl, la, cp, wt, rt, sh, on, pr, ca, sc, sg, lk, co, st, tm, ep, ya, so, cs, di, tc, cb, ev, he, fr) := fun di => zz_in hI
  have hW := hI.1
  have hC := hI.2.1
  unfold wpX_rootOf
  dsimp only
  rcases zb_ix v1 (n := 6) (by omega) with hx | ⟨b, hb, rfl⟩
  · refine zx_br0 hx (br_t rfl ?_)
    unfold wpY_rootOf
    dsimp only
    exact zy_out1 (m := 5) (by omega) hx (br_f (by decide) ⟨rfl, hR di⟩)
  · refine zx_br1 hb (br_f (by decide) ⟨vp_in_nI hb (by omega), br_c (fun z => ?_) (fun z => ⟨vp_in_nI hb (by omega), br_c (fun z2 => ⟨vp_in_nI hb (by omega), ?_⟩) (fun z2 => ?_)⟩)⟩)
    · unfold wpY_rootOf
      dsimp only
      exact zy_out0 (m := 5) (by omega) (by omega) (br_t rfl ⟨vp_in_nI hb (by omega), br_t z ⟨rfl, hR di⟩⟩)
    · unfold wpY_rootOf
      dsimp only
      refine zy_out0 (m := 5) (by omega) (by omega) (br_t rfl ⟨vp_in_nI hb (by omega), br_f z ⟨vp_in_nI hb (by omega), br_t z2 (zy_ms hW (fun di d' hd hF => ?_))⟩⟩)
      have hD : zb_YD on lk co sg di := ⟨d', hd, hF⟩
      refine zy_best hW hD hb (fun r hr er => ⟨?_, hR di⟩)
      have h1 := (zb_WF_pr hW hr).2
      have h2 := (hC.1 b hb).1
      have h3 : zb_K on pr lk co sg 6 b < 65536 := zb_bf_lt (zb_WF_OK hW) 6 b hb
      rw [nI_clamp (by omega), h2, zb_an7 (by omega), zb_YD_K hW hD hb, ← er, h1.2]
    · unfold wpY_rootOf
      dsimp only
      exact zy_out0 (m := 5) (by omega) (by omega) (br_t rfl ⟨vp_in_nI hb (by omega), br_f z ⟨vp_in_nI hb (by omega), br_f z2 ⟨rfl, hR di⟩⟩⟩)
theorem i_vc_rootCost {k : Nat} {u : SX} {v : SY} (I : i_Rel k u v) (hk : k + 4 ≤ 2052) (v1 : Int32) : wpX_rootCost (fun r => wpY_rootCost (fun r' v' => r' = r ∧ i_Rel (k + 4) u v') v v1) u v1 := by
  refine zz_el (P := fun u v => wpX_rootCost (fun r => wpY_rootCost (fun r' v' => r' = r ∧ i_Rel (k + 4) u v') v v1) u v1) ?_ I
  intro wt rt sh dl la cp on pr ca sc cr cc rp lk co sg st tm ro ep mg cs so ya di tc cb ev he fr w d hI
  have hR : ∀ di : Nat → Int32, i_Rel (k + 4) (wt, rt, sh, dl, la, cp, on, pr, ca, sc, cr, cc, rp, lk, co, sg, st, tm, ro, ep, zb_xA ep ya, mg, cs, so) (dl, la, cp, wt, rt, sh, on, pr, ca, sc, sg, lk, co, st, tm, ep, ya, so, cs, di, tc, cb, ev, he, fr) := fun di => zz_in hI
  have hW := hI.1
  have hC := hI.2.1
  unfold wpX_rootCost
  dsimp only
  rcases zb_ix v1 (n := 6) (by omega) with hx | ⟨b, hb, rfl⟩
  · refine zx_br0 hx (br_t rfl ?_)
    unfold wpY_rootCost
    dsimp only
    exact zy_out1 (m := 5) (by omega) hx (br_f (by decide) ⟨rfl, hR di⟩)
  · refine zx_br1 hb (br_f (by decide) ⟨vp_in_nI hb (by omega), br_c (fun z => ?_) (fun z => ⟨vp_in_nI hb (by omega), br_c (fun z2 => ⟨vp_in_nI hb (by omega), ?_⟩) (fun z2 => ?_)⟩)⟩)
    · unfold wpY_rootCost
      dsimp only
      exact zy_out0 (m := 5) (by omega) (by omega) (br_t rfl ⟨vp_in_nI hb (by omega), br_t z ⟨rfl, hR di⟩⟩)
    · unfold wpY_rootCost
      dsimp only
      refine zy_out0 (m := 5) (by omega) (by omega) (br_t rfl ⟨vp_in_nI hb (by omega), br_f z ⟨vp_in_nI hb (by omega), br_t z2 (zy_ms hW (fun di d' hd hF => ?_))⟩⟩)
      have hD : zb_YD on lk co sg di := ⟨d', hd, hF⟩
      refine zy_path hW hD hb ⟨?_, hR di⟩
      rw [nI_clamp (by omega), (hC.1 b hb).2, zb_YD_K hW hD hb]
    · unfold wpY_rootCost
      dsimp only
      exact zy_out0 (m := 5) (by omega) (by omega) (br_t rfl ⟨vp_in_nI hb (by omega), br_f z ⟨vp_in_nI hb (by omega), br_f z2 ⟨rfl, hR di⟩⟩⟩)
theorem i_vc_portRole {k : Nat} {u : SX} {v : SY} (I : i_Rel k u v) (hk : k + 4 ≤ 2052) (v1 : Int32) (v2 : Int32) : wpX_portRole (fun r => wpY_portRole (fun r' v' => r' = r ∧ i_Rel (k + 4) u v') v v1 v2) u v1 v2 := by
  refine zz_el (P := fun u v => wpX_portRole (fun r => wpY_portRole (fun r' v' => r' = r ∧ i_Rel (k + 4) u v') v v1 v2) u v1 v2) ?_ I
  intro wt rt sh dl la cp on pr ca sc cr cc rp lk co sg st tm ro ep mg cs so ya di tc cb ev he fr w d hI
  have hR : ∀ di : Nat → Int32, i_Rel (k + 4) (wt, rt, sh, dl, la, cp, on, pr, ca, sc, cr, cc, rp, lk, co, sg, st, tm, ro, ep, zb_xA ep ya, mg, cs, so) (dl, la, cp, wt, rt, sh, on, pr, ca, sc, sg, lk, co, st, tm, ep, ya, so, cs, di, tc, cb, ev, he, fr) := fun di => zz_in hI
  have hW := hI.1
  have hC := hI.2.1
  unfold wpX_portRole
  dsimp only
  rcases zb_ix v1 (n := 6) (by omega) with hx | ⟨b, hb, rfl⟩
  · refine zx_po0 hx (br_t rfl ?_)
    unfold wpY_portRole
    dsimp only
    exact zy_out1 (m := 5) (by omega) hx (br_f (by decide) ⟨rfl, hR di⟩)
  · rcases zb_ix v2 (n := 4) (by omega) with hx | ⟨p, hp, rfl⟩
    · refine zx_po0' hb hx (br_t rfl ?_)
      unfold wpY_portRole
      dsimp only
      exact zy_out0 (m := 5) (by omega) (by omega) (br_t rfl (zy_out1 (m := 3) (by omega) hx (br_f (by decide) ⟨rfl, hR di⟩)))
    · have hi : 4 * b + p < 24 := by omega
      refine zx_po1 hb hp (br_f (by decide) (nm_r (zb_ix4 b p) ?_))
      by_cases ui : zb_U on lk (4 * b + p) = true
      · refine zx_up1 hi ui (br_f (by decide) ⟨vp_in_nI hb (by omega), br_c (fun z2 => ⟨vp_in_nI hi (by omega), ?_⟩) (fun z2 => ?_)⟩)
        · unfold wpY_portRole
          dsimp only
          refine zy_out0 (m := 5) (by omega) (by omega) (br_t rfl (zy_out0 (m := 3) (by omega) (by omega) (br_t rfl ?_)))
          rw [zb_ix4]
          refine zy_up1 hi ui (br_f (by decide) ⟨vp_in_nI hb (by omega), br_t z2 (zy_ms hW (fun di d' hd hF => ?_))⟩)
          refine zy_role hW ⟨d', hd, hF⟩ hi ⟨?_, hR di⟩
          rw [nI_clamp (by omega), hC.2 _ hi]
        · unfold wpY_portRole
          dsimp only
          refine zy_out0 (m := 5) (by omega) (by omega) (br_t rfl (zy_out0 (m := 3) (by omega) (by omega) (br_t rfl ?_)))
          rw [zb_ix4]
          exact zy_up1 hi ui (br_f (by decide) ⟨vp_in_nI hb (by omega), br_f z2 ⟨rfl, hR di⟩⟩)
      · refine zx_up0 hi ui (br_t rfl ?_)
        unfold wpY_portRole
        dsimp only
        refine zy_out0 (m := 5) (by omega) (by omega) (br_t rfl (zy_out0 (m := 3) (by omega) (by omega) (br_t rfl ?_)))
        rw [zb_ix4]
        exact zy_up0 hi ui (br_t rfl ⟨rfl, hR di⟩)
theorem i_vc_place {k : Nat} {u : SX} {v : SY} (I : i_Rel k u v) (hk : k + 4 ≤ 2052) (v1 : Int32) (v2 : Int32) : wpX_place (fun r u' => wpY_place (fun r' v' => r' = r ∧ i_Rel (k + 4) u' v') v v1 v2) u v1 v2 := by
  refine zz_el (P := fun u v => wpX_place (fun r u' => wpY_place (fun r' v' => r' = r ∧ i_Rel (k + 4) u' v') v v1 v2) u v1 v2) ?_ I
  intro wt rt sh dl la cp on pr ca sc cr cc rp lk co sg st tm ro ep mg cs so ya di tc cb ev he fr w d hI
  have hR : i_Rel (k + 4) (wt, rt, sh, dl, la, cp, on, pr, ca, sc, cr, cc, rp, lk, co, sg, st, tm, ro, ep, zb_xA ep ya, mg, cs, so) (dl, la, cp, wt, rt, sh, on, pr, ca, sc, sg, lk, co, st, tm, ep, ya, so, cs, di, tc, cb, ev, he, fr) := zz_in hI
  unfold wpX_place
  dsimp only
  rcases zb_ix v1 (n := 8) (by omega) with hx | ⟨b, hb, rfl⟩
  · refine zx_sa0 hx (br_t rfl ?_)
    unfold wpY_place
    dsimp only
    exact zy_out1 (m := 7) (by omega) hx (br_f (by decide) ⟨rfl, hR⟩)
  · refine zx_sa1 hb (br_f (by decide) ?_)
    rcases zb_ix v2 (n := 9) (by omega) with hx | ⟨s, hs, rfl⟩
    · have hY : wpY_place (fun r' v' => r' = -1 ∧ i_Rel (k + 4) (wt, rt, sh, dl, la, cp, on, pr, ca, sc, cr, cc, rp, lk, co, sg, st, tm, ro, ep, zb_xA ep ya, mg, cs, so) v') (dl, la, cp, wt, rt, sh, on, pr, ca, sc, sg, lk, co, st, tm, ep, ya, so, cs, di, tc, cb, ev, he, fr) (nI b) v2 := by
        unfold wpY_place
        dsimp only
        exact zy_out0 (m := 7) (by omega) (by omega) (br_t rfl (zy_out1 (m := 8) (by omega) hx (br_f (by decide) ⟨rfl, hR⟩)))
      by_cases z : v2 < 0
      · exact br_t z hY
      · exact br_f z (br_f (zb_nle (m := 8) (by omega) (hx.resolve_left z)) hY)
    · refine br_f (nI_pos (by omega)) (br_t (nI_le (b := 8) (by omega) (by omega)) ⟨vp_in_nI hb (by omega), br_c (fun z => ?_) (fun z => ⟨vp_in_nI hb (by omega), nm_e ?_⟩)⟩)
      · unfold wpY_place
        dsimp only
        exact zy_out0 (m := 7) (by omega) (by omega) (br_t rfl (zy_out0 (m := 8) (by omega) (by omega) (br_t rfl ⟨vp_in_nI hb (by omega), br_t z ⟨rfl, hR⟩⟩)))
      · unfold wpY_place
        dsimp only
        refine zy_out0 (m := 7) (by omega) (by omega) (br_t rfl (zy_out0 (m := 8) (by omega) (by omega) (br_t rfl ⟨vp_in_nI hb (by omega), br_f z ⟨vp_in_nI hb (by omega), nm_e ⟨rfl, zz_in (w := w) (d := d) ?_⟩⟩⟩)))
        obtain ⟨a1, a2, a3, a4, a5, a6, a7⟩ := hI
        refine ⟨a1, a2, a3, a4, a5, fun t ht => ?_, a7⟩
        rw [nI_clamp (by omega), zb_N_upd (by omega)]
        by_cases e : t = b
        · subst e; rw [pk_us, if_pos rfl]; exact ⟨rfl, by omega⟩
        · rw [pk_un e, if_neg e]; exact a6 t ht
end
section
/-! changes of the wiring, of power, priority and cost -/
section
variable {on pr lk co sg : Nat → Int32}
theorem zb_WF_wire (hW : zb_WF on pr lk co sg) {i s : Nat} (hs : s < 8) : zb_WF on pr (upd lk i 1) co (upd sg i (nI s)) := by
  obtain ⟨h1, h2, h3, h4, h5⟩ := hW
  refine ⟨h1, h2, fun j hj => ?_, h4, fun j hj => ?_⟩
  · by_cases e : j = i
    · rw [e, pk_us]; exact Or.inr rfl
    · rw [pk_un e]; exact h3 j hj
  · by_cases e : j = i
    · rw [e, pk_us]; exact ⟨s, by omega, rfl, fun _ => hs⟩
    · rw [pk_un e, pk_un e]; exact h5 j hj
theorem zb_WF_cut (hW : zb_WF on pr lk co sg) {i : Nat} : zb_WF on pr (upd lk i 0) co sg := by
  obtain ⟨h1, h2, h3, h4, h5⟩ := hW
  refine ⟨h1, h2, fun j hj => ?_, h4, fun j hj => ?_⟩
  · by_cases e : j = i
    · rw [e, pk_us]; exact Or.inl rfl
    · rw [pk_un e]; exact h3 j hj
  · obtain ⟨s, a1, a2, a3⟩ := h5 j hj
    refine ⟨s, a1, a2, fun z => ?_⟩
    by_cases e : j = i
    · rw [e, pk_us] at z; exact absurd rfl z
    · rw [pk_un e] at z; exact a3 z
theorem zb_WF_rep (hW : zb_WF on pr lk co sg) {i : Nat} (hs : ¬ sg i = 8) : zb_WF on pr (upd lk i 1) co sg := by
  obtain ⟨h1, h2, h3, h4, h5⟩ := hW
  refine ⟨h1, h2, fun j hj => ?_, h4, fun j hj => ?_⟩
  · by_cases e : j = i
    · rw [e, pk_us]; exact Or.inr rfl
    · rw [pk_un e]; exact h3 j hj
  · obtain ⟨s, a1, a2, a3⟩ := h5 j hj
    refine ⟨s, a1, a2, fun z => ?_⟩
    by_cases e : j = i
    · subst e
      have : s ≠ 8 := fun y => hs (by rw [a2, y]; rfl)
      omega
    · rw [pk_un e] at z; exact a3 z
theorem zb_WF_on (hW : zb_WF on pr lk co sg) {b : Nat} {v : Int32} (hv : v = 0 ∨ v = 1) : zb_WF (upd on b v) pr lk co sg := by
  obtain ⟨h1, h2, h3, h4, h5⟩ := hW
  refine ⟨fun j hj => ?_, h2, h3, h4, h5⟩
  by_cases e : j = b
  · rw [e, pk_us]; exact hv
  · rw [pk_un e]; exact h1 j hj
theorem zb_WF_pri (hW : zb_WF on pr lk co sg) {b p : Nat} (hp : p ≤ 15) : zb_WF on (upd pr b (nI p)) lk co sg := by
  obtain ⟨h1, h2, h3, h4, h5⟩ := hW
  refine ⟨h1, fun j hj => ?_, h3, h4, h5⟩
  by_cases e : j = b
  · rw [e, pk_us]; exact ⟨p, hp, rfl⟩
  · rw [pk_un e]; exact h2 j hj
theorem zb_WF_cst (hW : zb_WF on pr lk co sg) {i c : Nat} (h0 : 1 ≤ c) (hc : c ≤ 50) : zb_WF on pr lk (upd co i (nI c)) sg := by
  obtain ⟨h1, h2, h3, h4, h5⟩ := hW
  refine ⟨h1, h2, h3, fun j hj => ?_, h5⟩
  by_cases e : j = i
  · rw [e, pk_us]; exact ⟨c, h0, hc, rfl⟩
  · rw [pk_un e]; exact h4 j hj
theorem zb_U_lkne {i j : Nat} {x : Int32} (h : j ≠ i) : zb_U on (upd lk i x) j = zb_U on lk j := by
  unfold zb_U
  rw [pk_un h]
theorem zb_U_onne {b j : Nat} {x : Int32} (h : j / 4 ≠ b) : zb_U (upd on b x) lk j = zb_U on lk j := by
  unfold zb_U
  rw [pk_un h]
end
section
variable {wt rt sh dl la cp : Int32} {on pr ca sc cr cc rp lk co sg st tm ro ep ea mg cs so ya di tc cb ev he fr : Nat → Int32} {w d : Nat}
theorem zb_INV_PV (hI : zb_INV wt rt dl on pr lk co sg cr cc ro st tm ep so fr w d) : zb_PV d (st, tm, ep, 0) ∧ 1 ≤ d := by
  obtain ⟨a1, a2, a3, a4, a5, a6, a7⟩ := hI
  exact ⟨⟨a3.1, a3.2, Or.inl rfl⟩, a5.2.2.2.2.2.1⟩
theorem zb_INV_one {lk' sg' cr' cc' ro' : Nat → Int32} {b i : Nat} (hI : zb_INV wt rt dl on pr lk co sg cr cc ro st tm ep so fr w d) (hW : zb_WF on pr lk' co sg') (hC : zb_CL on pr lk' co sg' cr' cc' ro')
    (hb : b < 6) (hi : 4 * b ≤ i) (hi4 : i < 4 * b + 4) (hU : ∀ j, j ≠ i → zb_U on lk' j = zb_U on lk j) :
    zb_ri (zb_U on lk') b (st, tm, ep, 0) 4 = zb_rf (zb_U on lk') i (st, tm, ep, 0) ∧
    zb_INV wt rt dl on pr lk' co sg' cr' cc' ro' (zb_rf (zb_U on lk') i (st, tm, ep, 0)).1 (zb_rf (zb_U on lk') i (st, tm, ep, 0)).2.1 (zb_rf (zb_U on lk') i (st, tm, ep, 0)).2.2.1 so fr w d := by
  obtain ⟨hV, hd⟩ := zb_INV_PV hI
  obtain ⟨a1, a2, a3, a4, a5, a6, a7⟩ := hI
  have hu : ∀ j, j < 24 → j ≠ i → (zb_N st j = 0 ↔ ¬ zb_U on lk' j = true) := fun j hj e => by
    rw [hU j e]; exact a4 j hj
  refine ⟨(zb_ri_one hV hd hb hi hi4 hu 4 (by omega)).trans (if_pos (by omega)), hW, hC, ?_, fun j hj => ?_, a5, a6, a7⟩
  · have := zb_rf_PV (U := zb_U on lk') (j := i) hV hd (by omega)
    exact ⟨this.1, this.2.1⟩
  · unfold zb_PU
    by_cases e : j = i
    · subst e; exact zb_rf_eq hV hj
    · have := hu j hj e
      unfold zb_N at this ⊢
      rw [zb_rf_ne e]
      exact this
theorem zb_INV_pow {on' cr' cc' ro' : Nat → Int32} {b : Nat} (hI : zb_INV wt rt dl on pr lk co sg cr cc ro st tm ep so fr w d) (hW : zb_WF on' pr lk co sg) (hC : zb_CL on' pr lk co sg cr' cc' ro')
    (hb : b < 6) (hU : ∀ j, j / 4 ≠ b → zb_U on' lk j = zb_U on lk j) :
    zb_INV wt rt dl on' pr lk co sg cr' cc' ro' (zb_ri (zb_U on' lk) b (st, tm, ep, 0) 4).1 (zb_ri (zb_U on' lk) b (st, tm, ep, 0) 4).2.1 (zb_ri (zb_U on' lk) b (st, tm, ep, 0) 4).2.2.1 so fr w d := by
  obtain ⟨hV, hd⟩ := zb_INV_PV hI
  obtain ⟨a1, a2, a3, a4, a5, a6, a7⟩ := hI
  refine ⟨hW, hC, ?_, fun j hj => ?_, a5, a6, a7⟩
  · have := zb_ri_PV (U := zb_U on' lk) hV hd hb 4 (by omega)
    exact ⟨this.1, this.2.1⟩
  · unfold zb_PU
    by_cases e : j / 4 = b
    · exact zb_ri_fit hV hd hb 4 (by omega) j (by omega) (by omega)
    · have := a4 j hj
      unfold zb_PU at this
      rw [hU j e]
      unfold zb_N at this ⊢
      rw [zb_ri_ge 4 j (by omega)]
      exact this
theorem zb_INV_id {pr' co' cr' cc' ro' : Nat → Int32} {b : Nat} (hI : zb_INV wt rt dl on pr lk co sg cr cc ro st tm ep so fr w d) (hW : zb_WF on pr' lk co' sg) (hC : zb_CL on pr' lk co' sg cr' cc' ro') (hb : b < 6) :
    zb_ri (zb_U on lk) b (st, tm, ep, 0) 4 = (st, tm, ep, 0) ∧ zb_INV wt rt dl on pr' lk co' sg cr' cc' ro' st tm ep so fr w d := by
  obtain ⟨hV, hd⟩ := zb_INV_PV hI
  obtain ⟨a1, a2, a3, a4, a5, a6, a7⟩ := hI
  exact ⟨zb_ri_id hV hb a4 4 (by omega), hW, hC, a3, a4, a5, a6, a7⟩
end
theorem i_vc_wire {k : Nat} {u : SX} {v : SY} (I : i_Rel k u v) (hk : k + 4 ≤ 2052) (v1 : Int32) (v2 : Int32) (v3 : Int32) : wpX_wire (fun r u' => wpY_wire (fun r' v' => r' = r ∧ i_Rel (k + 4) u' v') v v1 v2 v3) u v1 v2 v3 := by
  refine zz_el (P := fun u v => wpX_wire (fun r u' => wpY_wire (fun r' v' => r' = r ∧ i_Rel (k + 4) u' v') v v1 v2 v3) u v1 v2 v3) ?_ I
  intro wt rt sh dl la cp on pr ca sc cr cc rp lk co sg st tm ro ep mg cs so ya di tc cb ev he fr w d hI
  have hR : i_Rel (k + 4) (wt, rt, sh, dl, la, cp, on, pr, ca, sc, cr, cc, rp, lk, co, sg, st, tm, ro, ep, zb_xA ep ya, mg, cs, so) (dl, la, cp, wt, rt, sh, on, pr, ca, sc, sg, lk, co, st, tm, ep, ya, so, cs, di, tc, cb, ev, he, fr) := zz_in hI
  have hW := hI.1
  have hC := hI.2.1
  have hV := (zb_INV_PV hI).1
  have hd := (zb_INV_PV hI).2
  unfold wpX_wire
  dsimp only
  rcases zb_ix v1 (n := 6) (by omega) with hx | ⟨b, hb, rfl⟩
  · refine zx_po0 hx (br_t rfl ?_)
    unfold wpY_wire
    dsimp only
    exact zy_out1 (m := 5) (by omega) hx (br_f (by decide) ⟨rfl, hR⟩)
  · rcases zb_ix v2 (n := 4) (by omega) with hx | ⟨p, hp, rfl⟩
    · refine zx_po0' hb hx (br_t rfl ?_)
      unfold wpY_wire
      dsimp only
      exact zy_out0 (m := 5) (by omega) (by omega) (br_t rfl (zy_out1 (m := 3) (by omega) hx (br_f (by decide) ⟨rfl, hR⟩)))
    · refine zx_po1 hb hp (br_f (by decide) ?_)
      rcases zb_ix v3 (n := 8) (by omega) with hx | ⟨s, hs, rfl⟩
      · have hY : wpY_wire (fun r' v' => r' = -1 ∧ i_Rel (k + 4) (wt, rt, sh, dl, la, cp, on, pr, ca, sc, cr, cc, rp, lk, co, sg, st, tm, ro, ep, zb_xA ep ya, mg, cs, so) v') (dl, la, cp, wt, rt, sh, on, pr, ca, sc, sg, lk, co, st, tm, ep, ya, so, cs, di, tc, cb, ev, he, fr) (nI b) (nI p) v3 := by
          unfold wpY_wire
          dsimp only
          exact zy_out0 (m := 5) (by omega) (by omega) (br_t rfl (zy_out0 (m := 3) (by omega) (by omega) (br_t rfl (zy_out1 (m := 7) (by omega) hx (br_f (by decide) ⟨rfl, hR⟩)))))
        by_cases z : v3 < 0
        · exact br_t z hY
        · exact br_f z (br_f (fun y => absurd (hx.resolve_left z) (Int32.not_le.mpr y)) hY)
      · have hi : 4 * b + p < 24 := by omega
        refine br_f (nI_pos (by omega)) (br_t (nI_lt (b := 8) hs (by omega)) (nm_r (zb_ix4 b p) ⟨vp_in_nI hi (by omega), ?_⟩))
        rw [nI_clamp (by omega)]
        by_cases z : lk (4 * b + p) = 0
        · have hW' : zb_WF on pr (upd lk (4 * b + p) 1) co (upd sg (4 * b + p) (nI s)) := zb_WF_wire hW hs
          refine br_t z (zx_comp hb (fun m hm => ⟨vp_in_nI hi (by omega), nm_e ⟨vp_in_nI hi (by omega), nm_r (e' := upd lk (4 * b + p) 1) rfl ?_⟩⟩))
          refine zx_ref hV.1 hV.2.1 hi ?_
          refine zx_settle hW' hb (fun t ht => (hm t ht).trans (zb_CL_cq hW hC hb ht)) (fun cr' cc' rp' ro' mg' hC' => ?_)
          unfold wpY_wire
          dsimp only
          refine zy_out0 (m := 5) (by omega) (by omega) (br_t rfl (zy_out0 (m := 3) (by omega) (by omega) (br_t rfl (zy_out0 (m := 7) (by omega) (by omega) (br_t rfl ?_)))))
          rw [zb_ix4, nI_clamp (by omega)]
          refine ⟨vp_in_nI hi (by omega), br_t z (zy_before hW hb (fun di tc hD ht => ⟨vp_in_nI hi (by omega), nm_e ⟨vp_in_nI hi (by omega), nm_r (e' := upd lk (4 * b + p) 1) rfl (zy_after hW' hb hd hV ht (fun di => ⟨rfl, ?_⟩))⟩⟩))⟩
          have hN := zb_INV_one hI hW' hC' hb (i := 4 * b + p) (by omega) (by omega) (fun j hj => zb_U_lkne hj)
          rw [hN.1]
          exact zz_in hN.2
        · refine br_f z ?_
          unfold wpY_wire
          dsimp only
          refine zy_out0 (m := 5) (by omega) (by omega) (br_t rfl (zy_out0 (m := 3) (by omega) (by omega) (br_t rfl (zy_out0 (m := 7) (by omega) (by omega) (br_t rfl ?_)))))
          rw [zb_ix4, nI_clamp (by omega)]
          exact ⟨vp_in_nI hi (by omega), br_f z ⟨rfl, hR⟩⟩
theorem i_vc_cut {k : Nat} {u : SX} {v : SY} (I : i_Rel k u v) (hk : k + 4 ≤ 2052) (v1 : Int32) (v2 : Int32) : wpX_cut (fun r u' => wpY_cut (fun r' v' => r' = r ∧ i_Rel (k + 4) u' v') v v1 v2) u v1 v2 := by
  refine zz_el (P := fun u v => wpX_cut (fun r u' => wpY_cut (fun r' v' => r' = r ∧ i_Rel (k + 4) u' v') v v1 v2) u v1 v2) ?_ I
  intro wt rt sh dl la cp on pr ca sc cr cc rp lk co sg st tm ro ep mg cs so ya di tc cb ev he fr w d hI
  have hR : i_Rel (k + 4) (wt, rt, sh, dl, la, cp, on, pr, ca, sc, cr, cc, rp, lk, co, sg, st, tm, ro, ep, zb_xA ep ya, mg, cs, so) (dl, la, cp, wt, rt, sh, on, pr, ca, sc, sg, lk, co, st, tm, ep, ya, so, cs, di, tc, cb, ev, he, fr) := zz_in hI
  have hW := hI.1
  have hC := hI.2.1
  have hV := (zb_INV_PV hI).1
  have hd := (zb_INV_PV hI).2
  unfold wpX_cut
  dsimp only
  rcases zb_ix v1 (n := 6) (by omega) with hx | ⟨b, hb, rfl⟩
  · refine zx_po0 hx (br_t rfl ?_)
    unfold wpY_cut
    dsimp only
    exact zy_out1 (m := 5) (by omega) hx (br_f (by decide) ⟨rfl, hR⟩)
  · rcases zb_ix v2 (n := 4) (by omega) with hx | ⟨p, hp, rfl⟩
    · refine zx_po0' hb hx (br_t rfl ?_)
      unfold wpY_cut
      dsimp only
      exact zy_out0 (m := 5) (by omega) (by omega) (br_t rfl (zy_out1 (m := 3) (by omega) hx (br_f (by decide) ⟨rfl, hR⟩)))
    · have hi : 4 * b + p < 24 := by omega
      refine zx_po1 hb hp (br_f (by decide) (nm_r (zb_ix4 b p) ⟨vp_in_nI hi (by omega), ?_⟩))
      rw [nI_clamp (by omega)]
      by_cases z : lk (4 * b + p) = 0
      · refine br_t z ?_
        unfold wpY_cut
        dsimp only
        refine zy_out0 (m := 5) (by omega) (by omega) (br_t rfl (zy_out0 (m := 3) (by omega) (by omega) (br_t rfl ?_)))
        rw [zb_ix4, nI_clamp (by omega)]
        exact ⟨vp_in_nI hi (by omega), br_t z ⟨rfl, hR⟩⟩
      · have hW' : zb_WF on pr (upd lk (4 * b + p) 0) co sg := zb_WF_cut hW
        refine br_f z (zx_comp hb (fun m hm => ⟨vp_in_nI hi (by omega), nm_r (e' := upd lk (4 * b + p) 0) rfl ?_⟩))
        refine zx_ref hV.1 hV.2.1 hi ?_
        refine zx_settle hW' hb (fun t ht => (hm t ht).trans (zb_CL_cq hW hC hb ht)) (fun cr' cc' rp' ro' mg' hC' => ?_)
        unfold wpY_cut
        dsimp only
        refine zy_out0 (m := 5) (by omega) (by omega) (br_t rfl (zy_out0 (m := 3) (by omega) (by omega) (br_t rfl ?_)))
        rw [zb_ix4, nI_clamp (by omega)]
        refine ⟨vp_in_nI hi (by omega), br_f z (zy_before hW hb (fun di tc hD ht => ⟨vp_in_nI hi (by omega), nm_r (e' := upd lk (4 * b + p) 0) rfl (zy_after hW' hb hd hV ht (fun di => ⟨rfl, ?_⟩))⟩))⟩
        have hN := zb_INV_one hI hW' hC' hb (i := 4 * b + p) (by omega) (by omega) (fun j hj => zb_U_lkne hj)
        rw [hN.1]
        exact zz_in hN.2
theorem i_vc_repair {k : Nat} {u : SX} {v : SY} (I : i_Rel k u v) (hk : k + 4 ≤ 2052) (v1 : Int32) (v2 : Int32) : wpX_repair (fun r u' => wpY_repair (fun r' v' => r' = r ∧ i_Rel (k + 4) u' v') v v1 v2) u v1 v2 := by
  refine zz_el (P := fun u v => wpX_repair (fun r u' => wpY_repair (fun r' v' => r' = r ∧ i_Rel (k + 4) u' v') v v1 v2) u v1 v2) ?_ I
  intro wt rt sh dl la cp on pr ca sc cr cc rp lk co sg st tm ro ep mg cs so ya di tc cb ev he fr w d hI
  have hR : i_Rel (k + 4) (wt, rt, sh, dl, la, cp, on, pr, ca, sc, cr, cc, rp, lk, co, sg, st, tm, ro, ep, zb_xA ep ya, mg, cs, so) (dl, la, cp, wt, rt, sh, on, pr, ca, sc, sg, lk, co, st, tm, ep, ya, so, cs, di, tc, cb, ev, he, fr) := zz_in hI
  have hW := hI.1
  have hC := hI.2.1
  have hV := (zb_INV_PV hI).1
  have hd := (zb_INV_PV hI).2
  unfold wpX_repair
  dsimp only
  rcases zb_ix v1 (n := 6) (by omega) with hx | ⟨b, hb, rfl⟩
  · refine zx_po0 hx (br_t rfl ?_)
    unfold wpY_repair
    dsimp only
    exact zy_out1 (m := 5) (by omega) hx (br_f (by decide) ⟨rfl, hR⟩)
  · rcases zb_ix v2 (n := 4) (by omega) with hx | ⟨p, hp, rfl⟩
    · refine zx_po0' hb hx (br_t rfl ?_)
      unfold wpY_repair
      dsimp only
      exact zy_out0 (m := 5) (by omega) (by omega) (br_t rfl (zy_out1 (m := 3) (by omega) hx (br_f (by decide) ⟨rfl, hR⟩)))
    · have hi : 4 * b + p < 24 := by omega
      refine zx_po1 hb hp (br_f (by decide) (nm_r (zb_ix4 b p) ⟨vp_in_nI hi (by omega), ?_⟩))
      rw [nI_clamp (by omega)]
      by_cases y : sg (4 * b + p) = 8
      · refine br_t y ?_
        unfold wpY_repair
        dsimp only
        refine zy_out0 (m := 5) (by omega) (by omega) (br_t rfl (zy_out0 (m := 3) (by omega) (by omega) (br_t rfl ?_)))
        rw [zb_ix4, nI_clamp (by omega)]
        exact ⟨vp_in_nI hi (by omega), br_t y ⟨rfl, hR⟩⟩
      · by_cases z : lk (4 * b + p) = 0
        · have hW' : zb_WF on pr (upd lk (4 * b + p) 1) co sg := zb_WF_rep hW y
          refine br_f y (And.intro (vp_in_nI hi (by omega)) (br_t z (zx_comp hb (fun m hm => ⟨vp_in_nI hi (by omega), nm_r (e' := upd lk (4 * b + p) 1) rfl ?_⟩))))
          refine zx_ref hV.1 hV.2.1 hi ?_
          refine zx_settle hW' hb (fun t ht => (hm t ht).trans (zb_CL_cq hW hC hb ht)) (fun cr' cc' rp' ro' mg' hC' => ?_)
          unfold wpY_repair
          dsimp only
          refine zy_out0 (m := 5) (by omega) (by omega) (br_t rfl (zy_out0 (m := 3) (by omega) (by omega) (br_t rfl ?_)))
          rw [zb_ix4, nI_clamp (by omega)]
          refine ⟨vp_in_nI hi (by omega), br_f y ⟨vp_in_nI hi (by omega), (br_t z (zy_before hW hb (fun di tc hD ht => ⟨vp_in_nI hi (by omega), nm_r (e' := upd lk (4 * b + p) 1) rfl (zy_after hW' hb hd hV ht (fun di => ⟨rfl, ?_⟩))⟩)))⟩⟩
          have hN := zb_INV_one hI hW' hC' hb (i := 4 * b + p) (by omega) (by omega) (fun j hj => zb_U_lkne hj)
          rw [hN.1]
          exact zz_in hN.2
        · refine br_f y (And.intro (vp_in_nI hi (by omega)) (br_f z ?_))
          unfold wpY_repair
          dsimp only
          refine zy_out0 (m := 5) (by omega) (by omega) (br_t rfl (zy_out0 (m := 3) (by omega) (by omega) (br_t rfl ?_)))
          rw [zb_ix4, nI_clamp (by omega)]
          exact ⟨vp_in_nI hi (by omega), br_f y ⟨vp_in_nI hi (by omega), br_f z ⟨rfl, hR⟩⟩⟩
theorem i_vc_setPriority {k : Nat} {u : SX} {v : SY} (I : i_Rel k u v) (hk : k + 4 ≤ 2052) (v1 : Int32) (v2 : Int32) : wpX_setPriority (fun r u' => wpY_setPriority (fun r' v' => r' = r ∧ i_Rel (k + 4) u' v') v v1 v2) u v1 v2 := by
  refine zz_el (P := fun u v => wpX_setPriority (fun r u' => wpY_setPriority (fun r' v' => r' = r ∧ i_Rel (k + 4) u' v') v v1 v2) u v1 v2) ?_ I
  intro wt rt sh dl la cp on pr ca sc cr cc rp lk co sg st tm ro ep mg cs so ya di tc cb ev he fr w d hI
  have hR : i_Rel (k + 4) (wt, rt, sh, dl, la, cp, on, pr, ca, sc, cr, cc, rp, lk, co, sg, st, tm, ro, ep, zb_xA ep ya, mg, cs, so) (dl, la, cp, wt, rt, sh, on, pr, ca, sc, sg, lk, co, st, tm, ep, ya, so, cs, di, tc, cb, ev, he, fr) := zz_in hI
  have hW := hI.1
  have hC := hI.2.1
  have hV := (zb_INV_PV hI).1
  have hd := (zb_INV_PV hI).2
  unfold wpX_setPriority
  dsimp only
  rcases zb_ix v1 (n := 6) (by omega) with hx | ⟨b, hb, rfl⟩
  · refine zx_br0 hx (br_t rfl ?_)
    unfold wpY_setPriority
    dsimp only
    exact zy_out1 (m := 5) (by omega) hx (br_f (by decide) ⟨rfl, hR⟩)
  · refine zx_br1 hb (br_f (by decide) ?_)
    rcases zb_ix v2 (n := 16) (by omega) with hx | ⟨p, hp, rfl⟩
    · have hY : wpY_setPriority (fun r' v' => r' = -1 ∧ i_Rel (k + 4) (wt, rt, sh, dl, la, cp, on, pr, ca, sc, cr, cc, rp, lk, co, sg, st, tm, ro, ep, zb_xA ep ya, mg, cs, so) v') (dl, la, cp, wt, rt, sh, on, pr, ca, sc, sg, lk, co, st, tm, ep, ya, so, cs, di, tc, cb, ev, he, fr) (nI b) v2 := by
        unfold wpY_setPriority
        dsimp only
        exact zy_out0 (m := 5) (by omega) (by omega) (br_t rfl (zy_out1 (m := 15) (by omega) hx (br_f (by decide) ⟨rfl, hR⟩)))
      by_cases z : v2 < 0
      · exact br_t z hY
      · exact br_f z (br_f (zb_nle (m := 15) (by omega) (hx.resolve_left z)) hY)
    · refine br_f (nI_pos (by omega)) (br_t (nI_le (b := 15) (by omega) (by omega)) ⟨vp_in_nI hb (by omega), ?_⟩)
      rw [nI_clamp (by omega)]
      by_cases z : pr b = nI p
      · refine br_t z ?_
        unfold wpY_setPriority
        dsimp only
        refine zy_out0 (m := 5) (by omega) (by omega) (br_t rfl (zy_out0 (m := 15) (by omega) (by omega) (br_t rfl ?_)))
        rw [nI_clamp (by omega)]
        exact ⟨vp_in_nI hb (by omega), br_t z ⟨rfl, hR⟩⟩
      · have hW' : zb_WF on (upd pr b (nI p)) lk co sg := zb_WF_pri hW (by omega)
        refine br_f z (zx_comp hb (fun m hm => ⟨vp_in_nI hb (by omega), nm_e ?_⟩))
        refine zx_settle hW' hb (fun t ht => (hm t ht).trans (zb_CL_cq hW hC hb ht)) (fun cr' cc' rp' ro' mg' hC' => ?_)
        unfold wpY_setPriority
        dsimp only
        refine zy_out0 (m := 5) (by omega) (by omega) (br_t rfl (zy_out0 (m := 15) (by omega) (by omega) (br_t rfl ?_)))
        rw [nI_clamp (by omega)]
        refine ⟨vp_in_nI hb (by omega), br_f z (zy_before hW hb (fun di tc hD ht => ⟨vp_in_nI hb (by omega), nm_e (zy_after hW' hb hd hV ht (fun di => ⟨rfl, ?_⟩))⟩))⟩
        have hN := zb_INV_id hI hW' hC' hb
        rw [hN.1]
        exact zz_in hN.2
theorem i_vc_setCost {k : Nat} {u : SX} {v : SY} (I : i_Rel k u v) (hk : k + 4 ≤ 2052) (v1 : Int32) (v2 : Int32) (v3 : Int32) : wpX_setCost (fun r u' => wpY_setCost (fun r' v' => r' = r ∧ i_Rel (k + 4) u' v') v v1 v2 v3) u v1 v2 v3 := by
  refine zz_el (P := fun u v => wpX_setCost (fun r u' => wpY_setCost (fun r' v' => r' = r ∧ i_Rel (k + 4) u' v') v v1 v2 v3) u v1 v2 v3) ?_ I
  intro wt rt sh dl la cp on pr ca sc cr cc rp lk co sg st tm ro ep mg cs so ya di tc cb ev he fr w d hI
  have hR : i_Rel (k + 4) (wt, rt, sh, dl, la, cp, on, pr, ca, sc, cr, cc, rp, lk, co, sg, st, tm, ro, ep, zb_xA ep ya, mg, cs, so) (dl, la, cp, wt, rt, sh, on, pr, ca, sc, sg, lk, co, st, tm, ep, ya, so, cs, di, tc, cb, ev, he, fr) := zz_in hI
  have hW := hI.1
  have hC := hI.2.1
  have hV := (zb_INV_PV hI).1
  have hd := (zb_INV_PV hI).2
  unfold wpX_setCost
  dsimp only
  rcases zb_ix v1 (n := 6) (by omega) with hx | ⟨b, hb, rfl⟩
  · refine zx_po0 hx (br_t rfl ?_)
    unfold wpY_setCost
    dsimp only
    exact zy_out1 (m := 5) (by omega) hx (br_f (by decide) ⟨rfl, hR⟩)
  · rcases zb_ix v2 (n := 4) (by omega) with hx | ⟨p, hp, rfl⟩
    · refine zx_po0' hb hx (br_t rfl ?_)
      unfold wpY_setCost
      dsimp only
      exact zy_out0 (m := 5) (by omega) (by omega) (br_t rfl (zy_out1 (m := 3) (by omega) hx (br_f (by decide) ⟨rfl, hR⟩)))
    · refine zx_po1 hb hp (br_f (by decide) ?_)
      have hi : 4 * b + p < 24 := by omega
      have hY : ∀ {Q : Int32 → SY → Prop}, ((v3 < 1 → Q (-1) (dl, la, cp, wt, rt, sh, on, pr, ca, sc, sg, lk, co, st, tm, ep, ya, so, cs, di, tc, cb, ev, he, fr)) ∧ (¬ v3 < 1 → ((v3 ≤ 50 → (vp_in (nI (4 * b + p)) 24 ∧ ((co (4 * b + p) = v3 → Q (-2) (dl, la, cp, wt, rt, sh, on, pr, ca, sc, sg, lk, co, st, tm, ep, ya, so, cs, di, tc, cb, ev, he, fr)) ∧ (¬ co (4 * b + p) = v3 → wpY_before (fun u => match u with | (dl, la, cp, wt, rt, sh, on, pr, ca, sc, sg, lk, co, st, tm, ep, ya, so, cs, di, tc, cb, ev, he, fr) => (vp_in (nI (4 * b + p)) 24 ∧ (∀ cc2 : Nat → Int32, cc2 = upd co (4 * b + p) v3 → wpY_after (fun u => match u with | (dl, la, cp, wt, rt, sh, on, pr, ca, sc, sg, lk, co, st, tm, ep, ya, so, cs, di, tc, cb, ev, he, fr) => Q 1 (dl, la, cp, wt, rt, sh, on, pr, ca, sc, sg, lk, co, st, tm, ep, ya, so, cs, di, tc, cb, ev, he, fr)) (dl, la, cp, wt, rt, sh, on, pr, ca, sc, sg, lk, cc2, st, tm, ep, ya, so, cs, di, tc, cb, ev, he, fr) (nI b)))) (dl, la, cp, wt, rt, sh, on, pr, ca, sc, sg, lk, co, st, tm, ep, ya, so, cs, di, tc, cb, ev, he, fr) (nI b))))) ∧ (¬ v3 ≤ 50 → Q (-1) (dl, la, cp, wt, rt, sh, on, pr, ca, sc, sg, lk, co, st, tm, ep, ya, so, cs, di, tc, cb, ev, he, fr))))) → wpY_setCost Q (dl, la, cp, wt, rt, sh, on, pr, ca, sc, sg, lk, co, st, tm, ep, ya, so, cs, di, tc, cb, ev, he, fr) (nI b) (nI p) v3 := fun hq => by
        unfold wpY_setCost
        dsimp only
        refine zy_out0 (m := 5) (by omega) (by omega) (br_t rfl (zy_out0 (m := 3) (by omega) (by omega) (br_t rfl ?_)))
        rw [zb_ix4, nI_clamp (by omega)]
        exact hq
      by_cases y1 : v3 < 1
      · exact br_t y1 (hY (br_t y1 ⟨rfl, hR⟩))
      · by_cases y2 : v3 ≤ 50
        · obtain ⟨c, hc, rfl⟩ : ∃ c, c ≤ 50 ∧ v3 = nI c := nI_of2 (M := 50) (n := 50) (by decide) (fun z => y1 (Int32.lt_trans z (by decide))) y2
          have hc1 : 1 ≤ c := Nat.le_of_not_lt (fun z => y1 (nI_lt (b := 1) z (by omega)))
          refine br_f y1 (br_t y2 (nm_r (zb_ix4 b p) ⟨vp_in_nI hi (by omega), ?_⟩))
          rw [nI_clamp (by omega)]
          by_cases z : co (4 * b + p) = nI c
          · exact br_t z (hY (br_f y1 (br_t y2 ⟨vp_in_nI hi (by omega), br_t z ⟨rfl, hR⟩⟩)))
          · have hW' : zb_WF on pr lk (upd co (4 * b + p) (nI c)) sg := zb_WF_cst hW hc1 hc
            refine br_f z (zx_comp hb (fun m hm => ⟨vp_in_nI hi (by omega), nm_e ?_⟩))
            refine zx_settle hW' hb (fun t ht => (hm t ht).trans (zb_CL_cq hW hC hb ht)) (fun cr' cc' rp' ro' mg' hC' => ?_)
            refine hY (br_f y1 (br_t y2 ⟨vp_in_nI hi (by omega), br_f z (zy_before hW hb (fun di tc hD ht => ⟨vp_in_nI hi (by omega), nm_e (zy_after hW' hb hd hV ht (fun di => ⟨rfl, ?_⟩))⟩))⟩))
            have hN := zb_INV_id hI hW' hC' hb
            rw [hN.1]
            exact zz_in hN.2
        · exact br_f y1 (br_f y2 (hY (br_f y1 (br_f y2 ⟨rfl, hR⟩))))
end
section
/-! power -/
section
variable {wt rt sh dl la cp : Int32} {on pr ca sc cr cc rp lk co sg st tm ro ep ea mg cs so ya di tc cb ev he fr : Nat → Int32}
theorem zx_pow42 {post : Int32 → SX → Prop} {b d : Nat} {m : Int32} {P : Nat → Bool} (hW : zb_WF on pr lk co sg) (hb : b < 6) (hd : 1 ≤ d) (hV : zb_PV d (st, tm, ep, 0)) (hm : ∀ t, t < 6 → bt m t = P t)
    (h : ∀ cr cc rp ro mg : Nat → Int32, zb_CL on pr lk co sg cr cc ro → post 1 (wt, rt, sh, dl, la, cp, on, pr, zb_pw 6 (zb_gc P (zb_cq on pr lk co sg b) 0) ca, zb_gs (zb_ri (zb_U on lk) b (st, tm, ep, 0) 4).2.2.2 P (zb_cq on pr lk co sg b) sh 6 sc, cr, cc, rp, lk, co, sg, (zb_ri (zb_U on lk) b (st, tm, ep, 0) 4).1, (zb_ri (zb_U on lk) b (st, tm, ep, 0) 4).2.1, ro, (zb_ri (zb_U on lk) b (st, tm, ep, 0) 4).2.2.1, zb_xA (zb_ri (zb_U on lk) b (st, tm, ep, 0) 4).2.2.1 ya, mg, cs, so)) :
    ∀ n p, p ≤ 4 → 4 - p < n → wX_power_42 post (nI b) m n (zb_ri (zb_U on lk) b (st, tm, ep, 0) p).2.2.2 (nI p) wt rt sh dl la cp on pr ca sc cr cc rp lk co sg ((zb_ri (zb_U on lk) b (st, tm, ep, 0) p).1) ((zb_ri (zb_U on lk) b (st, tm, ep, 0) p).2.1) ro ((zb_ri (zb_U on lk) b (st, tm, ep, 0) p).2.2.1) (zb_xA (zb_ri (zb_U on lk) b (st, tm, ep, 0) p).2.2.1 ya) mg cs so := by
  refine zb_loop (fun n p => wX_power_42 post (nI b) m n (zb_ri (zb_U on lk) b (st, tm, ep, 0) p).2.2.2 (nI p) wt rt sh dl la cp on pr ca sc cr cc rp lk co sg ((zb_ri (zb_U on lk) b (st, tm, ep, 0) p).1) ((zb_ri (zb_U on lk) b (st, tm, ep, 0) p).2.1) ro ((zb_ri (zb_U on lk) b (st, tm, ep, 0) p).2.2.1) (zb_xA (zb_ri (zb_U on lk) b (st, tm, ep, 0) p).2.2.1 ya) mg cs so) 4 ?_ ?_
  · intro n
    exact br_t (nI_le (a := 4) (b := 4) (by omega) (by omega)) (zx_settle hW hb hm h)
  · intro n p hp hw
    have hV' := zb_ri_PV (U := zb_U on lk) hV hd hb p (by omega)
    have eq : zb_ri (zb_U on lk) b (st, tm, ep, 0) (p + 1) = zb_rf (zb_U on lk) (4 * b + p) (zb_ri (zb_U on lk) b (st, tm, ep, 0) p) := rfl
    rw [eq] at hw
    revert hw
    generalize zb_ri (zb_U on lk) b (st, tm, ep, 0) p = s at hV'
    intro hw
    obtain ⟨st, tm, ep, l⟩ := s
    obtain ⟨hS, hE, hl⟩ := hV'
    unfold zb_rf at hw
    dsimp only at hS hE hl hw ⊢
    have hj : 4 * b + p < 24 := by omega
    refine br_f (nI_ge (a := p) (b := 4) hp (by omega)) (nm_r (zb_ix4 b p) (zx_ref hS hE hj ?_))
    have e0 : zb_rL (zb_U on lk (4 * b + p)) (4 * b + p) st 0 = 0 → zb_rL (zb_U on lk (4 * b + p)) (4 * b + p) st l = l := fun z => by
      unfold zb_rL at z ⊢
      by_cases u : zb_U on lk (4 * b + p) = true
      · rw [if_pos u]
      · rw [if_neg u] at z ⊢
        by_cases q : zb_N st (4 * b + p) < 3
        · rw [if_pos q]
        · rw [if_neg q] at z; exact absurd z (by decide)
    have e1 : ¬ zb_rL (zb_U on lk (4 * b + p)) (4 * b + p) st 0 = 0 → zb_rL (zb_U on lk (4 * b + p)) (4 * b + p) st l = 1 := fun z => by
      unfold zb_rL at z ⊢
      by_cases u : zb_U on lk (4 * b + p) = true
      · rw [if_pos u] at z; exact absurd rfl z
      · rw [if_neg u] at z ⊢
        by_cases q : zb_N st (4 * b + p) < 3
        · rw [if_pos q] at z; exact absurd rfl z
        · rw [if_neg q]
    refine br_c (fun z => nm_r (nI_1 p) ?_) (fun z => nm_r (nI_1 p) ?_)
    · rw [e0 z] at hw; exact hw
    · rw [e1 z] at hw; exact hw
end
theorem i_vc_power {k : Nat} {u : SX} {v : SY} (I : i_Rel k u v) (hk : k + 4 ≤ 2052) (v1 : Int32) (v2 : Int32) : wpX_power (fun r u' => wpY_power (fun r' v' => r' = r ∧ i_Rel (k + 4) u' v') v v1 (lw_bz v2)) u v1 (lw_bz v2) := by
  refine zz_el (P := fun u v => wpX_power (fun r u' => wpY_power (fun r' v' => r' = r ∧ i_Rel (k + 4) u' v') v v1 (lw_bz v2)) u v1 (lw_bz v2)) ?_ I
  intro wt rt sh dl la cp on pr ca sc cr cc rp lk co sg st tm ro ep mg cs so ya di tc cb ev he fr w d hI
  have hR : i_Rel (k + 4) (wt, rt, sh, dl, la, cp, on, pr, ca, sc, cr, cc, rp, lk, co, sg, st, tm, ro, ep, zb_xA ep ya, mg, cs, so) (dl, la, cp, wt, rt, sh, on, pr, ca, sc, sg, lk, co, st, tm, ep, ya, so, cs, di, tc, cb, ev, he, fr) := zz_in hI
  have hW := hI.1
  have hC := hI.2.1
  have hV := (zb_INV_PV hI).1
  have hd := (zb_INV_PV hI).2
  have h01 := lw_bz_01 v2
  generalize lw_bz v2 = x at h01
  have hn : vp_nar .boolean x = x := by
    rcases h01 with e | e
    · rw [e]; rfl
    · rw [e]; rfl
  unfold wpX_power
  dsimp only
  rcases zb_ix v1 (n := 6) (by omega) with hx | ⟨b, hb, rfl⟩
  · refine zx_br0 hx (br_t rfl ?_)
    unfold wpY_power
    dsimp only
    exact zy_out1 (m := 5) (by omega) hx (br_f (by decide) ⟨rfl, hR⟩)
  · refine zx_br1 hb (br_f (by decide) ⟨vp_in_nI hb (by omega), ?_⟩)
    rw [nI_clamp (by omega), hn]
    by_cases z : on b = x
    · refine br_t z ?_
      unfold wpY_power
      dsimp only
      refine zy_out0 (m := 5) (by omega) (by omega) (br_t rfl ?_)
      rw [nI_clamp (by omega)]
      exact ⟨vp_in_nI hb (by omega), br_t z ⟨rfl, hR⟩⟩
    · have hW' : zb_WF (upd on b x) pr lk co sg := zb_WF_on hW h01
      refine br_f z (zx_comp hb (fun m hm => ⟨vp_in_nI hb (by omega), nm_e ⟨5, ?_⟩⟩))
      refine zx_pow42 hW' hb hd hV (fun t ht => (hm t ht).trans (zb_CL_cq hW hC hb ht)) (fun cr' cc' rp' ro' mg' hC' => ?_) 5 0 (by omega) (by omega)
      unfold wpY_power
      dsimp only
      refine zy_out0 (m := 5) (by omega) (by omega) (br_t rfl ?_)
      rw [nI_clamp (by omega), hn]
      refine ⟨vp_in_nI hb (by omega), br_f z (zy_before hW hb (fun di tc hD ht => ⟨vp_in_nI hb (by omega), nm_e (zy_after hW' hb hd hV ht (fun di => ⟨rfl, ?_⟩))⟩))⟩
      exact zz_in (zb_INV_pow hI hW' hC' hb (fun j hj => zb_U_onne hj))
end
section
/-! one tick as functions -/
abbrev zb_S : Type := (Nat → Int32) × (Nat → Int32) × (Nat → Int32) × (Nat → Bool)
def zb_eb (E : Nat → Bool) (b : Nat) : Nat → Bool := fun t => E t || decide (t = b)
/-- port i of role r decided -/
def zb_dc (r i : Nat) (s : zb_S) : zb_S :=
  if r = 1 then (upd s.1 i 1, upd s.2.1 i 0, zb_dp i 8 s.2.2.1, if zb_N s.1 i < 3 then s.2.2.2 else zb_eb s.2.2.2 (i / 4))
  else if ¬ r = 0 ∧ s.1 i = 1 then (upd s.1 i 2, upd s.2.1 i 0, s.2.2.1, s.2.2.2) else s
def zb_di (D : Nat → Bool) (R : Nat → Nat) (s : zb_S) : Nat → zb_S
  | 0 => s
  | i + 1 => if D (i / 4) = true then zb_dc (R i) i (zb_di D R s i) else zb_di D R s i
/-- the timer of port i run -/
def zb_tc (dl : Int32) (i : Nat) (s : zb_S) : zb_S :=
  if s.1 i = 2 ∨ s.1 i = 3 then
    (if s.2.1 i + 1 < dl then (s.1, upd s.2.1 i (s.2.1 i + 1), s.2.2.1, s.2.2.2)
     else (upd s.1 i (s.1 i + 1), upd (upd s.2.1 i (s.2.1 i + 1)) i 0, s.2.2.1, if s.1 i + 1 = 4 then zb_eb s.2.2.2 (i / 4) else s.2.2.2))
  else s
def zb_ti (D : Nat → Bool) (dl : Int32) (s : zb_S) : Nat → zb_S
  | 0 => s
  | i + 1 => if D (i / 4) = true then zb_tc dl i (zb_ti D dl s i) else zb_ti D dl s i
def zb_es (E : Nat → Bool) (cq : Nat → Nat → Bool) : Nat → Nat → Bool
  | 0 => fun _ => false
  | b + 1 => fun t => zb_es E cq b t || (E b && cq b t)
/-- the entry k aged -/
def zb_ac (lim : Nat → Int32) (k : Nat) (s : (Nat → Int32) × (Nat → Int32)) : (Nat → Int32) × (Nat → Int32) :=
  if s.1 k = -5 then s
  else if s.2 k + 1 < lim (k / 8) then (s.1, upd s.2 k (s.2 k + 1)) else (upd s.1 k (-5), upd s.2 k (s.2 k + 1))
def zb_ai (lim : Nat → Int32) (s : (Nat → Int32) × (Nat → Int32)) : Nat → (Nat → Int32) × (Nat → Int32)
  | 0 => s
  | k + 1 => zb_ac lim k (zb_ai lim s k)
def zb_lo (_ : Nat) (v : Int32) : Int32 := if v ≤ 0 then v else v - 1
def zb_ra (rt : Int32) (_ : Nat) (v : Int32) : Int32 := if rt ≤ v then v else v + 1
def zb_Dd (wt rt : Int32) (ca : Nat → Int32) (b : Nat) : Bool := decide (¬ rt ≤ ca b ∧ ca b + 1 = wt)
def zb_Dr (wt : Int32) (ca : Nat → Int32) (b : Nat) : Bool := decide (¬ ca b < wt)
def zb_li (sc : Nat → Int32) (la dl : Int32) (b : Nat) : Int32 := if sc b ≤ 0 then la else dl
def zb_sx (E : Nat → Bool) (cq : Nat → Nat → Bool) (sh : Int32) (b : Nat) (sc : Nat → Int32) : Nat → Int32 := zb_pw 6 (fun t v => if zb_es E cq b t = true then sh else v) sc
/-- what a tick leaves as it was good -/
def zb_PT (on lk : Nat → Int32) (d : Nat) (s : zb_S) : Prop := zb_PS s.1 s.2.1 d ∧ zb_PE s.1 s.2.2.1 ∧ ∀ i, i < 24 → zb_PU on lk s.1 i
section
variable {on lk : Nat → Int32} {d : Nat} {s : zb_S}
theorem zb_PU_upd {st : Nat → Int32} {i x : Nat} (h : ∀ j, j < 24 → zb_PU on lk st j) (hx : x < 2 ^ 31) (h0 : 0 < x) (hu : zb_U on lk i = true) : ∀ j, j < 24 → zb_PU on lk (upd st i (nI x)) j := by
  intro j hj
  unfold zb_PU
  rw [zb_N_upd hx]
  by_cases e : j = i
  · subst e
    rw [if_pos rfl]
    exact ⟨fun z => absurd z (by omega), fun z => absurd hu z⟩
  · rw [if_neg e]
    exact h j hj
theorem zb_dc_PT {r i : Nat} (hT : zb_PT on lk d s) (hd : 1 ≤ d) (hi : i < 24) (hr : ¬ r = 0 → zb_U on lk i = true) : zb_PT on lk d (zb_dc r i s) := by
  obtain ⟨st, tm, ep, E⟩ := s
  obtain ⟨hS, hE, hU⟩ := hT
  unfold zb_dc
  dsimp only at hS hE hU ⊢
  by_cases e1 : r = 1
  · rw [if_pos e1]
    exact ⟨zb_PS_upd (s := 1) hS hd (by omega), zb_PE_dp (s := 1) hE hi (by omega), zb_PU_upd (x := 1) hU (by omega) (by omega) (hr (by omega))⟩
  · rw [if_neg e1]
    by_cases e2 : ¬ r = 0 ∧ st i = 1
    · rw [if_pos e2]
      have e3 : zb_N st i = 1 := by unfold zb_N; rw [e2.2]; rfl
      exact ⟨zb_PS_upd (s := 2) hS hd (by omega), zb_PE_lo (s := 2) hE hi (by omega) (by omega), zb_PU_upd (x := 2) hU (by omega) (by omega) (hr e2.1)⟩
    · rw [if_neg e2]
      exact ⟨hS, hE, hU⟩
theorem zb_di_PT {D : Nat → Bool} {R : Nat → Nat} (hT : zb_PT on lk d s) (hd : 1 ≤ d) (hR : ∀ i, i < 24 → ¬ R i = 0 → zb_U on lk i = true) : ∀ i, i ≤ 24 → zb_PT on lk d (zb_di D R s i) := by
  intro i
  induction i with
  | zero => intro _; exact hT
  | succ i ih =>
    intro hi
    simp only [zb_di]
    by_cases e : D (i / 4) = true
    · rw [if_pos e]; exact zb_dc_PT (ih (by omega)) hd (by omega) (hR i (by omega))
    · rw [if_neg e]; exact ih (by omega)
theorem zb_tc_lem {st tm : Nat → Int32} {i : Nat} (hS : zb_PS st tm d) (hi : i < 24) (h : st i = 2 ∨ st i = 3) : (zb_N st i = 2 ∨ zb_N st i = 3) ∧ st i + 1 = nI (zb_N st i + 1) ∧ tm i + 1 = nI (zb_N tm i + 1) := by
  have hs := hS i hi
  refine ⟨?_, ?_, ?_⟩
  · rcases h with e | e
    · left; unfold zb_N; rw [e]; rfl
    · right; unfold zb_N; rw [e]; rfl
  · rw [← nI_1, ← hs.1]
  · rw [← nI_1, ← hs.2.2.1]
theorem zb_PS_tm {st tm : Nat → Int32} {i t : Nat} (hS : zb_PS st tm d) (ht : t < d) (hd : d ≤ 8) (h0 : ¬ zb_N st i = 0) : zb_PS st (upd tm i (nI t)) d := by
  intro j hj
  rw [zb_N_upd (by omega)]
  by_cases e : j = i
  · subst e
    rw [if_pos rfl, pk_us]
    have := hS j hj
    exact ⟨this.1, this.2.1, rfl, ht, fun z => absurd z h0⟩
  · rw [if_neg e, pk_un e]
    exact hS j hj
theorem zb_upd_upd {a : Nat → Int32} {i : Nat} {x y : Int32} : upd (upd a i x) i y = upd a i y := by
  funext j
  by_cases e : j = i
  · subst e; rw [pk_us, pk_us]
  · rw [pk_un e, pk_un e, pk_un e]
theorem zb_tc_PT {dl : Int32} {i : Nat} (hT : zb_PT on lk d s) (hd : 1 ≤ d) (hd8 : d ≤ 8) (hdl : dl = nI d) (hi : i < 24) : zb_PT on lk d (zb_tc dl i s) := by
  obtain ⟨st, tm, ep, E⟩ := s
  obtain ⟨hS, hE, hU⟩ := hT
  unfold zb_tc
  dsimp only at hS hE hU ⊢
  by_cases e1 : st i = 2 ∨ st i = 3
  · rw [if_pos e1]
    obtain ⟨l1, l2, l3⟩ := zb_tc_lem hS hi e1
    have hs := hS i hi
    rw [l2, l3, hdl]
    by_cases e2 : nI (zb_N tm i + 1) < nI d
    · rw [if_pos e2]
      have e3 := (nI_ltI (by omega) (by omega)).mp e2
      exact ⟨zb_PS_tm (st := st) (i := i) hS e3 hd8 (by omega), hE, hU⟩
    · rw [if_neg e2, zb_upd_upd]
      refine ⟨zb_PS_upd hS hd (by omega), zb_PE_hi hE (by omega) (by omega), zb_PU_upd hU (by omega) (by omega) ?_⟩
      have := hU i hi
      unfold zb_PU at this
      by_cases u : zb_U on lk i = true
      · exact u
      · have := this.mpr u; omega
  · rw [if_neg e1]
    exact ⟨hS, hE, hU⟩
theorem zb_ti_PT {D : Nat → Bool} {dl : Int32} (hT : zb_PT on lk d s) (hd : 1 ≤ d) (hd8 : d ≤ 8) (hdl : dl = nI d) : ∀ i, i ≤ 24 → zb_PT on lk d (zb_ti D dl s i) := by
  intro i
  induction i with
  | zero => intro _; exact hT
  | succ i ih =>
    intro hi
    simp only [zb_ti]
    by_cases e : D (i / 4) = true
    · rw [if_pos e]; exact zb_tc_PT (ih (by omega)) hd hd8 hdl (by omega)
    · rw [if_neg e]; exact ih (by omega)
theorem zb_ac_PE {st : Nat → Int32} {lim : Nat → Int32} {k : Nat} {a : (Nat → Int32) × (Nat → Int32)} (h : zb_PE st a.1) : zb_PE st (zb_ac lim k a).1 := by
  unfold zb_ac
  by_cases e : a.1 k = -5
  · rw [if_pos e]; exact h
  · rw [if_neg e]
    by_cases e2 : a.2 k + 1 < lim (k / 8)
    · rw [if_pos e2]; exact h
    · rw [if_neg e2]
      intro j hj
      show upd a.1 k (-5) j = -5 ∨ _
      by_cases e3 : j = k
      · subst e3; exact Or.inl pk_us
      · have e4 : upd a.1 k (-5) j = a.1 j := pk_un e3
        have e5 : zb_N (upd a.1 k (-5)) j = zb_N a.1 j := by unfold zb_N; rw [e4]
        show upd a.1 k (-5) j = -5 ∨ (upd a.1 k (-5) j = nI (zb_N (upd a.1 k (-5)) j) ∧ zb_N (upd a.1 k (-5)) j < 4 ∧ 3 ≤ zb_N st (4 * (j / 8) + zb_N (upd a.1 k (-5)) j))
        rw [e5, e4]
        exact h j hj
theorem zb_ai_PE {st : Nat → Int32} {lim : Nat → Int32} {a : (Nat → Int32) × (Nat → Int32)} (h : zb_PE st a.1) : ∀ k, zb_PE st (zb_ai lim a k).1 := by
  intro k
  induction k with
  | zero => exact h
  | succ k ih => exact zb_ac_PE ih
end
/-- the state that a tick changes: calm, short, state, timer, entries, ages -/
abbrev zb_T6 : Type := (Nat → Int32) × (Nat → Int32) × (Nat → Int32) × (Nat → Int32) × (Nat → Int32) × (Nat → Int32)
def zb_s1 (wt rt : Int32) (R : Nat → Nat) (x : zb_T6) : zb_S := zb_di (zb_Dd wt rt x.1) R (x.2.2.1, x.2.2.2.1, x.2.2.2.2.1, fun _ => false) 24
def zb_s2 (wt rt dl : Int32) (R : Nat → Nat) (x : zb_T6) : zb_S := zb_ti (zb_Dr wt x.1) dl (zb_s1 wt rt R x) 24
def zb_sc2 (wt rt sh dl : Int32) (R : Nat → Nat) (cq : Nat → Nat → Bool) (x : zb_T6) : Nat → Int32 := zb_sx (zb_s2 wt rt dl R x).2.2.2 cq sh 6 (zb_pw 6 zb_lo x.2.1)
def zb_a2 (wt rt sh dl la : Int32) (R : Nat → Nat) (cq : Nat → Nat → Bool) (x : zb_T6) : (Nat → Int32) × (Nat → Int32) := zb_ai (zb_li (zb_sc2 wt rt sh dl R cq x) la dl) ((zb_s2 wt rt dl R x).2.2.1, x.2.2.2.2.2) 48
def zb_tk (wt rt sh dl la : Int32) (R : Nat → Nat) (cq : Nat → Nat → Bool) (x : zb_T6) : zb_T6 :=
  (zb_pw 6 (zb_ra rt) x.1, zb_sc2 wt rt sh dl R cq x, (zb_s2 wt rt dl R x).1, (zb_s2 wt rt dl R x).2.1, (zb_a2 wt rt sh dl la R cq x).1, (zb_a2 wt rt sh dl la R cq x).2)
def zb_PX (on lk : Nat → Int32) (d : Nat) (x : zb_T6) : Prop := zb_PS x.2.2.1 x.2.2.2.1 d ∧ zb_PE x.2.2.1 x.2.2.2.2.1 ∧ ∀ i, i < 24 → zb_PU on lk x.2.2.1 i
section
variable {on lk : Nat → Int32} {d : Nat} {wt rt sh dl la : Int32} {R : Nat → Nat} {cq : Nat → Nat → Bool} {x : zb_T6}
theorem zb_s1_PT (hX : zb_PX on lk d x) (hd : 1 ≤ d) (hR : ∀ i, i < 24 → ¬ R i = 0 → zb_U on lk i = true) (i : Nat) (hi : i ≤ 24) : zb_PT on lk d (zb_di (zb_Dd wt rt x.1) R (x.2.2.1, x.2.2.2.1, x.2.2.2.2.1, fun _ => false) i) :=
  zb_di_PT (s := (x.2.2.1, x.2.2.2.1, x.2.2.2.2.1, fun _ => false)) hX hd hR i hi
theorem zb_s2_PT (hX : zb_PX on lk d x) (hd : 1 ≤ d) (hd8 : d ≤ 8) (hdl : dl = nI d) (hR : ∀ i, i < 24 → ¬ R i = 0 → zb_U on lk i = true) (i : Nat) (hi : i ≤ 24) : zb_PT on lk d (zb_ti (zb_Dr wt x.1) dl (zb_s1 wt rt R x) i) :=
  zb_ti_PT (zb_s1_PT hX hd hR 24 (by omega)) hd hd8 hdl i hi
theorem zb_s2_PT24 (hX : zb_PX on lk d x) (hd : 1 ≤ d) (hd8 : d ≤ 8) (hdl : dl = nI d) (hR : ∀ i, i < 24 → ¬ R i = 0 → zb_U on lk i = true) : zb_PT on lk d (zb_s2 wt rt dl R x) := by
  unfold zb_s2
  exact zb_s2_PT hX hd hd8 hdl hR 24 (by omega)
theorem zb_tk_PX (hX : zb_PX on lk d x) (hd : 1 ≤ d) (hd8 : d ≤ 8) (hdl : dl = nI d) (hR : ∀ i, i < 24 → ¬ R i = 0 → zb_U on lk i = true) : zb_PX on lk d (zb_tk wt rt sh dl la R cq x) := by
  have h := zb_s2_PT24 (wt := wt) (rt := rt) hX hd hd8 hdl hR
  unfold zb_PX zb_tk
  dsimp only
  refine ⟨h.1, ?_, h.2.2⟩
  unfold zb_a2
  exact zb_ai_PE h.2.1 48
end
def zb_tn (wt rt sh dl la : Int32) (R : Nat → Nat) (cq : Nat → Nat → Bool) (x : zb_T6) : Nat → zb_T6
  | 0 => x
  | n + 1 => zb_tk wt rt sh dl la R cq (zb_tn wt rt sh dl la R cq x n)
end
section
/-! the component's tick -/
theorem zb_xA_age {ep ya : Nat → Int32} {k : Nat} (h : ¬ ep k = -5) : upd (zb_xA ep ya) k (zb_xA ep ya k + 1) = zb_xA ep (upd ya k (ya k + 1)) := by
  funext j
  by_cases e : j = k
  · subst e; rw [pk_us, zb_xA0 h, zb_xA0 h, pk_us]
  · rw [pk_un e]; exact zb_xA_cg rfl (pk_un e).symm
section
variable {wt rt sh dl la cp : Int32} {on pr ca sc cr cc rp lk co sg st tm ro ep ea mg cs so ya di tc cb ev he fr : Nat → Int32}
theorem zx_lower {post : SX → Prop} (h : post (wt, rt, sh, dl, la, cp, on, pr, ca, zb_pw 6 zb_lo sc, cr, cc, rp, lk, co, sg, st, tm, ro, ep, ea, mg, cs, so)) : wpX_lowerShort post (wt, rt, sh, dl, la, cp, on, pr, ca, sc, cr, cc, rp, lk, co, sg, st, tm, ro, ep, ea, mg, cs, so) := by
  have l : ∀ n i, i ≤ 6 → 6 - i < n → wX_lowerShort_2 post wt rt sh dl la cp n (nI i) on pr ca (zb_pw i zb_lo sc) cr cc rp lk co sg st tm ro ep ea mg cs so := by
    refine zb_loop (fun n i => wX_lowerShort_2 post wt rt sh dl la cp n (nI i) on pr ca (zb_pw i zb_lo sc) cr cc rp lk co sg st tm ro ep ea mg cs so) 6 ?_ ?_
    · intro n
      exact br_t (nI_le (a := 6) (b := 6) (by omega) (by omega)) h
    · intro n i hi hw
      refine br_f (nI_ge (a := i) (b := 6) hi (by omega)) ⟨vp_in_nI hi (by omega), ?_⟩
      rw [nI_clamp (by omega), zb_pw_ge (Nat.le_refl i)]
      by_cases q : sc i ≤ 0
      · refine br_t q (nm_r (nI_1 i) ?_)
        rw [zb_pw_k (show zb_lo i (sc i) = sc i from if_pos q)]
        exact hw
      · exact br_f q ⟨vp_in_nI hi (by omega), vp_in_nI hi (by omega), nm_r (e' := zb_pw (i + 1) zb_lo sc) (zb_pw_u (show _ = zb_lo i (sc i) from (if_neg q).symm)) (nm_r (nI_1 i) hw)⟩
  have := l 7 0 (by omega) (by omega)
  rw [zb_pw0] at this
  exact Exists.intro 7 this
theorem zx_decided {post : Int32 → Prop} (h : ∀ m, (∀ t, t < 6 → bt m t = zb_Dr wt ca t) → post m) : wpX_decidedBridges post (wt, rt, sh, dl, la, cp, on, pr, ca, sc, cr, cc, rp, lk, co, sg, st, tm, ro, ep, ea, mg, cs, so) := by
  have l : ∀ n i m, i ≤ 6 → 6 - i < n → (∀ t, t < 6 → bt m t = (decide (t < i) && zb_Dr wt ca t)) → wX_decidedBridges_4 post wt rt sh dl la cp on pr ca sc cr cc rp lk co sg st tm ro ep ea mg cs so n m (nI i) := by
    intro n
    induction n with
    | zero => intro i m _ h; omega
    | succ n ih =>
      intro i m hi hn hm
      refine pk_le 6 i (fun hg => h m (fun t ht => ?_)) (fun hl => ⟨vp_in_nI hl (by omega), ?_⟩)
      · rw [hm t ht, decide_eq_true (by omega), Bool.true_and]
      · rw [nI_clamp (by omega)]
        by_cases q : ca i < wt
        · refine br_t q (nm_r (nI_1 i) (ih (i + 1) _ (by omega) (by omega) (fun t ht => ?_)))
          rw [hm t ht]
          by_cases e : t = i
          · subst e
            have : zb_Dr wt ca t = false := decide_eq_false (fun z => z q)
            rw [this, Bool.and_false, Bool.and_false]
          · rw [show decide (t < i) = decide (t < i + 1) from decide_eq_decide.mpr (by omega)]
        · refine br_f q (nm_e (nm_r (nI_1 i) (ih (i + 1) _ (by omega) (by omega) (fun t ht => ?_))))
          rw [zb_bor m (by omega) (by omega), hm t ht]
          by_cases e : t = i
          · subst e
            have : zb_Dr wt ca t = true := decide_eq_true q
            rw [this, decide_eq_true rfl, decide_eq_true (by omega : t < t + 1), Bool.or_true, Bool.and_true]
          · rw [show decide (t < i) = decide (t < i + 1) from decide_eq_decide.mpr (by omega), decide_eq_false e, Bool.or_false]
  exact Exists.intro 7 (l 7 0 0 (by omega) (by omega) (fun t _ => by rw [b_0, decide_eq_false (by omega), Bool.false_and]))
theorem zx_decide {post : Int32 → SX → Prop} {D : Nat → Bool} {R : Nat → Nat} {s : zb_S} {d b : Nat} (hro : ∀ i, i < 24 → ro i = nI (R i) ∧ R i ≤ 3)
    (hT : ∀ i, i ≤ 24 → zb_PS (zb_di D R s i).1 (zb_di D R s i).2.1 d ∧ zb_PE (zb_di D R s i).1 (zb_di D R s i).2.2.1) (hb : b < 6) (hD : D b = true)
    (h : ∀ x : Int32, (x = 0 ∨ x = 1) → (∀ t, (zb_di D R s (4 * b + 4)).2.2.2 t = ((zb_di D R s (4 * b)).2.2.2 t || (decide (t = b) && decide (x = 1)))) → post x (wt, rt, sh, dl, la, cp, on, pr, ca, sc, cr, cc, rp, lk, co, sg, (zb_di D R s (4 * b + 4)).1, (zb_di D R s (4 * b + 4)).2.1, ro, (zb_di D R s (4 * b + 4)).2.2.1, zb_xA (zb_di D R s (4 * b + 4)).2.2.1 ya, mg, cs, so)) :
    wpX_decide post (wt, rt, sh, dl, la, cp, on, pr, ca, sc, cr, cc, rp, lk, co, sg, (zb_di D R s (4 * b)).1, (zb_di D R s (4 * b)).2.1, ro, (zb_di D R s (4 * b)).2.2.1, zb_xA (zb_di D R s (4 * b)).2.2.1 ya, mg, cs, so) (nI b) := by
  have l : ∀ n p x, p ≤ 4 → 4 - p < n → (x = 0 ∨ x = 1) → (∀ t, (zb_di D R s (4 * b + p)).2.2.2 t = ((zb_di D R s (4 * b)).2.2.2 t || (decide (t = b) && decide (x = 1)))) →
      wX_decide_4 post (nI b) n x (nI p) wt rt sh dl la cp on pr ca sc cr cc rp lk co sg ((zb_di D R s (4 * b + p)).1) ((zb_di D R s (4 * b + p)).2.1) ro ((zb_di D R s (4 * b + p)).2.2.1) (zb_xA (zb_di D R s (4 * b + p)).2.2.1 ya) mg cs so := by
    intro n
    induction n with
    | zero => intro p x _ h; omega
    | succ n ih =>
      intro p x hp hn hx hE
      refine pk_le 4 p (fun hg => ⟨zb_nb hx, ?_⟩) (fun hl => nm_r (zb_ix4 b p) ?_)
      · have e : p = 4 := by omega
        subst e
        exact h x hx hE
      · have hi : 4 * b + p < 24 := by omega
        have eq : zb_di D R s (4 * b + (p + 1)) = zb_dc (R (4 * b + p)) (4 * b + p) (zb_di D R s (4 * b + p)) := by
          show zb_di D R s (4 * b + p + 1) = _
          simp only [zb_di]
          rw [if_pos (by rw [show (4 * b + p) / 4 = b from by omega]; exact hD)]
        have ih' := fun x => ih (p + 1) x (by omega) (by omega)
        rw [eq] at ih'
        have hT' := hT (4 * b + p) (by omega)
        obtain ⟨er, hr3⟩ := hro _ hi
        revert ih' hE hT'
        generalize zb_di D R s (4 * b + p) = q
        intro hE ih' hT'
        obtain ⟨st, tm, ep, E⟩ := q
        obtain ⟨hS, hP⟩ := hT'
        unfold zb_dc at ih'
        dsimp only at hS hP hE ih' ⊢
        have hs := hS _ hi
        refine ⟨vp_in_nI hi (by omega), ?_⟩
        rw [nI_clamp (by omega), er]
        by_cases r1 : R (4 * b + p) = 1
        · simp only [if_pos r1] at ih'
          rw [r1]
          refine br_t rfl ?_
          by_cases q3 : zb_N st (4 * b + p) < 3
          · simp only [if_pos q3] at ih'
            refine zx_move0 (t := 1) hi hs.1 hs.2.1 (by omega) (Or.inl q3) (br_t rfl (nm_r (nI_1 p) ?_))
            have := ih' x hx hE
            rw [zb_PE_no hP hi q3] at this
            exact this
          · simp only [if_neg q3] at ih'
            refine zx_move1 (t := 1) hi hs.1 (by omega) hs.2.1 (by omega) (br_f (by decide) (nm_r (nI_1 p) (ih' 1 (Or.inr rfl) (fun t => ?_))))
            unfold zb_eb
            rw [hE t, show (4 * b + p) / 4 = b from by omega]
            cases (zb_di D R s (4 * b)).2.2.2 t <;> cases decide (t = b) <;> simp
        · simp only [if_neg r1] at ih'
          refine br_f (fun z => r1 (zb_nI_inj (by omega) (by omega) z)) ⟨vp_in_nI hi (by omega), pk_eq (R (4 * b + p)) 0 (fun g => nm_r (nI_1 p) ?_) (fun g => ⟨vp_in_nI hi (by omega), ?_⟩)⟩
          · simp only [if_neg (show ¬ (¬ R (4 * b + p) = 0 ∧ st (4 * b + p) = 1) from fun z => z.1 g)] at ih'
            exact ih' x hx hE
          · by_cases z : st (4 * b + p) = 1
            · simp only [if_pos (show ¬ R (4 * b + p) = 0 ∧ st (4 * b + p) = 1 from ⟨g, z⟩)] at ih'
              refine br_t z (zx_move0 (s := 1) (t := 2) hi z (by omega) (by omega) (Or.inl (by omega)) (nm_r (nI_1 p) (ih' x hx hE)))
            · simp only [if_neg (show ¬ (¬ R (4 * b + p) = 0 ∧ st (4 * b + p) = 1) from fun y => z y.2)] at ih'
              exact br_f z (nm_r (nI_1 p) (ih' x hx hE))
  refine Exists.intro 5 (l 5 0 0 (by omega) (by omega) (Or.inl rfl) (fun t => ?_))
  rw [decide_eq_false (show ¬ (0 : Int32) = 1 by decide), Bool.and_false, Bool.or_false]
  rfl
theorem zx_raise {post : Int32 → SX → Prop} {R : Nat → Nat} {s : zb_S} {d : Nat} (hro : ∀ i, i < 24 → ro i = nI (R i) ∧ R i ≤ 3)
    (hT : ∀ i, i ≤ 24 → zb_PS (zb_di (zb_Dd wt rt ca) R s i).1 (zb_di (zb_Dd wt rt ca) R s i).2.1 d ∧ zb_PE (zb_di (zb_Dd wt rt ca) R s i).1 (zb_di (zb_Dd wt rt ca) R s i).2.2.1) (h0 : ∀ t, s.2.2.2 t = false)
    (h : ∀ m : Int32, (∀ t, t < 6 → bt m t = (zb_di (zb_Dd wt rt ca) R s 24).2.2.2 t) → post m (wt, rt, sh, dl, la, cp, on, pr, zb_pw 6 (zb_ra rt) ca, sc, cr, cc, rp, lk, co, sg, (zb_di (zb_Dd wt rt ca) R s 24).1, (zb_di (zb_Dd wt rt ca) R s 24).2.1, ro, (zb_di (zb_Dd wt rt ca) R s 24).2.2.1, zb_xA (zb_di (zb_Dd wt rt ca) R s 24).2.2.1 ya, mg, cs, so)) :
    wpX_raiseCalm post (wt, rt, sh, dl, la, cp, on, pr, ca, sc, cr, cc, rp, lk, co, sg, s.1, s.2.1, ro, s.2.2.1, zb_xA s.2.2.1 ya, mg, cs, so) := by
  have l : ∀ n b m, b ≤ 6 → 6 - b < n → (∀ t, t < 6 → bt m t = (zb_di (zb_Dd wt rt ca) R s (4 * b)).2.2.2 t) →
      wX_raiseCalm_4 post n m (nI b) wt rt sh dl la cp on pr (zb_pw b (zb_ra rt) ca) sc cr cc rp lk co sg ((zb_di (zb_Dd wt rt ca) R s (4 * b)).1) ((zb_di (zb_Dd wt rt ca) R s (4 * b)).2.1) ro ((zb_di (zb_Dd wt rt ca) R s (4 * b)).2.2.1) (zb_xA (zb_di (zb_Dd wt rt ca) R s (4 * b)).2.2.1 ya) mg cs so := by
    intro n
    induction n with
    | zero => intro b m _ h; omega
    | succ n ih =>
      intro b m hb hn hm
      refine pk_le 6 b (fun hg => ?_) (fun hl => ⟨vp_in_nI hl (by omega), ?_⟩)
      · have e : b = 6 := by omega
        subst e
        exact h m hm
      · have skip : ¬ zb_Dd wt rt ca b = true → zb_di (zb_Dd wt rt ca) R s (4 * (b + 1)) = zb_di (zb_Dd wt rt ca) R s (4 * b) := fun z => by
          show zb_di (zb_Dd wt rt ca) R s (4 * b + 3 + 1) = _
          simp only [zb_di]
          rw [if_neg (by rw [show (4 * b + 3) / 4 = b from by omega]; exact z), if_neg (by rw [show (4 * b + 2) / 4 = b from by omega]; exact z), if_neg (by rw [show (4 * b + 1) / 4 = b from by omega]; exact z), if_neg (by rw [show (4 * b) / 4 = b from by omega]; exact z)]
        rw [nI_clamp (by omega), zb_pw_ge (Nat.le_refl b)]
        by_cases q : rt ≤ ca b
        · refine br_t q (nm_r (nI_1 b) ?_)
          have e1 := skip (fun z => (of_decide_eq_true z).1 q)
          have := ih (b + 1) m (by omega) (by omega) (by rw [e1]; exact hm)
          rw [e1, ← zb_pw_k (show zb_ra rt b (ca b) = ca b from if_pos q)] at this
          exact this
        · have e2 : upd (zb_pw b (zb_ra rt) ca) b (ca b + 1) = zb_pw (b + 1) (zb_ra rt) ca := zb_pw_u (show _ = zb_ra rt b (ca b) from (if_neg q).symm)
          refine br_f q ⟨vp_in_nI hl (by omega), vp_in_nI hl (by omega), nm_r e2 ⟨vp_in_nI hl (by omega), ?_⟩⟩
          rw [zb_pw_lt (by omega), show zb_ra rt b (ca b) = ca b + 1 from if_neg q]
          by_cases z : ca b + 1 = wt
          · refine br_t z (zx_decide (b := b) hro hT hl (decide_eq_true ⟨q, z⟩) (fun x hx hE => ?_))
            have e4 : 4 * b + 4 = 4 * (b + 1) := by omega
            rw [e4] at hE ⊢
            refine br_c (fun y => nm_r (nI_1 b) (ih (b + 1) _ (by omega) (by omega) (fun t ht => ?_))) (fun y => nm_e (nm_r (nI_1 b) (ih (b + 1) _ (by omega) (by omega) (fun t ht => ?_))))
            · rw [hm t ht, hE t, y, decide_eq_false (show ¬ (0 : Int32) = 1 by decide), Bool.and_false, Bool.or_false]
            · rw [zb_bor m (by omega) (by omega), hm t ht, hE t, hx.resolve_left y, decide_eq_true rfl, Bool.and_true]
          · refine br_f z (nm_r (nI_1 b) ?_)
            have e1 := skip (fun y => z (of_decide_eq_true y).2)
            have := ih (b + 1) m (by omega) (by omega) (by rw [e1]; exact hm)
            rw [e1] at this
            exact this
  have := l 7 0 0 (by omega) (by omega) (fun t _ => by rw [b_0]; exact (h0 t).symm)
  rw [zb_pw0] at this
  exact Exists.intro 7 this
end
end
section
/-! the component's tick: timers, events, ageing -/
section
variable {wt rt sh dl la cp : Int32} {on pr ca sc cr cc rp lk co sg st tm ro ep ea mg cs so ya di tc cb ev he fr : Nat → Int32}
theorem zx_timers {post : Int32 → SX → Prop} {D : Nat → Bool} {s : zb_S} {d : Nat} {x1 : Int32} (hd8 : d ≤ 8) (hdl : dl = nI d)
    (hT : ∀ i, i ≤ 24 → zb_PS (zb_ti D dl s i).1 (zb_ti D dl s i).2.1 d) (hx1 : ∀ t, t < 6 → bt x1 t = D t)
    (h : ∀ m : Int32, (∀ t, t < 6 → (zb_ti D dl s 24).2.2.2 t = (s.2.2.2 t || bt m t)) → post m (wt, rt, sh, dl, la, cp, on, pr, ca, sc, cr, cc, rp, lk, co, sg, (zb_ti D dl s 24).1, (zb_ti D dl s 24).2.1, ro, (zb_ti D dl s 24).2.2.1, zb_xA (zb_ti D dl s 24).2.2.1 ya, mg, cs, so)) :
    wpX_runTimers post (wt, rt, sh, dl, la, cp, on, pr, ca, sc, cr, cc, rp, lk, co, sg, s.1, s.2.1, ro, s.2.2.1, zb_xA s.2.2.1 ya, mg, cs, so) x1 := by
  have l : ∀ n i m, i ≤ 24 → 24 - i < n → (∀ t, t < 6 → (zb_ti D dl s i).2.2.2 t = (s.2.2.2 t || bt m t)) →
      wX_runTimers_4 post x1 n m (nI i) wt rt sh dl la cp on pr ca sc cr cc rp lk co sg ((zb_ti D dl s i).1) ((zb_ti D dl s i).2.1) ro ((zb_ti D dl s i).2.2.1) (zb_xA (zb_ti D dl s i).2.2.1 ya) mg cs so := by
    intro n
    induction n with
    | zero => intro i m _ h; omega
    | succ n ih =>
      intro i m hi hn hE
      refine pk_le 24 i (fun hg => ?_) (fun hl => nm_r (zb_sh2 (by omega)) ⟨vp_in_nI hl (by omega), ?_⟩)
      · have e : i = 24 := by omega
        subst e
        exact h m hE
      · have ih' := fun m => ih (i + 1) m (by omega) (by omega)
        have eq : zb_ti D dl s (i + 1) = if D (i / 4) = true then zb_tc dl i (zb_ti D dl s i) else zb_ti D dl s i := rfl
        rw [eq] at ih'
        have hT' := hT i hi
        revert ih' hE hT'
        generalize zb_ti D dl s i = q
        intro hE ih' hT'
        obtain ⟨st, tm, ep, E⟩ := q
        dsimp only at hT' hE ih' ⊢
        rw [nI_clamp (by omega)]
        have keep : wX_runTimers_4 post x1 n m (nI (i + 1)) wt rt sh dl la cp on pr ca sc cr cc rp lk co sg st tm ro ep (zb_xA ep ya) mg cs so → wX_runTimers_40 post (wX_runTimers_4 post x1 n) x1 m (nI i) (nI (i / 4)) 0 wt rt sh dl la cp on pr ca sc cr cc rp lk co sg st tm ro ep (zb_xA ep ya) mg cs so := fun z => br_t rfl (nm_r (nI_1 i) z)
        have run : (st i = 2 ∨ st i = 3) → wX_runTimers_40 post (wX_runTimers_4 post x1 n) x1 m (nI i) (nI (i / 4)) 1 wt rt sh dl la cp on pr ca sc cr cc rp lk co sg st tm ro ep (zb_xA ep ya) mg cs so := fun z => by
          obtain ⟨l1, l2, l3⟩ := zb_tc_lem hT' hl z
          have hs := hT' i hl
          unfold wX_runTimers_40
          refine br_f (by decide) ?_
          by_cases y : D (i / 4) = true
          · rw [if_pos y] at ih'
            unfold zb_tc at ih'
            dsimp only at ih'
            rw [if_pos z] at ih'
            refine br_f (zb_bz1 (by omega) ((hx1 _ (by omega)).trans y)) ⟨vp_in_nI hl (by omega), vp_in_nI hl (by omega), nm_e ⟨vp_in_nI hl (by omega), ?_⟩⟩
            rw [nI_clamp (by omega), pk_us]
            by_cases c : tm i + 1 < dl
            · rw [if_pos c] at ih'
              exact br_t c (nm_r (nI_1 i) (ih' m hE))
            · rw [if_neg c] at ih'
              refine br_f c ⟨vp_in_nI hl (by omega), nm_r l2 ?_⟩
              refine zx_move0 hl hs.1 (by omega) (by omega) (by omega) ?_
              rw [l2] at ih'
              refine pk_eq (zb_N st i + 1) 4 (fun g => nm_e (nm_r (nI_1 i) ?_)) (fun g => nm_r (nI_1 i) ?_)
              · rw [if_pos (show nI (zb_N st i + 1) = 4 by rw [g]; rfl)] at ih'
                refine ih' _ (fun t ht => ?_)
                show (E t || decide (t = i / 4)) = _
                rw [zb_bor m (by omega) (by omega), hE t ht, Bool.or_assoc]
              · rw [if_neg (show ¬ nI (zb_N st i + 1) = 4 from fun y => g (zb_nI_inj (by omega) (by omega) y))] at ih'
                exact ih' m hE
          · rw [if_neg y] at ih'
            exact br_t (zb_bz0 (by omega) (by rw [hx1 _ (by omega)]; exact y)) (nm_r (nI_1 i) (ih' m hE))
        by_cases z2 : st i = 2
        · exact br_t z2 (run (Or.inl z2))
        · refine br_f z2 ⟨vp_in_nI hl (by omega), ?_⟩
          by_cases z3 : st i = 3
          · exact br_t z3 (run (Or.inr z3))
          · refine br_f z3 (keep ?_)
            have e5 : zb_tc dl i (st, tm, ep, E) = (st, tm, ep, E) := if_neg (fun z => z.elim z2 z3)
            rw [e5, ite_self] at ih'
            exact ih' m hE
  exact Exists.intro 25 (l 25 0 0 (by omega) (by omega) (fun t _ => by rw [b_0, Bool.or_false]; rfl))
theorem zx_age29 {post : SX → Prop} {J2 : Int32 → Int32 → Int32 → Int32 → Int32 → Int32 → Int32 → (Nat → Int32) → (Nat → Int32) → (Nat → Int32) → (Nat → Int32) → (Nat → Int32) → (Nat → Int32) → (Nat → Int32) → (Nat → Int32) → (Nat → Int32) → (Nat → Int32) → (Nat → Int32) → (Nat → Int32) → (Nat → Int32) → (Nat → Int32) → (Nat → Int32) → (Nat → Int32) → (Nat → Int32) → (Nat → Int32) → Prop}
    {lim : Nat → Int32} {a : (Nat → Int32) × (Nat → Int32)} {b : Nat} (hb : b < 6)
    (h : J2 (nI (b + 1)) wt rt sh dl la cp on pr ca sc cr cc rp lk co sg st tm ro ((zb_ai lim a (8 * b + 8)).1) (zb_xA (zb_ai lim a (8 * b + 8)).1 (zb_ai lim a (8 * b + 8)).2) mg cs so) :
    ∀ n t, t ≤ 8 → 8 - t < n → wX_ageTables_29 post J2 (nI b) (lim b) n (nI t) wt rt sh dl la cp on pr ca sc cr cc rp lk co sg st tm ro ((zb_ai lim a (8 * b + t)).1) (zb_xA (zb_ai lim a (8 * b + t)).1 (zb_ai lim a (8 * b + t)).2) mg cs so := by
  refine zb_loop (fun n t => wX_ageTables_29 post J2 (nI b) (lim b) n (nI t) wt rt sh dl la cp on pr ca sc cr cc rp lk co sg st tm ro ((zb_ai lim a (8 * b + t)).1) (zb_xA (zb_ai lim a (8 * b + t)).1 (zb_ai lim a (8 * b + t)).2) mg cs so) 8 ?_ ?_
  · intro n
    exact br_t (nI_le (a := 8) (b := 8) (by omega) (by omega)) (nm_r (nI_1 b) h)
  · intro n t ht hw
    have eq : zb_ai lim a (8 * b + (t + 1)) = zb_ac lim (8 * b + t) (zb_ai lim a (8 * b + t)) := rfl
    rw [eq] at hw
    revert hw
    generalize zb_ai lim a (8 * b + t) = q
    intro hw
    obtain ⟨ep, ya⟩ := q
    unfold zb_ac at hw
    dsimp only at hw ⊢
    rw [show (8 * b + t) / 8 = b from by omega] at hw
    refine br_f (nI_ge (a := t) (b := 8) ht (by omega)) (nm_r (zb_ix8 b t) ⟨vp_in_nI (by omega) (by omega), ?_⟩)
    rw [nI_clamp (by omega)]
    by_cases z : ep (8 * b + t) = -5
    · rw [if_pos z] at hw
      exact br_t z (nm_r (nI_1 t) hw)
    · rw [if_neg z] at hw
      refine br_f z ⟨vp_in_nI (by omega) (by omega), vp_in_nI (by omega) (by omega), nm_r (zb_xA_age z) ⟨vp_in_nI (by omega) (by omega), ?_⟩⟩
      rw [zb_xA0 z, pk_us]
      by_cases c : ya (8 * b + t) + 1 < lim b
      · rw [if_pos c] at hw
        exact br_t c (nm_r (nI_1 t) hw)
      · rw [if_neg c] at hw
        exact br_f c (zx_drop (by omega) (nm_r (nI_1 t) hw))
theorem zx_age {post : SX → Prop} {a : (Nat → Int32) × (Nat → Int32)} (h : post (wt, rt, sh, dl, la, cp, on, pr, ca, sc, cr, cc, rp, lk, co, sg, st, tm, ro, (zb_ai (zb_li sc la dl) a 48).1, zb_xA (zb_ai (zb_li sc la dl) a 48).1 (zb_ai (zb_li sc la dl) a 48).2, mg, cs, so)) : wpX_ageTables post (wt, rt, sh, dl, la, cp, on, pr, ca, sc, cr, cc, rp, lk, co, sg, st, tm, ro, a.1, zb_xA a.1 a.2, mg, cs, so) := by
  have l : ∀ n b, b ≤ 6 → 6 - b < n → wX_ageTables_2 post n (nI b) wt rt sh dl la cp on pr ca sc cr cc rp lk co sg st tm ro ((zb_ai (zb_li sc la dl) a (8 * b)).1) (zb_xA (zb_ai (zb_li sc la dl) a (8 * b)).1 (zb_ai (zb_li sc la dl) a (8 * b)).2) mg cs so := by
    refine zb_loop (fun n b => wX_ageTables_2 post n (nI b) wt rt sh dl la cp on pr ca sc cr cc rp lk co sg st tm ro ((zb_ai (zb_li sc la dl) a (8 * b)).1) (zb_xA (zb_ai (zb_li sc la dl) a (8 * b)).1 (zb_ai (zb_li sc la dl) a (8 * b)).2) mg cs so) 6 ?_ ?_
    · intro n
      exact br_t (nI_le (a := 6) (b := 6) (by omega) (by omega)) h
    · intro n b hb hw
      refine br_f (nI_ge (a := b) (b := 6) hb (by omega)) ⟨vp_in_nI hb (by omega), ?_⟩
      have k := zx_age29 (post := post) (J2 := wX_ageTables_2 post n) (lim := zb_li sc la dl) (a := a) hb hw 9 0 (by omega) (by omega)
      rw [nI_clamp (by omega)]
      unfold zb_li at k
      by_cases z : sc b ≤ 0
      · rw [if_pos z] at k
        exact br_t z ⟨9, k⟩
      · rw [if_neg z] at k
        exact br_f z ⟨9, k⟩
  exact Exists.intro 7 (l 7 0 (by omega) (by omega))
theorem zx_ev24 {post : SX → Prop} {E : Nat → Bool} {cq : Nat → Nat → Bool} {m : Int32} {a : (Nat → Int32) × (Nat → Int32)} (hm : ∀ t, t < 6 → bt m t = E t) (hq : ∀ b t, b < 6 → t < 6 → decide (cr t = cr b) = cq b t)
    (h : post (wt, rt, sh, dl, la, cp, on, pr, ca, zb_sx E cq sh 6 sc, cr, cc, rp, lk, co, sg, st, tm, ro, (zb_ai (zb_li (zb_sx E cq sh 6 sc) la dl) a 48).1, zb_xA (zb_ai (zb_li (zb_sx E cq sh 6 sc) la dl) a 48).1 (zb_ai (zb_li (zb_sx E cq sh 6 sc) la dl) a 48).2, mg, cs, so)) :
    ∀ n b, b ≤ 6 → 6 - b < n → wX_oneTick_24 post m n (nI b) wt rt sh dl la cp on pr ca (zb_sx E cq sh b sc) cr cc rp lk co sg st tm ro a.1 (zb_xA a.1 a.2) mg cs so := by
  refine zb_loop (fun n b => wX_oneTick_24 post m n (nI b) wt rt sh dl la cp on pr ca (zb_sx E cq sh b sc) cr cc rp lk co sg st tm ro a.1 (zb_xA a.1 a.2) mg cs so) 6 ?_ ?_
  · intro n
    exact br_t (nI_le (a := 6) (b := 6) (by omega) (by omega)) (zx_age h)
  · intro n b hb hw
    refine br_f (nI_ge (a := b) (b := 6) hb (by omega)) ?_
    by_cases z : E b = true
    · refine br_f (zb_bz1 (by omega) ((hm b hb).trans z)) (zx_comp hb (fun m2 hm2 => ?_))
      refine zx_short (P := fun t => cq b t) (fun t ht => (hm2 t ht).trans (hq b t hb ht)) ?_
      have e : zb_pw 6 (fun t v => if cq b t = true then sh else v) (zb_sx E cq sh b sc) = zb_sx E cq sh (b + 1) sc := by
        unfold zb_sx
        rw [zb_pw_pw]
        refine zb_pw_cg (fun t _ => ?_)
        show _ = if (zb_es E cq b t || (E b && cq b t)) = true then sh else _
        rw [z, Bool.true_and]
        by_cases y : cq b t = true
        · rw [if_pos y, if_pos (by rw [y, Bool.or_true])]
        · rw [if_neg y, Bool.eq_false_iff.mpr y, Bool.or_false]
      rw [e]
      exact nm_r (nI_1 b) hw
    · refine br_t (zb_bz0 (by omega) (by rw [hm b hb]; exact z)) (nm_r (nI_1 b) ?_)
      have e : zb_sx E cq sh b sc = zb_sx E cq sh (b + 1) sc := by
        unfold zb_sx
        refine zb_pw_cg (fun t _ => ?_)
        show _ = if (zb_es E cq b t || (E b && cq b t)) = true then sh else _
        rw [Bool.eq_false_iff.mpr z, Bool.false_and, Bool.or_false]
      rw [e]
      exact hw
end
end
section
/-! the component's tick, joined -/
section
variable {wt rt sh dl la cp : Int32} {on pr ca sc cr cc rp lk co sg st tm ro ep ea mg cs so ya di tc cb ev he fr : Nat → Int32}
theorem zx_tick1 {post : SX → Prop} {R : Nat → Nat} {cq : Nat → Nat → Bool} {d : Nat} {x : zb_T6} (hX : zb_PX on lk d x) (hd : 1 ≤ d) (hd8 : d ≤ 8) (hdl : dl = nI d)
    (hro : ∀ i, i < 24 → ro i = nI (R i) ∧ R i ≤ 3) (hR : ∀ i, i < 24 → ¬ R i = 0 → zb_U on lk i = true) (hq : ∀ b t, b < 6 → t < 6 → decide (cr t = cr b) = cq b t)
    (h : post (wt, rt, sh, dl, la, cp, on, pr, (zb_tk wt rt sh dl la R cq x).1, (zb_tk wt rt sh dl la R cq x).2.1, cr, cc, rp, lk, co, sg, (zb_tk wt rt sh dl la R cq x).2.2.1, (zb_tk wt rt sh dl la R cq x).2.2.2.1, ro, (zb_tk wt rt sh dl la R cq x).2.2.2.2.1, zb_xA (zb_tk wt rt sh dl la R cq x).2.2.2.2.1 (zb_tk wt rt sh dl la R cq x).2.2.2.2.2, mg, cs, so)) :
    wpX_oneTick post (wt, rt, sh, dl, la, cp, on, pr, x.1, x.2.1, cr, cc, rp, lk, co, sg, x.2.2.1, x.2.2.2.1, ro, x.2.2.2.2.1, zb_xA x.2.2.2.2.1 x.2.2.2.2.2, mg, cs, so) := by
  unfold zb_tk at h
  dsimp only at h
  unfold wpX_oneTick
  dsimp only
  refine zx_lower ?_
  refine zx_decided (fun m1 hm1 => ?_)
  refine zx_raise (s := (x.2.2.1, x.2.2.2.1, x.2.2.2.2.1, fun _ => false)) (d := d) hro (fun i hi => ⟨(zb_s1_PT hX hd hR i hi).1, (zb_s1_PT hX hd hR i hi).2.1⟩) (fun _ => rfl) (fun m2 hm2 => ?_)
  have e1 : zb_di (zb_Dd wt rt x.1) R (x.2.2.1, x.2.2.2.1, x.2.2.2.2.1, fun _ => false) 24 = zb_s1 wt rt R x := rfl
  rw [e1] at hm2 ⊢
  refine zx_timers (s := zb_s1 wt rt R x) (D := zb_Dr wt x.1) (d := d) hd8 hdl (fun i hi => (zb_s2_PT hX hd hd8 hdl hR i hi).1) hm1 (fun m3 hm3 => nm_e ⟨7, ?_⟩)
  have e2 : zb_ti (zb_Dr wt x.1) dl (zb_s1 wt rt R x) 24 = zb_s2 wt rt dl R x := rfl
  rw [e2] at hm3 ⊢
  have k := zx_ev24 (post := post) (E := (zb_s2 wt rt dl R x).2.2.2) (cq := cq) (m := m2 ||| m3) (a := ((zb_s2 wt rt dl R x).2.2.1, x.2.2.2.2.2)) (sc := zb_pw 6 zb_lo x.2.1) (fun t ht => by rw [b_or, hm2 t ht, hm3 t ht]) hq h 7 0 (by omega) (by omega)
  have e0 : zb_sx (zb_s2 wt rt dl R x).2.2.2 cq sh 0 (zb_pw 6 zb_lo x.2.1) = zb_pw 6 zb_lo x.2.1 := zb_pw_id (fun t _ => if_neg (show ¬ false = true by decide))
  rw [e0] at k
  exact k
end
end
section
/-! the reference's tick -/
section
variable {wt rt sh dl la cp : Int32} {on pr ca sc cr cc rp lk co sg st tm ro ep ea mg cs so ya di tc cb ev he fr : Nat → Int32} {post : SY → Prop}
theorem zy_t302 {a : (Nat → Int32) × (Nat → Int32)} (h : post (dl, la, cp, wt, rt, sh, on, pr, ca, sc, sg, lk, co, st, tm, (zb_ai (zb_li sc la dl) a 48).1, (zb_ai (zb_li sc la dl) a 48).2, so, cs, di, tc, cb, ev, he, fr)) : ∃ n, wY_oneTick_302 post dl la cp wt rt sh n 0 on pr ca sc sg lk co st tm a.1 a.2 so cs di tc cb ev he fr := by
  have l : ∀ n k, k ≤ 48 → 48 - k < n → wY_oneTick_302 post dl la cp wt rt sh n (nI k) on pr ca sc sg lk co st tm ((zb_ai (zb_li sc la dl) a k).1) ((zb_ai (zb_li sc la dl) a k).2) so cs di tc cb ev he fr := by
    refine zb_loop (fun n k => wY_oneTick_302 post dl la cp wt rt sh n (nI k) on pr ca sc sg lk co st tm ((zb_ai (zb_li sc la dl) a k).1) ((zb_ai (zb_li sc la dl) a k).2) so cs di tc cb ev he fr) 48 ?_ ?_
    · intro n
      exact br_t (nI_le (a := 48) (b := 48) (by omega) (by omega)) h
    · intro n k hk hw
      have eq : zb_ai (zb_li sc la dl) a (k + 1) = zb_ac (zb_li sc la dl) k (zb_ai (zb_li sc la dl) a k) := rfl
      rw [eq] at hw
      revert hw
      generalize zb_ai (zb_li sc la dl) a k = q
      intro hw
      obtain ⟨ep, ya⟩ := q
      unfold zb_ac at hw
      dsimp only at hw ⊢
      refine br_f (nI_ge (a := k) (b := 48) hk (by omega)) ⟨vp_in_nI hk (by omega), ?_⟩
      rw [nI_clamp (by omega)]
      by_cases z : ep k = -5
      · rw [if_pos z] at hw
        exact br_t z (nm_r (nI_1 k) hw)
      · rw [if_neg z] at hw
        refine br_f z ⟨vp_in_nI hk (by omega), vp_in_nI hk (by omega), nm_e ⟨by decide, ?_⟩⟩
        rw [zb_dv8 (by omega)]
        refine ⟨vp_in_nI (by omega) (by omega), ?_⟩
        rw [nI_clamp (by omega)]
        have h352 : ∀ z0 : Int32, z0 = zb_li sc la dl (k / 8) → wY_oneTick_352 post (wY_oneTick_302 post dl la cp wt rt sh n) (nI k) z0 dl la cp wt rt sh on pr ca sc sg lk co st tm ep (upd ya k (ya k + 1)) so cs di tc cb ev he fr := fun z0 hz => by
          unfold wY_oneTick_352
          rw [nI_clamp (by omega), pk_us]
          refine ⟨vp_in_nI hk (by omega), ?_⟩
          rw [← hz] at hw
          by_cases c : ya k + 1 < z0
          · rw [if_pos c] at hw
            exact br_t c (nm_r (nI_1 k) hw)
          · rw [if_neg c] at hw
            exact br_f c ⟨vp_in_nI hk (by omega), nm_e (nm_r (nI_1 k) hw)⟩
        by_cases y : sc (k / 8) ≤ 0
        · exact br_t y (h352 la (if_pos y).symm)
        · exact br_f y (h352 dl (if_neg y).symm)
  exact ⟨49, l 49 0 (by omega) (by omega)⟩
theorem zy_t239 {E : Nat → Bool} {cq : Nat → Nat → Bool} (hev : ∀ b, b < 6 → ev b = if E b = true then 1 else 0) (hq : ∀ b t, b < 6 → t < 6 → ((1000000 : Int32) ≤ di (6 * b + t) ↔ ¬ cq b t = true))
    (h : ∃ n, wY_oneTick_302 post dl la cp wt rt sh n 0 on pr ca (zb_sx E cq sh 6 sc) sg lk co st tm ep ya so cs di tc cb ev he fr) : ∃ n, wY_oneTick_239 post dl la cp wt rt sh n 0 on pr ca sc sg lk co st tm ep ya so cs di tc cb ev he fr := by
  have l : ∀ n b, b ≤ 6 → 6 - b < n → wY_oneTick_239 post dl la cp wt rt sh n (nI b) on pr ca (zb_sx E cq sh b sc) sg lk co st tm ep ya so cs di tc cb ev he fr := by
    refine zb_loop (fun n b => wY_oneTick_239 post dl la cp wt rt sh n (nI b) on pr ca (zb_sx E cq sh b sc) sg lk co st tm ep ya so cs di tc cb ev he fr) 6 ?_ ?_
    · intro n
      exact br_t (nI_le (a := 6) (b := 6) (by omega) (by omega)) h
    · intro n b hb hw
      refine br_f (nI_ge (a := b) (b := 6) hb (by omega)) ?_
      have e6 : zb_pw 6 (fun t v => if (E b && cq b t) = true then sh else v) (zb_sx E cq sh b sc) = zb_sx E cq sh (b + 1) sc := by
        unfold zb_sx
        rw [zb_pw_pw]
        refine zb_pw_cg (fun t _ => ?_)
        show _ = if (zb_es E cq b t || (E b && cq b t)) = true then sh else _
        by_cases y : (E b && cq b t) = true
        · rw [if_pos y, if_pos (by rw [y, Bool.or_true])]
        · rw [if_neg y, Bool.eq_false_iff.mpr y, Bool.or_false]
      have l2 : ∀ m t, t ≤ 6 → 6 - t < m → wY_oneTick_247 post (wY_oneTick_239 post dl la cp wt rt sh n) (nI b) dl la cp wt rt sh m (nI t) on pr ca (zb_pw t (fun t v => if (E b && cq b t) = true then sh else v) (zb_sx E cq sh b sc)) sg lk co st tm ep ya so cs di tc cb ev he fr := by
        refine zb_loop (fun m t => wY_oneTick_247 post (wY_oneTick_239 post dl la cp wt rt sh n) (nI b) dl la cp wt rt sh m (nI t) on pr ca (zb_pw t (fun t v => if (E b && cq b t) = true then sh else v) (zb_sx E cq sh b sc)) sg lk co st tm ep ya so cs di tc cb ev he fr) 6 ?_ ?_
        · intro m
          rw [e6]
          exact br_t (nI_le (a := 6) (b := 6) (by omega) (by omega)) (nm_r (nI_1 b) hw)
        · intro m t ht hw2
          refine br_f (nI_ge (a := t) (b := 6) ht (by omega)) ⟨vp_in_nI hb (by omega), ?_⟩
          rw [nI_clamp (by omega), hev b hb]
          have keep : ¬ (E b && cq b t) = true → wY_oneTick_247 post (wY_oneTick_239 post dl la cp wt rt sh n) (nI b) dl la cp wt rt sh m (nI (t + 1)) on pr ca (zb_pw t (fun t v => if (E b && cq b t) = true then sh else v) (zb_sx E cq sh b sc)) sg lk co st tm ep ya so cs di tc cb ev he fr := fun y => by
            rw [zb_pw_k (f := fun t v => if (E b && cq b t) = true then sh else v) (if_neg y)]
            exact hw2
          by_cases z : E b = true
          · rw [if_pos z]
            refine br_f (by decide) ?_
            rw [zb_ix6, nI_clamp (show 6 * b + t < 2 ^ 31 by omega)]
            refine ⟨vp_in_nI (by omega) (by omega), ?_⟩
            by_cases y : cq b t = true
            · refine br_f (fun w => (hq b t hb ht).mp w y) ⟨vp_in_nI ht (by omega), nm_r (e' := zb_pw (t + 1) (fun t v => if (E b && cq b t) = true then sh else v) (zb_sx E cq sh b sc)) ?_ (nm_r (nI_1 t) hw2)⟩
              rw [nI_clamp (by omega)]
              exact zb_pw_u (f := fun t v => if (E b && cq b t) = true then sh else v) (if_pos (by rw [z, y]; rfl)).symm
            · exact br_t ((hq b t hb ht).mpr y) (nm_r (nI_1 t) (keep (by rw [z, Bool.true_and]; exact y)))
          · rw [if_neg z]
            exact br_t rfl (nm_r (nI_1 t) (keep (by rw [Bool.eq_false_iff.mpr z, Bool.false_and]; decide)))
      have k := l2 7 0 (by omega) (by omega)
      rw [zb_pw0] at k
      exact ⟨7, k⟩
  have k := l 7 0 (by omega) (by omega)
  have e0 : zb_sx E cq sh 0 sc = sc := zb_pw_id (fun t _ => if_neg (show ¬ false = true by decide))
  rw [e0] at k
  exact ⟨7, k⟩
/-- the events as an array -/
def zb_ea (ev : Nat → Int32) (E : Nat → Bool) : Prop := ∀ b, b < 6 → ev b = if E b = true then 1 else 0
theorem zb_ea_eb {E : Nat → Bool} {b : Nat} (h : zb_ea ev E) : zb_ea (upd ev b 1) (zb_eb E b) := by
  intro t ht
  unfold zb_eb
  by_cases e : t = b
  · subst e; rw [pk_us, decide_eq_true rfl, Bool.or_true]; rfl
  · rw [pk_un e, decide_eq_false e, Bool.or_false]; exact h t ht
theorem zy_t131 {D : Nat → Bool} {s : zb_S} {d : Nat} (hd8 : d ≤ 8) (hdl : dl = nI d) (hT : ∀ i, i ≤ 24 → zb_PS (zb_ti D dl s i).1 (zb_ti D dl s i).2.1 d)
    (hD : ∀ b, b < 6 → (cb b < wt ↔ ¬ D b = true)) (h0 : zb_ea ev s.2.2.2)
    (h : ∀ ev : Nat → Int32, zb_ea ev (zb_ti D dl s 24).2.2.2 → ∃ n, wY_oneTick_239 post dl la cp wt rt sh n 0 on pr ca sc sg lk co ((zb_ti D dl s 24).1) ((zb_ti D dl s 24).2.1) ((zb_ti D dl s 24).2.2.1) ya so cs di tc cb ev he fr) :
    ∃ n, wY_oneTick_131 post dl la cp wt rt sh n 0 on pr ca sc sg lk co s.1 s.2.1 s.2.2.1 ya so cs di tc cb ev he fr := by
  have l : ∀ n i ev, i ≤ 24 → 24 - i < n → zb_ea ev (zb_ti D dl s i).2.2.2 → wY_oneTick_131 post dl la cp wt rt sh n (nI i) on pr ca sc sg lk co ((zb_ti D dl s i).1) ((zb_ti D dl s i).2.1) ((zb_ti D dl s i).2.2.1) ya so cs di tc cb ev he fr := by
    intro n
    induction n with
    | zero => intro i ev _ h; omega
    | succ n ih =>
      intro i ev hi hn hE
      refine pk_le 24 i (fun hg => ?_) (fun hl => ⟨by decide, ?_⟩)
      · have e : i = 24 := by omega
        subst e
        exact h ev hE
      · have ih' := fun ev => ih (i + 1) ev (by omega) (by omega)
        have eq : zb_ti D dl s (i + 1) = if D (i / 4) = true then zb_tc dl i (zb_ti D dl s i) else zb_ti D dl s i := rfl
        rw [eq] at ih'
        have hT' := hT i hi
        revert ih' hE hT'
        generalize zb_ti D dl s i = q
        intro hE ih' hT'
        obtain ⟨st, tm, ep, E⟩ := q
        dsimp only at hT' hE ih' ⊢
        have hb : i / 4 < 6 := by omega
        rw [zb_dv4 (by omega), nI_clamp (show i / 4 < 2 ^ 31 by omega), nI_clamp (show i < 2 ^ 31 by omega)]
        refine ⟨vp_in_nI hb (by omega), ?_⟩
        by_cases y : D (i / 4) = true
        · rw [if_pos y] at ih'
          unfold zb_tc at ih'
          dsimp only at ih'
          refine br_f (fun z => (hD _ hb).mp z y) ⟨vp_in_nI hl (by omega), ?_⟩
          have run : (st i = 2 ∨ st i = 3) → wY_oneTick_172 post (wY_oneTick_131 post dl la cp wt rt sh n) (nI i) dl la cp wt rt sh on pr ca sc sg lk co st tm ep ya so cs di tc cb ev he fr := fun z => by
            obtain ⟨l1, l2, l3⟩ := zb_tc_lem hT' hl z
            have hs := hT' i hl
            rw [if_pos z, l2] at ih'
            unfold wY_oneTick_172
            rw [zb_dv4 (by omega), nI_clamp (show i / 4 < 2 ^ 31 by omega), nI_clamp (show i < 2 ^ 31 by omega)]
            refine ⟨vp_in_nI hl (by omega), vp_in_nI hl (by omega), nm_e ⟨vp_in_nI hl (by omega), ?_⟩⟩
            rw [pk_us, l3, hdl]
            refine pk_eq (zb_N tm i + 1) d (fun g => ⟨vp_in_nI hl (by omega), nm_e ⟨vp_in_nI hl (by omega), vp_in_nI hl (by omega), nm_e ⟨vp_in_nI hl (by omega), ?_⟩⟩⟩) (fun g => nm_r (nI_1 i) ?_) rfl rfl (by omega) (by omega)
            · rw [pk_us, l2]
              rw [l3, hdl, if_neg (fun z => by have := (nI_ltI (by omega) (by omega)).mp z; omega)] at ih'
              refine pk_eq (zb_N st i + 1) 4 (fun g => ⟨by decide, vp_in_nI hb (by omega), nm_r (e' := upd ev (i / 4) 1) rfl (nm_r (nI_1 i) ?_)⟩) (fun g => nm_r (nI_1 i) ?_)
              · rw [if_pos (show nI (zb_N st i + 1) = 4 by rw [g]; rfl)] at ih'
                exact ih' _ (zb_ea_eb hE)
              · rw [if_neg (show ¬ nI (zb_N st i + 1) = 4 from fun y => g (zb_nI_inj (by omega) (by omega) y))] at ih'
                exact ih' ev hE
            · rw [l3, hdl, if_pos (nI_lt (by omega) (by omega))] at ih'
              exact ih' ev hE
          by_cases z2 : st i = 2
          · exact br_t z2 (run (Or.inl z2))
          · refine br_f z2 ⟨vp_in_nI hl (by omega), ?_⟩
            by_cases z3 : st i = 3
            · exact br_t z3 (run (Or.inr z3))
            · rw [if_neg (fun z => z.elim z2 z3)] at ih'
              exact br_f z3 (nm_r (nI_1 i) (ih' ev hE))
        · rw [if_neg y] at ih'
          exact br_t ((hD _ hb).mpr y) (nm_r (nI_1 i) (ih' ev hE))
  exact ⟨25, l 25 0 ev (by omega) (by omega) h0⟩
end
end
section
/-! the reference's tick, joined -/
theorem zb_ro_le {up : Nat → Bool} {sg c rk K : Nat → Nat} {i : Nat} : zb_ro up sg c rk K i ≤ 3 ∧ (¬ zb_ro up sg c rk K i = 0 → up i = true) := by
  unfold zb_ro
  by_cases u : up i = true
  · rw [if_pos u]
    refine ⟨?_, fun _ => u⟩
    by_cases a : zb_ap up sg c rk K (i / 4) 4 = i % 4
    · rw [if_pos a]; omega
    · rw [if_neg a]
      by_cases b : zb_ms up sg rk K (sg i) 24 / 16 % 128 = rk (i / 4) ∧ zb_ms up sg rk K (sg i) 24 / 4 % 4 = i % 4
      · rw [if_pos b]; omega
      · rw [if_neg b]; omega
  · rw [if_neg u]
    exact ⟨by omega, fun z => absurd rfl z⟩
section
variable {wt rt sh dl la cp : Int32} {on pr ca sc cr cc rp lk co sg st tm ro ep ea mg cs so ya di tc cb ev he fr : Nat → Int32} {post : SY → Prop}
theorem zy_decide {d i : Nat} {E : Nat → Bool} (hW : zb_WF on pr lk co sg) (hD : zb_YD on lk co sg di) (hS : zb_PS st tm d) (hi : i < 24) (hE : zb_ea ev E)
    (h : ∀ ev : Nat → Int32, zb_ea ev (zb_dc (zb_ro (zb_U on lk) (zb_N sg) (zb_N co) (zb_R pr) (zb_K on pr lk co sg 5) i) i (st, tm, ep, E)).2.2.2 → post (dl, la, cp, wt, rt, sh, on, pr, ca, sc, sg, lk, co, (zb_dc (zb_ro (zb_U on lk) (zb_N sg) (zb_N co) (zb_R pr) (zb_K on pr lk co sg 5) i) i (st, tm, ep, E)).1, (zb_dc (zb_ro (zb_U on lk) (zb_N sg) (zb_N co) (zb_R pr) (zb_K on pr lk co sg 5) i) i (st, tm, ep, E)).2.1, (zb_dc (zb_ro (zb_U on lk) (zb_N sg) (zb_N co) (zb_R pr) (zb_K on pr lk co sg 5) i) i (st, tm, ep, E)).2.2.1, ya, so, cs, di, tc, cb, ev, he, fr)) :
    wpY_decide post (dl, la, cp, wt, rt, sh, on, pr, ca, sc, sg, lk, co, st, tm, ep, ya, so, cs, di, tc, cb, ev, he, fr) (nI i) := by
  unfold wpY_decide
  dsimp only
  refine zy_role hW hD hi ?_
  have hr3 : zb_ro (zb_U on lk) (zb_N sg) (zb_N co) (zb_R pr) (zb_K on pr lk co sg 5) i ≤ 3 := zb_ro_le.1
  revert h hr3
  generalize zb_ro (zb_U on lk) (zb_N sg) (zb_N co) (zb_R pr) (zb_K on pr lk co sg 5) i = r
  intro h hr3
  have hs := hS i hi
  unfold zb_dc at h
  dsimp only at h
  have h40 : ∀ st tm : Nat → Int32, ¬ r = 1 → post (dl, la, cp, wt, rt, sh, on, pr, ca, sc, sg, lk, co, st, tm, ep, ya, so, cs, di, tc, cb, ev, he, fr) → wY_decide_40 post (nI i) (nI r) dl la cp wt rt sh on pr ca sc sg lk co st tm ep ya so cs di tc cb ev he fr := fun st tm hr hp => br_f (fun z => hr (zb_nI_inj (by omega) (by omega) z)) hp
  have h16 : ¬ r = 1 → ¬ r = 0 → wY_decide_16 post (nI i) (nI r) dl la cp wt rt sh on pr ca sc sg lk co st tm ep ya so cs di tc cb ev he fr := fun hr1 hr0 => by
    simp only [if_neg hr1] at h
    unfold wY_decide_16
    rw [nI_clamp (by omega)]
    refine ⟨vp_in_nI hi (by omega), ?_⟩
    by_cases z : st i = 1
    · simp only [if_pos (show ¬ r = 0 ∧ st i = 1 from ⟨hr0, z⟩)] at h
      exact br_t z ⟨vp_in_nI hi (by omega), nm_e ⟨vp_in_nI hi (by omega), nm_e (h40 _ _ hr1 (h ev hE))⟩⟩
    · simp only [if_neg (show ¬ (¬ r = 0 ∧ st i = 1) from fun y => z y.2)] at h
      exact br_f z (h40 _ _ hr1 (h ev hE))
  refine pk_eq r 3 (fun g => h16 (by omega) (by omega)) (fun g => pk_eq r 2 (fun g => h16 (by omega) (by omega)) (fun g2 => ?_))
  by_cases r1 : r = 1
  · simp only [if_pos r1] at h
    subst r1
    unfold wY_decide_40
    rw [nI_clamp (by omega), hs.1]
    have h64 : ∀ ev : Nat → Int32, zb_ea ev (if zb_N st i < 3 then E else zb_eb E (i / 4)) → wY_decide_64 post (nI i) dl la cp wt rt sh on pr ca sc sg lk co st tm ep ya so cs di tc cb ev he fr := fun ev hev => by
      unfold wY_decide_64
      rw [nI_clamp (by omega)]
      exact ⟨vp_in_nI hi (by omega), nm_e ⟨vp_in_nI hi (by omega), nm_e (zy_forget hi (h ev hev))⟩⟩
    refine br_t rfl ⟨vp_in_nI hi (by omega), pk_lt (zb_N st i) 3 (fun g => h64 ev (by rw [if_pos g]; exact hE)) (fun g => ⟨by decide, ?_⟩)⟩
    rw [zb_dv4 (by omega), nI_clamp (by omega)]
    exact ⟨vp_in_nI (by omega) (by omega), nm_r (e' := upd ev (i / 4) 1) rfl (h64 _ (by rw [if_neg (by omega)]; exact zb_ea_eb hE))⟩
  · simp only [if_neg r1] at h
    have r0 : r = 0 := by omega
    simp only [if_neg (show ¬ (¬ r = 0 ∧ st i = 1) from fun y => y.1 r0)] at h
    exact h40 _ _ r1 (h ev hE)
theorem zy_t95 {D : Nat → Bool} {s : zb_S} {d : Nat} (hW : zb_WF on pr lk co sg) (hD : zb_YD on lk co sg di) (hT : ∀ i, i ≤ 24 → zb_PS (zb_di D (zb_ro (zb_U on lk) (zb_N sg) (zb_N co) (zb_R pr) (zb_K on pr lk co sg 5)) s i).1 (zb_di D (zb_ro (zb_U on lk) (zb_N sg) (zb_N co) (zb_R pr) (zb_K on pr lk co sg 5)) s i).2.1 d)
    (hB : ∀ b, b < 6 → (cb b = wt - 1 ↔ D b = true)) (h0 : zb_ea ev s.2.2.2)
    (h : ∀ ev : Nat → Int32, zb_ea ev (zb_di D (zb_ro (zb_U on lk) (zb_N sg) (zb_N co) (zb_R pr) (zb_K on pr lk co sg 5)) s 24).2.2.2 → ∃ n, wY_oneTick_131 post dl la cp wt rt sh n 0 on pr ca sc sg lk co ((zb_di D (zb_ro (zb_U on lk) (zb_N sg) (zb_N co) (zb_R pr) (zb_K on pr lk co sg 5)) s 24).1) ((zb_di D (zb_ro (zb_U on lk) (zb_N sg) (zb_N co) (zb_R pr) (zb_K on pr lk co sg 5)) s 24).2.1) ((zb_di D (zb_ro (zb_U on lk) (zb_N sg) (zb_N co) (zb_R pr) (zb_K on pr lk co sg 5)) s 24).2.2.1) ya so cs di tc cb ev he fr) :
    ∃ n, wY_oneTick_95 post n 0 dl la cp wt rt sh on pr ca sc sg lk co s.1 s.2.1 s.2.2.1 ya so cs di tc cb ev he fr := by
  have l : ∀ n i ev, i ≤ 24 → 24 - i < n → zb_ea ev (zb_di D (zb_ro (zb_U on lk) (zb_N sg) (zb_N co) (zb_R pr) (zb_K on pr lk co sg 5)) s i).2.2.2 → wY_oneTick_95 post n (nI i) dl la cp wt rt sh on pr ca sc sg lk co ((zb_di D (zb_ro (zb_U on lk) (zb_N sg) (zb_N co) (zb_R pr) (zb_K on pr lk co sg 5)) s i).1) ((zb_di D (zb_ro (zb_U on lk) (zb_N sg) (zb_N co) (zb_R pr) (zb_K on pr lk co sg 5)) s i).2.1) ((zb_di D (zb_ro (zb_U on lk) (zb_N sg) (zb_N co) (zb_R pr) (zb_K on pr lk co sg 5)) s i).2.2.1) ya so cs di tc cb ev he fr := by
    intro n
    induction n with
    | zero => intro i ev _ h; omega
    | succ n ih =>
      intro i ev hi hn hE
      refine pk_le 24 i (fun hg => ?_) (fun hl => ⟨by decide, ?_⟩)
      · have e : i = 24 := by omega
        subst e
        exact h ev hE
      · have ih' := fun ev => ih (i + 1) ev (by omega) (by omega)
        have eq : zb_di D (zb_ro (zb_U on lk) (zb_N sg) (zb_N co) (zb_R pr) (zb_K on pr lk co sg 5)) s (i + 1) = if D (i / 4) = true then zb_dc (zb_ro (zb_U on lk) (zb_N sg) (zb_N co) (zb_R pr) (zb_K on pr lk co sg 5) i) i (zb_di D (zb_ro (zb_U on lk) (zb_N sg) (zb_N co) (zb_R pr) (zb_K on pr lk co sg 5)) s i) else zb_di D (zb_ro (zb_U on lk) (zb_N sg) (zb_N co) (zb_R pr) (zb_K on pr lk co sg 5)) s i := rfl
        rw [eq] at ih'
        have hT' := hT i hi
        revert ih' hE hT'
        generalize zb_di D (zb_ro (zb_U on lk) (zb_N sg) (zb_N co) (zb_R pr) (zb_K on pr lk co sg 5)) s i = q
        intro hE ih' hT'
        obtain ⟨st, tm, ep, E⟩ := q
        dsimp only at hT' hE ih' ⊢
        have hb : i / 4 < 6 := by omega
        rw [zb_dv4 (by omega), nI_clamp (show i / 4 < 2 ^ 31 by omega)]
        refine ⟨vp_in_nI hb (by omega), ?_⟩
        by_cases y : D (i / 4) = true
        · rw [if_pos y] at ih'
          refine br_t ((hB _ hb).mpr y) (zy_decide hW hD hT' hl hE (fun ev' hE' => nm_r (nI_1 i) (ih' ev' hE')))
        · rw [if_neg y] at ih'
          exact br_f (fun z => y ((hB _ hb).mp z)) (nm_r (nI_1 i) (ih' ev hE))
  exact ⟨25, l 25 0 ev (by omega) (by omega) h0⟩
theorem zy_t58 (h : ∃ n, wY_oneTick_95 post n 0 dl la cp wt rt sh on pr (zb_pw 6 (zb_ra rt) ca) sc sg lk co st tm ep ya so cs di tc cb ev he fr) : ∃ n, wY_oneTick_58 post dl la cp wt rt sh n 0 on pr ca sc sg lk co st tm ep ya so cs di tc cb ev he fr := by
  have l : ∀ n i, i ≤ 6 → 6 - i < n → wY_oneTick_58 post dl la cp wt rt sh n (nI i) on pr (zb_pw i (zb_ra rt) ca) sc sg lk co st tm ep ya so cs di tc cb ev he fr := by
    refine zb_loop (fun n i => wY_oneTick_58 post dl la cp wt rt sh n (nI i) on pr (zb_pw i (zb_ra rt) ca) sc sg lk co st tm ep ya so cs di tc cb ev he fr) 6 ?_ ?_
    · intro n
      exact br_t (nI_le (a := 6) (b := 6) (by omega) (by omega)) h
    · intro n i hi hw
      refine br_f (nI_ge (a := i) (b := 6) hi (by omega)) ⟨vp_in_nI hi (by omega), ?_⟩
      rw [nI_clamp (by omega), zb_pw_ge (Nat.le_refl i)]
      by_cases q : rt ≤ ca i
      · refine br_t q (nm_r (nI_1 i) ?_)
        rw [zb_pw_k (show zb_ra rt i (ca i) = ca i from if_pos q)]
        exact hw
      · exact br_f q ⟨vp_in_nI hi (by omega), vp_in_nI hi (by omega), nm_r (e' := zb_pw (i + 1) (zb_ra rt) ca) (zb_pw_u (show _ = zb_ra rt i (ca i) from (if_neg q).symm)) (nm_r (nI_1 i) hw)⟩
  have := l 7 0 (by omega) (by omega)
  rw [zb_pw0] at this
  exact ⟨7, this⟩
theorem zy_t6 (h : ∀ ev cb : Nat → Int32, zb_ea ev (fun _ => false) → (∀ b, b < 6 → cb b = ca b) → ∃ n, wY_oneTick_58 post dl la cp wt rt sh n 0 on pr ca (zb_pw 6 zb_lo sc) sg lk co st tm ep ya so cs di tc cb ev he fr) : ∃ n, wY_oneTick_6 post dl la cp wt rt sh n 0 on pr ca sc sg lk co st tm ep ya so cs di tc cb ev he fr := by
  have l : ∀ n i ev cb, i ≤ 6 → 6 - i < n → (∀ b, b < i → ev b = 0) → (∀ b, b < i → cb b = ca b) → wY_oneTick_6 post dl la cp wt rt sh n (nI i) on pr ca (zb_pw i zb_lo sc) sg lk co st tm ep ya so cs di tc cb ev he fr := by
    intro n
    induction n with
    | zero => intro i ev cb _ h; omega
    | succ n ih =>
      intro i ev cb hi hn h1 h2
      refine pk_le 6 i (fun hg => ?_) (fun hl => ⟨vp_in_nI hl (by omega), ?_⟩)
      · have e : i = 6 := by omega
        subst e
        exact h ev cb (fun b hb => h1 b hb) h2
      · rw [nI_clamp (by omega), zb_pw_ge (Nat.le_refl i)]
        have h31 : wY_oneTick_31 post (wY_oneTick_6 post dl la cp wt rt sh n) (nI i) dl la cp wt rt sh on pr ca (zb_pw (i + 1) zb_lo sc) sg lk co st tm ep ya so cs di tc cb ev he fr := by
          unfold wY_oneTick_31
          refine ⟨vp_in_nI hl (by omega), nm_r (e' := upd ev (nI i).toNatClampNeg 0) rfl ⟨vp_in_nI hl (by omega), vp_in_nI hl (by omega), nm_e (nm_r (nI_1 i) (ih (i + 1) _ _ (by omega) (by omega) (zb_fill (F := fun _ => 0) (by omega) h1 rfl) (zb_fill (F := fun b => ca b) (by omega) h2 ?_)))⟩⟩
          rw [nI_clamp (by omega)]
        by_cases q : sc i ≤ 0
        · refine br_t q ?_
          rw [zb_pw_k (show zb_lo i (sc i) = sc i from if_pos q)]
          exact h31
        · exact br_f q ⟨vp_in_nI hl (by omega), vp_in_nI hl (by omega), nm_r (e' := zb_pw (i + 1) zb_lo sc) (zb_pw_u (show _ = zb_lo i (sc i) from (if_neg q).symm)) h31⟩
  have := l 7 0 ev cb (by omega) (by omega) (fun b hb => absurd hb (by omega)) (fun b hb => absurd hb (by omega))
  rw [zb_pw0] at this
  exact ⟨7, this⟩
theorem zy_tick1 {d w : Nat} {x : zb_T6} (hW : zb_WF on pr lk co sg) (hX : zb_PX on lk d x) (hd : 1 ≤ d) (hd8 : d ≤ 8) (hdl : dl = nI d) (hwt : wt = nI w) (hw1 : 1 ≤ w) (hw18 : w ≤ 18) (hrt : rt = nI (w + 2 * d))
    (h : ∀ di cb ev : Nat → Int32, post (dl, la, cp, wt, rt, sh, on, pr, (zb_tk wt rt sh dl la (zb_ro (zb_U on lk) (zb_N sg) (zb_N co) (zb_R pr) (zb_K on pr lk co sg 5)) (zb_cq on pr lk co sg) x).1, (zb_tk wt rt sh dl la (zb_ro (zb_U on lk) (zb_N sg) (zb_N co) (zb_R pr) (zb_K on pr lk co sg 5)) (zb_cq on pr lk co sg) x).2.1, sg, lk, co, (zb_tk wt rt sh dl la (zb_ro (zb_U on lk) (zb_N sg) (zb_N co) (zb_R pr) (zb_K on pr lk co sg 5)) (zb_cq on pr lk co sg) x).2.2.1, (zb_tk wt rt sh dl la (zb_ro (zb_U on lk) (zb_N sg) (zb_N co) (zb_R pr) (zb_K on pr lk co sg 5)) (zb_cq on pr lk co sg) x).2.2.2.1, (zb_tk wt rt sh dl la (zb_ro (zb_U on lk) (zb_N sg) (zb_N co) (zb_R pr) (zb_K on pr lk co sg 5)) (zb_cq on pr lk co sg) x).2.2.2.2.1, (zb_tk wt rt sh dl la (zb_ro (zb_U on lk) (zb_N sg) (zb_N co) (zb_R pr) (zb_K on pr lk co sg 5)) (zb_cq on pr lk co sg) x).2.2.2.2.2, so, cs, di, tc, cb, ev, he, fr)) :
    wpY_oneTick post (dl, la, cp, wt, rt, sh, on, pr, x.1, x.2.1, sg, lk, co, x.2.2.1, x.2.2.2.1, x.2.2.2.2.1, x.2.2.2.2.2, so, cs, di, tc, cb, ev, he, fr) := by
  unfold zb_tk at h
  dsimp only at h
  unfold wpY_oneTick
  dsimp only
  refine zy_ms hW (fun di dd hdi hF => ?_)
  have hD : zb_YD on lk co sg di := ⟨dd, hdi, hF⟩
  have hR : ∀ i, i < 24 → ¬ zb_ro (zb_U on lk) (zb_N sg) (zb_N co) (zb_R pr) (zb_K on pr lk co sg 5) i = 0 → zb_U on lk i = true := fun i _ => zb_ro_le.2
  refine zy_t6 (fun ev cb hev hcb => zy_t58 ?_)
  refine zy_t95 (D := zb_Dd wt rt x.1) (s := (x.2.2.1, x.2.2.2.1, x.2.2.2.2.1, fun _ => false)) (d := d) hW hD (fun i hi => (zb_s1_PT hX hd hR i hi).1) (fun b hb => ?_) hev (fun ev hev => ?_)
  · have hc : cb b = x.1 b := hcb b hb
    rw [hc]
    unfold zb_Dd
    rw [decide_eq_true_iff, hwt, hrt]
    obtain ⟨w', rfl⟩ : ∃ w', w = w' + 1 := ⟨w - 1, by omega⟩
    rw [nI_pred]
    constructor
    · intro e
      rw [e]
      exact ⟨nI_ge (by omega) (by omega), nI_1 w'⟩
    · intro e
      rw [← nI_pred w', ← e.2, Int32.add_sub_cancel]
  · have e1 : zb_di (zb_Dd wt rt x.1) (zb_ro (zb_U on lk) (zb_N sg) (zb_N co) (zb_R pr) (zb_K on pr lk co sg 5)) (x.2.2.1, x.2.2.2.1, x.2.2.2.2.1, fun _ => false) 24 = zb_s1 wt rt (zb_ro (zb_U on lk) (zb_N sg) (zb_N co) (zb_R pr) (zb_K on pr lk co sg 5)) x := rfl
    rw [e1] at hev ⊢
    refine zy_t131 (D := zb_Dr wt x.1) (s := zb_s1 wt rt (zb_ro (zb_U on lk) (zb_N sg) (zb_N co) (zb_R pr) (zb_K on pr lk co sg 5)) x) (d := d) hd8 hdl (fun i hi => (zb_s2_PT hX hd hd8 hdl hR i hi).1) (fun b hb => ?_) hev (fun ev hev => ?_)
    · have hc : cb b = x.1 b := hcb b hb
      rw [hc]
      unfold zb_Dr
      rw [decide_eq_true_iff]
      exact ⟨fun z y => y z, fun z => Decidable.byContradiction z⟩
    · have e2 : zb_ti (zb_Dr wt x.1) dl (zb_s1 wt rt (zb_ro (zb_U on lk) (zb_N sg) (zb_N co) (zb_R pr) (zb_K on pr lk co sg 5)) x) 24 = zb_s2 wt rt dl (zb_ro (zb_U on lk) (zb_N sg) (zb_N co) (zb_R pr) (zb_K on pr lk co sg 5)) x := rfl
      rw [e2] at hev ⊢
      refine zy_t239 (E := (zb_s2 wt rt dl (zb_ro (zb_U on lk) (zb_N sg) (zb_N co) (zb_R pr) (zb_K on pr lk co sg 5)) x).2.2.2) (cq := zb_cq on pr lk co sg) hev (fun b t hb ht => zb_YD_cq hW hD hb ht) ?_
      exact zy_t302 (a := ((zb_s2 wt rt dl (zb_ro (zb_U on lk) (zb_N sg) (zb_N co) (zb_R pr) (zb_K on pr lk co sg 5)) x).2.2.1, x.2.2.2.2.2)) (h di cb ev)
end
end
section
/-! tick -/
def zb_ct (rt : Int32) (ca : Nat → Int32) : Nat → Int32
  | 0 => 0
  | b + 1 => if ca b = rt then zb_ct rt ca b + 1 else zb_ct rt ca b
theorem zb_tn_PX {on lk : Nat → Int32} {d : Nat} {wt rt sh dl la : Int32} {R : Nat → Nat} {cq : Nat → Nat → Bool} {x : zb_T6} (hX : zb_PX on lk d x) (hd : 1 ≤ d) (hd8 : d ≤ 8) (hdl : dl = nI d) (hR : ∀ i, i < 24 → ¬ R i = 0 → zb_U on lk i = true) : ∀ n, zb_PX on lk d (zb_tn wt rt sh dl la R cq x n) := by
  intro n
  induction n with
  | zero => exact hX
  | succ n ih => exact zb_tk_PX ih hd hd8 hdl hR
section
variable {wt rt sh dl la cp : Int32} {on pr ca sc cr cc rp lk co sg st tm ro ep ea mg cs so ya di tc cb ev he fr : Nat → Int32}
theorem zx_t34 {post : Int32 → SX → Prop} (h : post (zb_ct rt ca 6) (wt, rt, sh, dl, la, cp, on, pr, ca, sc, cr, cc, rp, lk, co, sg, st, tm, ro, ep, ea, mg, cs, so)) : ∃ n, wX_tick_34 post wt rt sh dl la cp on pr ca sc cr cc rp lk co sg st tm ro ep ea mg cs so n 0 0 := by
  have l : ∀ n i, i ≤ 6 → 6 - i < n → wX_tick_34 post wt rt sh dl la cp on pr ca sc cr cc rp lk co sg st tm ro ep ea mg cs so n (zb_ct rt ca i) (nI i) := by
    refine zb_loop (fun n i => wX_tick_34 post wt rt sh dl la cp on pr ca sc cr cc rp lk co sg st tm ro ep ea mg cs so n (zb_ct rt ca i) (nI i)) 6 ?_ ?_
    · intro n
      exact br_t (nI_le (a := 6) (b := 6) (by omega) (by omega)) h
    · intro n i hi hw
      refine br_f (nI_ge (a := i) (b := 6) hi (by omega)) ⟨vp_in_nI hi (by omega), ?_⟩
      rw [nI_clamp (by omega)]
      simp only [zb_ct] at hw
      by_cases q : ca i = rt
      · rw [if_pos q] at hw
        exact br_t q (nm_e (nm_r (nI_1 i) hw))
      · rw [if_neg q] at hw
        exact br_f q (nm_r (nI_1 i) hw)
  exact ⟨7, l 7 0 (by omega) (by omega)⟩
theorem zy_t40 {post : Int32 → SY → Prop} (h : post (zb_ct rt ca 6) (dl, la, cp, wt, rt, sh, on, pr, ca, sc, sg, lk, co, st, tm, ep, ya, so, cs, di, tc, cb, ev, he, fr)) : ∃ n, wY_tick_40 post dl la cp wt rt sh on pr ca sc sg lk co st tm ep ya so cs di tc cb ev he fr n 0 0 := by
  have l : ∀ n i, i ≤ 6 → 6 - i < n → wY_tick_40 post dl la cp wt rt sh on pr ca sc sg lk co st tm ep ya so cs di tc cb ev he fr n (zb_ct rt ca i) (nI i) := by
    refine zb_loop (fun n i => wY_tick_40 post dl la cp wt rt sh on pr ca sc sg lk co st tm ep ya so cs di tc cb ev he fr n (zb_ct rt ca i) (nI i)) 6 ?_ ?_
    · intro n
      exact br_t (nI_le (a := 6) (b := 6) (by omega) (by omega)) h
    · intro n i hi hw
      refine br_f (nI_ge (a := i) (b := 6) hi (by omega)) ⟨vp_in_nI hi (by omega), ?_⟩
      rw [nI_clamp (by omega)]
      simp only [zb_ct] at hw
      by_cases q : ca i = rt
      · rw [if_pos q] at hw
        exact br_t q (nm_e (nm_r (nI_1 i) hw))
      · rw [if_neg q] at hw
        exact br_f q (nm_r (nI_1 i) hw)
  exact ⟨7, l 7 0 (by omega) (by omega)⟩
theorem zx_t15 {post : Int32 → SX → Prop} {R : Nat → Nat} {cq : Nat → Nat → Bool} {d N : Nat} {x : zb_T6} (hN : N ≤ 64) (hX : zb_PX on lk d x) (hd : 1 ≤ d) (hd8 : d ≤ 8) (hdl : dl = nI d)
    (hro : ∀ i, i < 24 → ro i = nI (R i) ∧ R i ≤ 3) (hR : ∀ i, i < 24 → ¬ R i = 0 → zb_U on lk i = true) (hq : ∀ b t, b < 6 → t < 6 → decide (cr t = cr b) = cq b t)
    (h : post (zb_ct rt (zb_tn wt rt sh dl la R cq x N).1 6) (wt, rt, sh, dl, la, cp, on, pr, (zb_tn wt rt sh dl la R cq x N).1, (zb_tn wt rt sh dl la R cq x N).2.1, cr, cc, rp, lk, co, sg, (zb_tn wt rt sh dl la R cq x N).2.2.1, (zb_tn wt rt sh dl la R cq x N).2.2.2.1, ro, (zb_tn wt rt sh dl la R cq x N).2.2.2.2.1, zb_xA (zb_tn wt rt sh dl la R cq x N).2.2.2.2.1 (zb_tn wt rt sh dl la R cq x N).2.2.2.2.2, mg, cs, so)) :
    ∀ n i, i ≤ N → N - i < n → wX_tick_15 post (nI N) n (nI i) wt rt sh dl la cp on pr ((zb_tn wt rt sh dl la R cq x i).1) ((zb_tn wt rt sh dl la R cq x i).2.1) cr cc rp lk co sg ((zb_tn wt rt sh dl la R cq x i).2.2.1) ((zb_tn wt rt sh dl la R cq x i).2.2.2.1) ro ((zb_tn wt rt sh dl la R cq x i).2.2.2.2.1) (zb_xA (zb_tn wt rt sh dl la R cq x i).2.2.2.2.1 (zb_tn wt rt sh dl la R cq x i).2.2.2.2.2) mg cs so := by
  refine zb_loop (fun n i => wX_tick_15 post (nI N) n (nI i) wt rt sh dl la cp on pr ((zb_tn wt rt sh dl la R cq x i).1) ((zb_tn wt rt sh dl la R cq x i).2.1) cr cc rp lk co sg ((zb_tn wt rt sh dl la R cq x i).2.2.1) ((zb_tn wt rt sh dl la R cq x i).2.2.2.1) ro ((zb_tn wt rt sh dl la R cq x i).2.2.2.2.1) (zb_xA (zb_tn wt rt sh dl la R cq x i).2.2.2.2.1 (zb_tn wt rt sh dl la R cq x i).2.2.2.2.2) mg cs so) N ?_ ?_
  · intro n
    exact br_t (nI_le (Nat.le_refl N) (by omega)) (zx_t34 h)
  · intro n i hi hw
    have eq : zb_tn wt rt sh dl la R cq x (i + 1) = zb_tk wt rt sh dl la R cq (zb_tn wt rt sh dl la R cq x i) := rfl
    rw [eq] at hw
    have hX' := zb_tn_PX (wt := wt) (rt := rt) (sh := sh) (la := la) (cq := cq) hX hd hd8 hdl hR i
    exact br_f (nI_ge hi (by omega)) (zx_tick1 hX' hd hd8 hdl hro hR hq (nm_r (nI_1 i) hw))
theorem zy_t15 {post : Int32 → SY → Prop} {d w N : Nat} {x : zb_T6} (hN : N ≤ 64) (hW : zb_WF on pr lk co sg) (hX : zb_PX on lk d x) (hd : 1 ≤ d) (hd8 : d ≤ 8) (hdl : dl = nI d) (hwt : wt = nI w) (hw1 : 1 ≤ w) (hw18 : w ≤ 18) (hrt : rt = nI (w + 2 * d))
    (h : ∀ di cb ev : Nat → Int32, post (zb_ct rt (zb_tn wt rt sh dl la (zb_ro (zb_U on lk) (zb_N sg) (zb_N co) (zb_R pr) (zb_K on pr lk co sg 5)) (zb_cq on pr lk co sg) x N).1 6) (dl, la, cp, wt, rt, sh, on, pr, (zb_tn wt rt sh dl la (zb_ro (zb_U on lk) (zb_N sg) (zb_N co) (zb_R pr) (zb_K on pr lk co sg 5)) (zb_cq on pr lk co sg) x N).1, (zb_tn wt rt sh dl la (zb_ro (zb_U on lk) (zb_N sg) (zb_N co) (zb_R pr) (zb_K on pr lk co sg 5)) (zb_cq on pr lk co sg) x N).2.1, sg, lk, co, (zb_tn wt rt sh dl la (zb_ro (zb_U on lk) (zb_N sg) (zb_N co) (zb_R pr) (zb_K on pr lk co sg 5)) (zb_cq on pr lk co sg) x N).2.2.1, (zb_tn wt rt sh dl la (zb_ro (zb_U on lk) (zb_N sg) (zb_N co) (zb_R pr) (zb_K on pr lk co sg 5)) (zb_cq on pr lk co sg) x N).2.2.2.1, (zb_tn wt rt sh dl la (zb_ro (zb_U on lk) (zb_N sg) (zb_N co) (zb_R pr) (zb_K on pr lk co sg 5)) (zb_cq on pr lk co sg) x N).2.2.2.2.1, (zb_tn wt rt sh dl la (zb_ro (zb_U on lk) (zb_N sg) (zb_N co) (zb_R pr) (zb_K on pr lk co sg 5)) (zb_cq on pr lk co sg) x N).2.2.2.2.2, so, cs, di, tc, cb, ev, he, fr)) :
    ∀ n i di cb ev, i ≤ N → N - i < n → wY_tick_15 post (nI N) n (nI i) dl la cp wt rt sh on pr ((zb_tn wt rt sh dl la (zb_ro (zb_U on lk) (zb_N sg) (zb_N co) (zb_R pr) (zb_K on pr lk co sg 5)) (zb_cq on pr lk co sg) x i).1) ((zb_tn wt rt sh dl la (zb_ro (zb_U on lk) (zb_N sg) (zb_N co) (zb_R pr) (zb_K on pr lk co sg 5)) (zb_cq on pr lk co sg) x i).2.1) sg lk co ((zb_tn wt rt sh dl la (zb_ro (zb_U on lk) (zb_N sg) (zb_N co) (zb_R pr) (zb_K on pr lk co sg 5)) (zb_cq on pr lk co sg) x i).2.2.1) ((zb_tn wt rt sh dl la (zb_ro (zb_U on lk) (zb_N sg) (zb_N co) (zb_R pr) (zb_K on pr lk co sg 5)) (zb_cq on pr lk co sg) x i).2.2.2.1) ((zb_tn wt rt sh dl la (zb_ro (zb_U on lk) (zb_N sg) (zb_N co) (zb_R pr) (zb_K on pr lk co sg 5)) (zb_cq on pr lk co sg) x i).2.2.2.2.1) ((zb_tn wt rt sh dl la (zb_ro (zb_U on lk) (zb_N sg) (zb_N co) (zb_R pr) (zb_K on pr lk co sg 5)) (zb_cq on pr lk co sg) x i).2.2.2.2.2) so cs di tc cb ev he fr := by
  have hR : ∀ i, i < 24 → ¬ zb_ro (zb_U on lk) (zb_N sg) (zb_N co) (zb_R pr) (zb_K on pr lk co sg 5) i = 0 → zb_U on lk i = true := fun i _ => zb_ro_le.2
  intro n
  induction n with
  | zero => intro i di cb ev _ h; omega
  | succ n ih =>
    intro i di cb ev hi hn
    by_cases e : i = N
    · subst e
      exact br_t (nI_le (Nat.le_refl i) (by omega)) (zy_t40 (h di cb ev))
    · have hX' := zb_tn_PX (wt := wt) (rt := rt) (sh := sh) (la := la) (cq := zb_cq on pr lk co sg) hX hd hd8 hdl hR i
      refine br_f (nI_ge (show i < N by omega) (by omega)) (br_f (nI_ge (a := i) (b := 64) (by omega) (by omega)) (zy_tick1 hW hX' hd hd8 hdl hwt hw1 hw18 hrt (fun di cb ev => nm_r (nI_1 i) ?_)))
      have eq : zb_tn wt rt sh dl la (zb_ro (zb_U on lk) (zb_N sg) (zb_N co) (zb_R pr) (zb_K on pr lk co sg 5)) (zb_cq on pr lk co sg) x (i + 1) = zb_tk wt rt sh dl la (zb_ro (zb_U on lk) (zb_N sg) (zb_N co) (zb_R pr) (zb_K on pr lk co sg 5)) (zb_cq on pr lk co sg) (zb_tn wt rt sh dl la (zb_ro (zb_U on lk) (zb_N sg) (zb_N co) (zb_R pr) (zb_K on pr lk co sg 5)) (zb_cq on pr lk co sg) x i) := rfl
      have := ih (i + 1) di cb ev (by omega) (by omega)
      rw [eq] at this
      exact this
end
theorem i_vc_tick {k : Nat} {u : SX} {v : SY} (I : i_Rel k u v) (hk : k + 4 ≤ 2052) (v1 : Int32) : wpX_tick (fun r u' => wpY_tick (fun r' v' => r' = r ∧ i_Rel (k + 4) u' v') v v1) u v1 := by
  refine zz_el (P := fun u v => wpX_tick (fun r u' => wpY_tick (fun r' v' => r' = r ∧ i_Rel (k + 4) u' v') v v1) u v1) ?_ I
  intro wt rt sh dl la cp on pr ca sc cr cc rp lk co sg st tm ro ep mg cs so ya di tc cb ev he fr w d hI
  have hR : i_Rel (k + 4) (wt, rt, sh, dl, la, cp, on, pr, ca, sc, cr, cc, rp, lk, co, sg, st, tm, ro, ep, zb_xA ep ya, mg, cs, so) (dl, la, cp, wt, rt, sh, on, pr, ca, sc, sg, lk, co, st, tm, ep, ya, so, cs, di, tc, cb, ev, he, fr) := zz_in hI
  obtain ⟨a1, a2, a3, a4, a5, a6, a7⟩ := hI
  obtain ⟨b1, b2, b3, b4, b5, b6, b7⟩ := a5
  by_cases y1 : v1 < 1
  · exact br_t y1 (br_t y1 ⟨rfl, hR⟩)
  · by_cases y2 : v1 ≤ 64
    · obtain ⟨N, hN, rfl⟩ : ∃ c, c ≤ 64 ∧ v1 = nI c := nI_of2 (M := 64) (n := 64) (by decide) (fun z => y1 (Int32.lt_trans z (by decide))) y2
      have hX : zb_PX on lk d (ca, sc, st, tm, ep, ya) := ⟨a3.1, a3.2, a4⟩
      have hRo : ∀ i, i < 24 → ¬ zb_ro (zb_U on lk) (zb_N sg) (zb_N co) (zb_R pr) (zb_K on pr lk co sg 5) i = 0 → zb_U on lk i = true := fun i _ => zb_ro_le.2
      refine br_f y1 (br_t y2 ⟨65, ?_⟩)
      refine zx_t15 (x := (ca, sc, st, tm, ep, ya)) (R := zb_ro (zb_U on lk) (zb_N sg) (zb_N co) (zb_R pr) (zb_K on pr lk co sg 5)) (cq := zb_cq on pr lk co sg) hN hX b6 b7 b3 (fun i hi => ⟨a2.2 i hi, zb_ro_le.1⟩) hRo (fun b t hb ht => zb_CL_cq a1 a2 hb ht) ?_ 65 0 (by omega) (by omega)
      refine br_f y1 (br_t y2 ⟨65, ?_⟩)
      refine zy_t15 (x := (ca, sc, st, tm, ep, ya)) hN a1 hX b6 b7 b3 b1 b4 b5 b2 (fun di cb ev => ⟨rfl, ?_⟩) 65 0 di cb ev (by omega) (by omega)
      have hX2 := zb_tn_PX (wt := wt) (rt := rt) (sh := sh) (la := la) (cq := zb_cq on pr lk co sg) hX b6 b7 b3 hRo N
      exact zz_in (w := w) (d := d) ⟨a1, a2, ⟨hX2.1, hX2.2.1⟩, hX2.2.2, ⟨b1, b2, b3, b4, b5, b6, b7⟩, a6, a7⟩
    · exact br_f y1 (br_f y2 (br_f y1 (br_f y2 ⟨rfl, hR⟩)))
end
section
/-! the way of a frame as functions -/
abbrev zb_F : Type := (Nat → Int32) × (Nat → Int32) × (Nat → Bool) × (Nat → Bool)
/-- the first place from i on, n at most, where P holds -/
def zb_nf (P : Nat → Bool) : Nat → Nat → Nat
  | 0, i => i
  | n + 1, i => if P i = true then i else zb_nf P n (i + 1)
theorem zb_nf_spec {P : Nat → Bool} : ∀ n i, i ≤ zb_nf P n i ∧ zb_nf P n i ≤ i + n ∧ (zb_nf P n i < i + n → P (zb_nf P n i) = true) ∧ (∀ j, i ≤ j → j < zb_nf P n i → ¬ P j = true) := by
  intro n
  induction n with
  | zero => intro i; exact ⟨Nat.le_refl _, Nat.le_refl _, fun h => absurd h (by show ¬ (i < i + 0); omega), fun j h1 h2 => absurd h2 (by show ¬ (j < i); omega)⟩
  | succ n ih =>
    intro i
    simp only [zb_nf]
    by_cases e : P i = true
    · rw [if_pos e]
      exact ⟨Nat.le_refl _, by omega, fun _ => e, fun j h1 h2 => absurd h2 (by omega)⟩
    · rw [if_neg e]
      obtain ⟨h1, h2, h3, h4⟩ := ih (i + 1)
      refine ⟨by omega, by omega, fun h => h3 (by omega), fun j hj1 hj2 => ?_⟩
      by_cases q : j = i
      · rw [q]; exact e
      · exact h4 j (by omega) hj2
/-- held entries and the oldest (48: none) among the first t stations of bridge b -/
def zb_mh (ep : Nat → Int32) (b : Nat) : Nat → Nat
  | 0 => 0
  | t + 1 => if ep (8 * b + t) = -5 then zb_mh ep b t else zb_mh ep b t + 1
def zb_mo (ep ya : Nat → Int32) (b : Nat) : Nat → Nat
  | 0 => 48
  | t + 1 => if ep (8 * b + t) = -5 then zb_mo ep ya b t else if zb_mo ep ya b t = 48 ∨ ¬ ya (8 * b + t) ≤ ya (zb_mo ep ya b t) then 8 * b + t else zb_mo ep ya b t
theorem zb_mo_in {ep ya : Nat → Int32} {b : Nat} (hb : b < 6) : ∀ t, t ≤ 8 → zb_mo ep ya b t = 48 ∨ (zb_mo ep ya b t < 48 ∧ ¬ ep (zb_mo ep ya b t) = -5) := by
  intro t
  induction t with
  | zero => intro _; exact Or.inl rfl
  | succ t ih =>
    intro ht
    simp only [zb_mo]
    by_cases e : ep (8 * b + t) = -5
    · rw [if_pos e]; exact ih (by omega)
    · rw [if_neg e]
      by_cases q : zb_mo ep ya b t = 48 ∨ ¬ ya (8 * b + t) ≤ ya (zb_mo ep ya b t)
      · rw [if_pos q]; exact Or.inr ⟨by omega, e⟩
      · rw [if_neg q]; exact ih (by omega)
theorem zb_mh_le {ep : Nat → Int32} {b : Nat} : ∀ t, zb_mh ep b t ≤ t := by
  intro t
  induction t with
  | zero => exact Nat.le_refl _
  | succ t ih =>
    simp only [zb_mh]
    by_cases e : ep (8 * b + t) = -5
    · rw [if_pos e]; omega
    · rw [if_neg e]; omega
/-- room made in the table of bridge b for the entry at k -/
def zb_rm (cp : Int32) (ep ya : Nat → Int32) (b k : Nat) : Nat → Int32 :=
  if ep k = -5 ∧ ¬ nI (zb_mh ep b 8) < cp ∧ ¬ zb_mo ep ya b 8 = 48 then upd ep (zb_mo ep ya b 8) (-5) else ep
def zb_le (cp : Int32) (ep ya : Nat → Int32) (i k : Nat) : Nat → Int32 := upd (zb_rm cp ep ya (i / 4) k) k (nI (i % 4))
/-- the segments onto which a frame goes on -/
def zb_fb (g : Nat → Bool) (S : Nat → Nat) : Nat → Nat → Bool
  | 0 => fun _ => false
  | p + 1 => fun s => zb_fb g S p s || (g p && decide (s = S p))
def zb_g (st : Nat → Int32) (i : Nat) (q : Int32) (p : Nat) : Bool := decide (¬ 4 * (i / 4) + p = i ∧ zb_N st (4 * (i / 4) + p) = 4 ∧ (q = -5 ∨ q = nI p))
def zb_kn (ep : Nat → Int32) (b dst : Nat) : Int32 := if 8 ≤ dst then -5 else ep (8 * b + dst)
def zb_hP (st sg : Nat → Int32) (x : zb_F) (i : Nat) : Bool := !(x.2.2.2 (i / 4)) && (decide (3 ≤ zb_N st i) && x.2.2.1 (zb_N sg i))
/-- port i hears the frame -/
def zb_hr (cp : Int32) (st sg : Nat → Int32) (src dst : Nat) (x : zb_F) (i : Nat) : zb_F :=
  (zb_le cp x.1 x.2.1 i (8 * (i / 4) + src), upd x.2.1 (8 * (i / 4) + src) 0,
   (if zb_N st i = 4 then fun s => x.2.2.1 s || zb_fb (zb_g st i (zb_kn (zb_le cp x.1 x.2.1 i (8 * (i / 4) + src)) (i / 4) dst)) (fun p => zb_N sg (4 * (i / 4) + p)) 4 s else x.2.2.1),
   zb_eb x.2.2.2 (i / 4))
def zb_nh (st sg : Nat → Int32) (x : zb_F) : Nat := zb_nf (zb_hP st sg x) 24 0
def zb_rd (cp : Int32) (st sg : Nat → Int32) (src dst : Nat) (x : zb_F) : zb_F := if zb_nh st sg x = 24 then x else zb_hr cp st sg src dst x (zb_nh st sg x)
def zb_rn (cp : Int32) (st sg : Nat → Int32) (src dst : Nat) (x : zb_F) : Nat → zb_F
  | 0 => x
  | n + 1 => zb_rd cp st sg src dst (zb_rn cp st sg src dst x n)
/-- what holds of a frame on its way -/
def zb_PF (st : Nat → Int32) (x : zb_F) : Prop := zb_PE st x.1 ∧ x.2.2.1 8 = false
section
variable {on pr lk co sg st tm : Nat → Int32} {cp : Int32} {d src dst : Nat} {x : zb_F}
theorem zb_rm_PE {ep ya : Nat → Int32} {b k : Nat} (hE : zb_PE st ep) : zb_PE st (zb_rm cp ep ya b k) := by
  unfold zb_rm
  by_cases q : ep k = -5 ∧ ¬ nI (zb_mh ep b 8) < cp ∧ ¬ zb_mo ep ya b 8 = 48
  · rw [if_pos q]
    intro j hj
    by_cases e : j = zb_mo ep ya b 8
    · subst e; exact Or.inl pk_us
    · have e4 : upd ep (zb_mo ep ya b 8) (-5) j = ep j := pk_un e
      have e5 : zb_N (upd ep (zb_mo ep ya b 8) (-5)) j = zb_N ep j := by unfold zb_N; rw [e4]
      rw [e5, e4]
      exact hE j hj
  · rw [if_neg q]; exact hE
theorem zb_le_PE {ep ya : Nat → Int32} {i : Nat} (hE : zb_PE st ep) (hi : i < 24) (hs : src < 8) (h3 : 3 ≤ zb_N st i) : zb_PE st (zb_le cp ep ya i (8 * (i / 4) + src)) := by
  have h := zb_rm_PE (cp := cp) (ya := ya) (b := i / 4) (k := 8 * (i / 4) + src) hE
  intro j hj
  unfold zb_le
  rw [zb_N_upd (by omega)]
  by_cases e : j = 8 * (i / 4) + src
  · subst e
    rw [pk_us, if_pos rfl]
    refine Or.inr ⟨rfl, by omega, ?_⟩
    rw [show 4 * ((8 * (i / 4) + src) / 8) + i % 4 = i from by omega]
    exact h3
  · rw [pk_un e, if_neg e]
    exact h j hj
theorem zb_fb_8 {g : Nat → Bool} {S : Nat → Nat} (h : ∀ p, p < 4 → g p = true → S p < 8) : ∀ p, p ≤ 4 → zb_fb g S p 8 = false := by
  intro p
  induction p with
  | zero => intro _; rfl
  | succ p ih =>
    intro hp
    show (zb_fb g S p 8 || (g p && decide (8 = S p))) = false
    rw [ih (by omega), Bool.false_or]
    by_cases e : g p = true
    · have := h p (by omega) e
      rw [e, Bool.true_and]
      exact decide_eq_false (by omega)
    · rw [Bool.eq_false_iff.mpr e, Bool.false_and]
theorem zb_st_sg (hW : zb_WF on pr lk co sg) (hU : ∀ i, i < 24 → zb_PU on lk st i) {i : Nat} (hi : i < 24) (h : ¬ zb_N st i = 0) : zb_N sg i < 8 := by
  have := hU i hi
  unfold zb_PU at this
  by_cases u : zb_U on lk i = true
  · exact (zb_U_sg hW hi u).2
  · exact absurd (this.mpr u) h
theorem zb_g_sg (hW : zb_WF on pr lk co sg) (hU : ∀ i, i < 24 → zb_PU on lk st i) {i p : Nat} {q : Int32} (hi : i < 24) (hp : p < 4) (h : zb_g st i q p = true) : zb_N sg (4 * (i / 4) + p) < 8 := by
  have := of_decide_eq_true h
  exact zb_st_sg hW hU (by omega) (by rw [this.2.1]; omega)
theorem zb_hr_PF (hW : zb_WF on pr lk co sg) (hU : ∀ i, i < 24 → zb_PU on lk st i) {i : Nat} (hi : i < 24) (hs : src < 8) (hF : zb_PF st x) (h3 : 3 ≤ zb_N st i) : zb_PF st (zb_hr cp st sg src dst x i) := by
  refine ⟨zb_le_PE hF.1 hi hs h3, ?_⟩
  unfold zb_hr
  dsimp only
  by_cases e : zb_N st i = 4
  · rw [if_pos e]
    show (x.2.2.1 8 || zb_fb _ _ 4 8) = false
    rw [hF.2, Bool.false_or]
    exact zb_fb_8 (fun p hp hg => zb_g_sg hW hU hi hp hg) 4 (by omega)
  · rw [if_neg e]; exact hF.2
theorem zb_nh_spec : zb_nh st sg x ≤ 24 ∧ (zb_nh st sg x < 24 → zb_hP st sg x (zb_nh st sg x) = true) ∧ (∀ j, j < zb_nh st sg x → ¬ zb_hP st sg x j = true) := by
  obtain ⟨_, h2, h3, h4⟩ := zb_nf_spec (P := zb_hP st sg x) 24 0
  unfold zb_nh
  exact ⟨by omega, fun h => h3 (by omega), fun j hj => h4 j (by omega) hj⟩
theorem zb_hP_3 {i : Nat} (h : zb_hP st sg x i = true) : x.2.2.2 (i / 4) = false ∧ 3 ≤ zb_N st i ∧ x.2.2.1 (zb_N sg i) = true := by
  unfold zb_hP at h
  rw [Bool.and_eq_true, Bool.and_eq_true, Bool.not_eq_true'] at h
  exact ⟨h.1, of_decide_eq_true h.2.1, h.2.2⟩
theorem zb_rd_PF (hW : zb_WF on pr lk co sg) (hU : ∀ i, i < 24 → zb_PU on lk st i) (hs : src < 8) (hF : zb_PF st x) : zb_PF st (zb_rd cp st sg src dst x) := by
  unfold zb_rd
  obtain ⟨h1, h2, _⟩ := zb_nh_spec (st := st) (sg := sg) (x := x)
  by_cases e : zb_nh st sg x = 24
  · rw [if_pos e]; exact hF
  · rw [if_neg e]
    exact zb_hr_PF hW hU (by omega) hs hF (zb_hP_3 (h2 (by omega))).2.1
theorem zb_rn_PF (hW : zb_WF on pr lk co sg) (hU : ∀ i, i < 24 → zb_PU on lk st i) (hs : src < 8) (hF : zb_PF st x) : ∀ n, zb_PF st (zb_rn cp st sg src dst x n) := by
  intro n
  induction n with
  | zero => exact hF
  | succ n ih => exact zb_rd_PF hW hU hs ih
theorem zb_rn_end {n : Nat} (h : zb_nh st sg (zb_rn cp st sg src dst x n) = 24) : ∀ m, zb_rn cp st sg src dst x (n + m) = zb_rn cp st sg src dst x n := by
  intro m
  induction m with
  | zero => rfl
  | succ m ih =>
    show zb_rd cp st sg src dst (zb_rn cp st sg src dst x (n + m)) = _
    rw [ih]
    exact if_pos h
end
end
section
/-! the component's frame: hearing, learning, relaying -/
def zb_hI (r : Nat) : Int32 := if r = 24 then -1 else nI r
def zb_oI (r : Nat) : Int32 := if r = 48 then -1 else nI r
theorem zb_xA_set {ep ya : Nat → Int32} {k p : Nat} (hp : p < 4) : upd (zb_xA ep ya) k 0 = zb_xA (upd ep k (nI p)) (upd ya k 0) := by
  funext j
  by_cases e : j = k
  · subst e; rw [pk_us, zb_xA0 (by rw [pk_us]; exact zb_m5' (by omega)), pk_us]
  · rw [pk_un e]; exact zb_xA_cg (pk_un e).symm (pk_un e).symm
/-- a mask holds the bits of F below n -/
def zb_mk (m : Int32) (n : Nat) (F : Nat → Bool) : Prop := ∀ t, t < n → bt m t = F t
section
variable {wt rt sh dl la cp : Int32} {on pr ca sc cr cc rp lk co sg st tm ro ep ea mg cs so ya di tc cb ev he fr : Nat → Int32}
theorem zx_nh {post : Int32 → Prop} {x : zb_F} {x1 x2 : Int32} {d : Nat} (hS : zb_PS st tm d) (hG : ∀ i, i < 24 → sg i = nI (zb_N sg i) ∧ zb_N sg i ≤ 8) (h1 : zb_mk x1 9 x.2.2.1) (h2 : zb_mk x2 6 x.2.2.2)
    (h : post (zb_hI (zb_nh st sg x))) : wpX_nextHearer post (wt, rt, sh, dl, la, cp, on, pr, ca, sc, cr, cc, rp, lk, co, sg, st, tm, ro, ep, ea, mg, cs, so) x1 x2 := by
  obtain ⟨n1, n2, n3⟩ := zb_nh_spec (st := st) (sg := sg) (x := x)
  have l : ∀ n i, i ≤ zb_nh st sg x → zb_nh st sg x - i < n → wX_nextHearer_2 post x1 x2 wt rt sh dl la cp on pr ca sc cr cc rp lk co sg st tm ro ep ea mg cs so n (nI i) := by
    have gen : ∀ n i, i < 24 → (zb_hP st sg x i = true → post (nI i)) → (¬ zb_hP st sg x i = true → wX_nextHearer_2 post x1 x2 wt rt sh dl la cp on pr ca sc cr cc rp lk co sg st tm ro ep ea mg cs so n (nI (i + 1))) → wX_nextHearer_2 post x1 x2 wt rt sh dl la cp on pr ca sc cr cc rp lk co sg st tm ro ep ea mg cs so (n + 1) (nI i) := by
      intro n i hi ht hf
      have hs := hS i hi
      have hg := hG i hi
      refine br_f (nI_ge (a := i) (b := 24) hi (by omega)) ?_
      rw [zb_sh2 (by omega)]
      unfold zb_hP at ht hf
      by_cases c1 : x.2.2.2 (i / 4) = true
      · refine br_f (zb_bz1 (by omega) ((h2 _ (by omega)).trans c1)) (br_t rfl (nm_r (nI_1 i) (hf ?_)))
        rw [c1]; intro z; cases z
      · have c1' : x.2.2.2 (i / 4) = false := Bool.eq_false_iff.mpr c1
        refine br_t (zb_bz0 (by omega) (by rw [h2 _ (by omega)]; exact c1)) (br_f (by decide) ⟨vp_in_nI hi (by omega), ?_⟩)
        rw [nI_clamp (by omega), hs.1]
        refine pk_lt (zb_N st i) 3 (fun g => nm_r (nI_1 i) (hf ?_)) (fun g => ⟨vp_in_nI hi (by omega), ?_⟩)
        · rw [decide_eq_false (by omega : ¬ 3 ≤ zb_N st i), Bool.false_and, Bool.and_false]; decide
        · rw [hg.1]
          by_cases c3 : x.2.2.1 (zb_N sg i) = true
          · refine br_f (zb_bz1 (by omega) ((h1 _ (by omega)).trans c3)) (ht ?_)
            rw [c1', c3, decide_eq_true (by omega : 3 ≤ zb_N st i)]; rfl
          · refine br_t (zb_bz0 (by omega) (by rw [h1 _ (by omega)]; exact c3)) (nm_r (nI_1 i) (hf ?_))
            rw [Bool.eq_false_iff.mpr c3, Bool.and_false, Bool.and_false]; decide
    refine zb_loop (fun n i => wX_nextHearer_2 post x1 x2 wt rt sh dl la cp on pr ca sc cr cc rp lk co sg st tm ro ep ea mg cs so n (nI i)) (zb_nh st sg x) ?_ ?_
    · intro n
      by_cases e : zb_nh st sg x = 24
      · rw [e] at h ⊢
        exact br_t (nI_le (a := 24) (b := 24) (by omega) (by omega)) h
      · have e5 : zb_hI (zb_nh st sg x) = nI (zb_nh st sg x) := if_neg e
        rw [e5] at h
        exact gen n _ (by omega) (fun _ => h) (fun z => absurd (n2 (by omega)) z)
    · intro n i hi hw
      exact gen n i (by omega) (fun z => absurd z (n3 i hi)) (fun _ => hw)
  exact Exists.intro (zb_nh st sg x + 1) (l _ 0 (by omega) (by omega))
theorem zx_makeRoom {post : SX → Prop} {b : Nat} (hb : b < 6)
    (h : post (wt, rt, sh, dl, la, cp, on, pr, ca, sc, cr, cc, rp, lk, co, sg, st, tm, ro, if ¬ nI (zb_mh ep b 8) < cp ∧ ¬ zb_mo ep ya b 8 = 48 then upd ep (zb_mo ep ya b 8) (-5) else ep, zb_xA (if ¬ nI (zb_mh ep b 8) < cp ∧ ¬ zb_mo ep ya b 8 = 48 then upd ep (zb_mo ep ya b 8) (-5) else ep) ya, mg, cs, so)) :
    wpX_makeRoom post (wt, rt, sh, dl, la, cp, on, pr, ca, sc, cr, cc, rp, lk, co, sg, st, tm, ro, ep, zb_xA ep ya, mg, cs, so) (nI b) := by
  have l : ∀ n t, t ≤ 8 → 8 - t < n → wX_makeRoom_7 post (nI b) wt rt sh dl la cp on pr ca sc cr cc rp lk co sg st tm ro ep (zb_xA ep ya) mg cs so n (nI (zb_mh ep b t)) (zb_oI (zb_mo ep ya b t)) (nI t) := by
    refine zb_loop (fun n t => wX_makeRoom_7 post (nI b) wt rt sh dl la cp on pr ca sc cr cc rp lk co sg st tm ro ep (zb_xA ep ya) mg cs so n (nI (zb_mh ep b t)) (zb_oI (zb_mo ep ya b t)) (nI t)) 8 ?_ ?_
    · intro n
      refine br_t (nI_le (a := 8) (b := 8) (by omega) (by omega)) ?_
      by_cases c : nI (zb_mh ep b 8) < cp
      · rw [if_neg (fun z => z.1 c)] at h
        exact br_t c h
      · refine br_f c ?_
        have ho := zb_mo_in (ep := ep) (ya := ya) hb 8 (by omega)
        by_cases e : zb_mo ep ya b 8 = 48
        · rw [if_neg (fun z => z.2 e)] at h
          rw [e]
          exact br_t (by decide) h
        · rw [if_pos ⟨c, e⟩] at h
          have e5 : zb_oI (zb_mo ep ya b 8) = nI (zb_mo ep ya b 8) := if_neg e
          have ho' := ho.resolve_left e
          rw [e5]
          exact br_f (nI_pos (by omega)) (zx_drop (by omega) h)
    · intro n t ht hw
      have hm := zb_mh_le (ep := ep) (b := b) t
      have ho := zb_mo_in (ep := ep) (ya := ya) hb t (by omega)
      refine br_f (nI_ge (a := t) (b := 8) ht (by omega)) (nm_r (zb_ix8 b t) ⟨vp_in_nI (by omega) (by omega), ?_⟩)
      rw [nI_clamp (by omega)]
      simp only [zb_mh, zb_mo] at hw
      by_cases z : ep (8 * b + t) = -5
      · rw [if_pos z, if_pos z] at hw
        exact br_t z (nm_r (nI_1 t) hw)
      · rw [if_neg z, if_neg z] at hw
        refine br_f z (nm_r (nI_1 _) ?_)
        by_cases e : zb_mo ep ya b t = 48
        · rw [if_pos (Or.inl e)] at hw
          have e6 : zb_oI (8 * b + t) = nI (8 * b + t) := if_neg (by omega)
          rw [e6] at hw
          rw [e]
          exact br_t (by decide) (nm_r (nI_1 t) hw)
        · have e5 : zb_oI (zb_mo ep ya b t) = nI (zb_mo ep ya b t) := if_neg e
          have ho' := ho.resolve_left e
          rw [e5]
          refine br_f (nI_pos (by omega)) ⟨vp_in_nI (by omega) (by omega), vp_in_nI ho'.1 (by omega), ?_⟩
          rw [nI_clamp (by omega), zb_xA0 z, zb_xA0 ho'.2]
          by_cases y : ya (8 * b + t) ≤ ya (zb_mo ep ya b t)
          · rw [if_neg (fun q => q.elim e (fun q2 => q2 y)), e5] at hw
            exact br_t y (nm_r (nI_1 t) hw)
          · have e6 : zb_oI (8 * b + t) = nI (8 * b + t) := if_neg (by omega)
            rw [if_pos (Or.inr y), e6] at hw
            exact br_f y (nm_r (nI_1 t) hw)
  exact Exists.intro 9 (l 9 0 (by omega) (by omega))
theorem zx_learn {post : SX → Prop} {i src : Nat} (hi : i < 24) (hs : src < 8)
    (h : post (wt, rt, sh, dl, la, cp, on, pr, ca, sc, cr, cc, rp, lk, co, sg, st, tm, ro, zb_le cp ep ya i (8 * (i / 4) + src), zb_xA (zb_le cp ep ya i (8 * (i / 4) + src)) (upd ya (8 * (i / 4) + src) 0), mg, cs, so)) :
    wpX_learn post (wt, rt, sh, dl, la, cp, on, pr, ca, sc, cr, cc, rp, lk, co, sg, st, tm, ro, ep, zb_xA ep ya, mg, cs, so) (nI i) (nI src) := by
  have h29 : ∀ ep : Nat → Int32, post (wt, rt, sh, dl, la, cp, on, pr, ca, sc, cr, cc, rp, lk, co, sg, st, tm, ro, upd ep (8 * (i / 4) + src) (nI (i % 4)), zb_xA (upd ep (8 * (i / 4) + src) (nI (i % 4))) (upd ya (8 * (i / 4) + src) 0), mg, cs, so) → wX_learn_29 post (nI i) (nI (8 * (i / 4) + src)) wt rt sh dl la cp on pr ca sc cr cc rp lk co sg st tm ro ep (zb_xA ep ya) mg cs so := fun ep hp => by
    unfold wX_learn_29
    rw [nI_clamp (by omega), zb_an3 (by omega)]
    exact ⟨vp_in_nI (by omega) (by omega), nm_e ⟨vp_in_nI (by omega) (by omega), nm_r (zb_xA_set (by omega)) hp⟩⟩
  unfold zb_le at h
  unfold wpX_learn
  dsimp only
  refine nm_r (zb_sh2 (by omega)) (nm_r (zb_ix8 _ _) ⟨vp_in_nI (by omega) (by omega), ?_⟩)
  rw [nI_clamp (by omega)]
  by_cases z : ep (8 * (i / 4) + src) = -5
  · refine br_t z (zx_makeRoom (by omega) (h29 _ ?_))
    have e : zb_rm cp ep ya (i / 4) (8 * (i / 4) + src) = if ¬ nI (zb_mh ep (i / 4) 8) < cp ∧ ¬ zb_mo ep ya (i / 4) 8 = 48 then upd ep (zb_mo ep ya (i / 4) 8) (-5) else ep := by
      unfold zb_rm
      by_cases q : ¬ nI (zb_mh ep (i / 4) 8) < cp ∧ ¬ zb_mo ep ya (i / 4) 8 = 48
      · rw [if_pos q, if_pos ⟨z, q⟩]
      · rw [if_neg q, if_neg (fun y => q y.2)]
    rw [← e]
    exact h
  · refine br_f z (h29 _ ?_)
    have e : zb_rm cp ep ya (i / 4) (8 * (i / 4) + src) = ep := if_neg (fun y => z y.1)
    rw [e] at h
    exact h
theorem zx_flood {post : Int32 → Prop} {i d : Nat} (hS : zb_PS st tm d) (hG : ∀ i, i < 24 → sg i = nI (zb_N sg i) ∧ zb_N sg i ≤ 8) (hi : i < 24)
    (h : ∀ m, zb_mk m 9 (zb_fb (zb_g st i (-5)) (fun p => zb_N sg (4 * (i / 4) + p)) 4) → post m) : wpX_flood post (wt, rt, sh, dl, la, cp, on, pr, ca, sc, cr, cc, rp, lk, co, sg, st, tm, ro, ep, ea, mg, cs, so) (nI i) := by
  have l : ∀ n p m, p ≤ 4 → 4 - p < n → zb_mk m 9 (zb_fb (zb_g st i (-5)) (fun p => zb_N sg (4 * (i / 4) + p)) p) → wX_flood_11 post (nI i) (nI (4 * (i / 4))) wt rt sh dl la cp on pr ca sc cr cc rp lk co sg st tm ro ep ea mg cs so n m (nI p) := by
    intro n
    induction n with
    | zero => intro p m _ h; omega
    | succ n ih =>
      intro p m hp hn hm
      refine pk_le 4 p (fun hg => ?_) (fun hl => nm_r (nI_add _ _) ?_)
      · have e : p = 4 := by omega
        subst e
        exact h m hm
      · have hj : 4 * (i / 4) + p < 24 := by omega
        have hs := hS _ hj
        have hg := hG _ hj
        have keep : ¬ zb_g st i (-5) p = true → wX_flood_11 post (nI i) (nI (4 * (i / 4))) wt rt sh dl la cp on pr ca sc cr cc rp lk co sg st tm ro ep ea mg cs so n m (nI (p + 1)) := fun z => by
          refine ih (p + 1) m (by omega) (by omega) (fun s h9 => ?_)
          show _ = (zb_fb (zb_g st i (-5)) (fun p => zb_N sg (4 * (i / 4) + p)) p s || (zb_g st i (-5) p && _))
          rw [hm s h9, Bool.eq_false_iff.mpr z, Bool.false_and, Bool.or_false]
        refine pk_eq (4 * (i / 4) + p) i (fun e => nm_r (nI_1 p) (keep (fun z => (of_decide_eq_true z).1 e))) (fun e => ⟨vp_in_nI hj (by omega), ?_⟩)
        rw [nI_clamp (by omega), hs.1]
        refine pk_eq (zb_N st (4 * (i / 4) + p)) 4 (fun e4 => ⟨vp_in_nI hj (by omega), nm_e (nm_r (nI_1 p) (ih (p + 1) _ (by omega) (by omega) (fun s h9 => ?_)))⟩) (fun e4 => nm_r (nI_1 p) (keep (fun z => e4 (of_decide_eq_true z).2.1)))
        show _ = (zb_fb (zb_g st i (-5)) (fun p => zb_N sg (4 * (i / 4) + p)) p s || (zb_g st i (-5) p && decide (s = zb_N sg (4 * (i / 4) + p))))
        have eg : zb_g st i (-5) p = true := decide_eq_true ⟨e, e4, Or.inl rfl⟩
        rw [hg.1, zb_bor m (by omega) (by omega), hm s h9, eg, Bool.true_and]
  unfold wpX_flood
  dsimp only
  rw [zb_sh2 (by omega), zb_m4]
  exact nm_e ⟨5, l 5 0 0 (by omega) (by omega) (fun s _ => b_0 s)⟩
/-- where the entry names one port, the frame goes there alone -/
theorem zb_fb_one {g : Nat → Bool} {S : Nat → Nat} {q s : Nat} (hq : q < 4) (h : ∀ p, p < 4 → ¬ p = q → g p = false) : zb_fb g S 4 s = (g q && decide (s = S q)) := by
  have h' : ∀ p, p ≤ 4 → zb_fb g S p s = (decide (q < p) && (g q && decide (s = S q))) := by
    intro p
    induction p with
    | zero => intro _; rw [decide_eq_false (by omega)]; rfl
    | succ p ih =>
      intro hp
      show (zb_fb g S p s || (g p && decide (s = S p))) = _
      rw [ih (by omega)]
      by_cases e : p = q
      · subst e
        rw [decide_eq_false (show ¬ p < p by omega), decide_eq_true (show p < p + 1 by omega), Bool.false_and, Bool.false_or, Bool.true_and]
      · rw [h p (by omega) e, Bool.false_and, Bool.or_false, show decide (q < p) = decide (q < p + 1) from decide_eq_decide.mpr (by omega)]
  rw [h' 4 (by omega), decide_eq_true hq, Bool.true_and]
theorem zx_relay {post : Int32 → Prop} {i dst d : Nat} (hS : zb_PS st tm d) (hE : zb_PE st ep) (hG : ∀ i, i < 24 → sg i = nI (zb_N sg i) ∧ zb_N sg i ≤ 8) (hi : i < 24) (hd : dst ≤ 8)
    (h : ∀ m, zb_mk m 9 (zb_fb (zb_g st i (zb_kn ep (i / 4) dst)) (fun p => zb_N sg (4 * (i / 4) + p)) 4) → post m) : wpX_relay post (wt, rt, sh, dl, la, cp, on, pr, ca, sc, cr, cc, rp, lk, co, sg, st, tm, ro, ep, ea, mg, cs, so) (nI i) (nI dst) := by
  unfold zb_kn at h
  unfold wpX_relay
  dsimp only
  refine nm_r (zb_sh2 (by omega)) (pk_le 8 dst (fun g => ?_) (fun g => ?_))
  · rw [if_pos g] at h
    exact br_t rfl (zx_flood hS hG hi h)
  · rw [if_neg (by omega)] at h
    rw [zb_ix8, nI_clamp (by omega)]
    refine ⟨vp_in_nI (by omega) (by omega), nm_e ?_⟩
    rcases hE (8 * (i / 4) + dst) (by omega) with z | ⟨z1, z2, z3⟩
    · rw [z] at h ⊢
      exact br_t rfl (zx_flood hS hG hi h)
    · have e8 : (8 * (i / 4) + dst) / 8 = i / 4 := by omega
      rw [e8] at z3
      revert h z1 z2 z3
      generalize zb_N ep (8 * (i / 4) + dst) = q
      intro h z1 z2 z3
      rw [z1] at h ⊢
      have hj : 4 * (i / 4) + q < 24 := by omega
      have hs := hS _ hj
      have hg := hG _ hj
      refine br_f (zb_m5' (by omega)) (nm_r (zb_ix4 _ _) ?_)
      have one : ∀ s, zb_fb (zb_g st i (nI q)) (fun p => zb_N sg (4 * (i / 4) + p)) 4 s = (zb_g st i (nI q) q && decide (s = zb_N sg (4 * (i / 4) + q))) := fun s => zb_fb_one z2 (fun p hp e => by
        refine decide_eq_false (fun z => ?_)
        rcases z.2.2 with y | y
        · exact zb_m5' (by omega) y
        · exact e (zb_nI_inj (by omega) (by omega) y).symm)
      have none : ¬ zb_g st i (nI q) q = true → post 0 := fun z => h 0 (fun s _ => by rw [one, Bool.eq_false_iff.mpr z, Bool.false_and]; exact b_0 s)
      refine pk_eq (4 * (i / 4) + q) i (fun e => none (fun z => (of_decide_eq_true z).1 e)) (fun e => ⟨vp_in_nI hj (by omega), ?_⟩)
      rw [nI_clamp (by omega), hs.1]
      refine pk_eq (zb_N st (4 * (i / 4) + q)) 4 (fun e4 => ⟨vp_in_nI hj (by omega), h _ (fun s h9 => ?_)⟩) (fun e4 => none (fun z => e4 (of_decide_eq_true z).2.1))
      have eg : zb_g st i (nI q) q = true := decide_eq_true ⟨e, e4, Or.inr rfl⟩
      rw [one, eg, Bool.true_and, hg.1]
      exact zb_b1s (by omega) (by omega)
end
end
section
/-! the component's frame: the turns and the answer -/
def zb_rc (F : Nat → Bool) (so : Nat → Int32) (src dst : Nat) : Nat → Int32
  | 0 => 0
  | t + 1 => if ¬ t = src ∧ (dst = 8 ∨ dst = t) ∧ F (zb_N so t) = true then zb_rc F so src dst t + 1 else zb_rc F so src dst t
def zb_cf (F : Nat → Bool) (s : Nat) (v : Int32) : Int32 := if F s = true then v + 1 else v
theorem zb_rc_one {F : Nat → Bool} {so : Nat → Int32} {src dst : Nat} (hd : dst < 8) (hne : ¬ dst = src) : zb_rc F so src dst 8 = if F (zb_N so dst) = true then 1 else 0 := by
  have h : ∀ t, t ≤ 8 → zb_rc F so src dst t = if dst < t ∧ F (zb_N so dst) = true then 1 else 0 := by
    intro t
    induction t with
    | zero => intro _; rw [if_neg (fun z => by omega)]; rfl
    | succ t ih =>
      intro ht
      simp only [zb_rc]
      rw [ih (by omega)]
      by_cases e : dst = t
      · subst e
        by_cases f : F (zb_N so dst) = true
        · rw [if_pos ⟨hne, Or.inr rfl, f⟩, if_neg (fun z => by have := z.1; omega), if_pos ⟨by omega, f⟩]; rfl
        · rw [if_neg (fun z => f z.2.2), if_neg (fun z => f z.2), if_neg (fun z => f z.2)]
      · rw [if_neg (fun z => by rcases z.2.1 with y | y <;> omega)]
        by_cases f : dst < t ∧ F (zb_N so dst) = true
        · rw [if_pos f, if_pos ⟨by have := f.1; omega, f.2⟩]
        · rw [if_neg f, if_neg (fun z => f ⟨by have := z.1; omega, z.2⟩)]
  rw [h 8 (by omega)]
  by_cases f : F (zb_N so dst) = true
  · rw [if_pos ⟨hd, f⟩, if_pos f]
  · rw [if_neg (fun z => f z.2), if_neg f]
section
variable {wt rt sh dl la cp : Int32} {on pr ca sc cr cc rp lk co sg st tm ro ep ea mg cs so ya di tc cb ev he fr : Nat → Int32}
theorem zx_run15 {post : Int32 → SX → Prop} {d src dst : Nat} {x : zb_F} (hW : zb_WF on pr lk co sg) (hU : ∀ i, i < 24 → zb_PU on lk st i) (hS : zb_PS st tm d) (hs : src < 8) (hd : dst ≤ 8) (hF : zb_PF st x)
    (h : ∀ m, zb_mk m 9 (zb_rn cp st sg src dst x 6).2.2.1 → post m (wt, rt, sh, dl, la, cp, on, pr, ca, sc, cr, cc, rp, lk, co, sg, st, tm, ro, (zb_rn cp st sg src dst x 6).1, zb_xA (zb_rn cp st sg src dst x 6).1 (zb_rn cp st sg src dst x 6).2.1, mg, cs, so)) :
    ∀ n t x3 x4, t ≤ 6 → 6 - t < n → zb_mk x3 9 (zb_rn cp st sg src dst x t).2.2.1 → zb_mk x4 6 (zb_rn cp st sg src dst x t).2.2.2 →
      wX_runFrame_15 post (nI src) (nI dst) n x3 x4 (nI t) wt rt sh dl la cp on pr ca sc cr cc rp lk co sg st tm ro ((zb_rn cp st sg src dst x t).1) (zb_xA (zb_rn cp st sg src dst x t).1 (zb_rn cp st sg src dst x t).2.1) mg cs so := by
  have hG : ∀ i, i < 24 → sg i = nI (zb_N sg i) ∧ zb_N sg i ≤ 8 := fun i hi => ⟨(zb_WF_sg hW hi).1, (zb_WF_sg hW hi).2.1⟩
  intro n
  induction n with
  | zero => intro t x3 x4 _ h; omega
  | succ n ih =>
    intro t x3 x4 ht hn h3 h4
    refine pk_le 6 t (fun hg => ?_) (fun hl => ?_)
    · have e : t = 6 := by omega
      subst e
      exact h x3 h3
    · refine zx_nh (x := zb_rn cp st sg src dst x t) hS hG h3 h4 ?_
      obtain ⟨n1, n2, n3⟩ := zb_nh_spec (st := st) (sg := sg) (x := zb_rn cp st sg src dst x t)
      by_cases e : zb_nh st sg (zb_rn cp st sg src dst x t) = 24
      · have e6 := zb_rn_end e (6 - t)
        rw [show t + (6 - t) = 6 from by omega] at e6
        rw [e6] at h
        rw [e]
        exact br_f (by decide) (h x3 h3)
      · have e5 : zb_hI (zb_nh st sg (zb_rn cp st sg src dst x t)) = nI (zb_nh st sg (zb_rn cp st sg src dst x t)) := if_neg e
        rw [e5]
        have eq : zb_rn cp st sg src dst x (t + 1) = zb_hr cp st sg src dst (zb_rn cp st sg src dst x t) (zb_nh st sg (zb_rn cp st sg src dst x t)) := if_neg e
        have ih' := fun x3 x4 => ih (t + 1) x3 x4 (by omega) (by omega)
        rw [eq] at ih'
        have hP := zb_rn_PF (cp := cp) (dst := dst) hW hU hs hF t
        have h3' := (zb_hP_3 (n2 (by omega))).2.1
        have hi : zb_nh st sg (zb_rn cp st sg src dst x t) < 24 := by omega
        revert ih' h3 h4 hP h3' hi
        generalize zb_nh st sg (zb_rn cp st sg src dst x t) = i
        generalize zb_rn cp st sg src dst x t = q
        intro h3 h4 ih' hP h3' hi
        obtain ⟨ep, ya, F, H⟩ := q
        unfold zb_hr at ih'
        dsimp only at h3 h4 hP ih' ⊢
        refine br_t (nI_pos' (by omega)) ?_
        rw [zb_sh2 (by omega)]
        refine nm_e (zx_learn hi hs ?_)
        dsimp only
        refine ⟨vp_in_nI hi (by omega), ?_⟩
        have hst := hS i hi
        rw [nI_clamp (by omega), hst.1]
        have hH : zb_mk (x4 ||| ((1 : Int32) <<< (nI (i / 4) &&& 31))) 6 (zb_eb H (i / 4)) := fun t ht => by
          rw [zb_bor x4 (by omega) (by omega), h4 t ht]
          rfl
        refine pk_eq (zb_N st i) 4 (fun e4 => ?_) (fun e4 => nm_r (nI_1 t) ?_)
        · refine zx_relay hS (zb_le_PE (ya := ya) hP.1 hi hs h3') hG hi hd (fun m hm => nm_e (nm_r (nI_1 t) ?_))
          rw [if_pos e4] at ih'
          refine ih' _ _ (fun s h9 => ?_) hH
          rw [b_or, h3 s h9, hm s h9]
        · rw [if_neg e4] at ih'
          exact ih' _ _ h3 hH
theorem zx_s49 {post : Int32 → SX → Prop} {src dst : Nat} {F : Nat → Bool} {m : Int32} (hs : src < 8) (hd : dst ≤ 8) (hne : ¬ dst = src) (hO : ∀ t, t < 8 → so t = nI (zb_N so t) ∧ zb_N so t ≤ 8) (hm : zb_mk m 9 F)
    (h : post (zb_rc F so src dst 8) (wt, rt, sh, dl, la, cp, on, pr, ca, sc, cr, cc, rp, lk, co, sg, st, tm, ro, ep, ea, mg, zb_pw 8 (zb_cf F) cs, so)) : ∃ n, wX_send_49 post (nI src) (nI dst) m wt rt sh dl la cp n 0 on pr ca sc cr cc rp lk co sg st tm ro ep ea mg cs so := by
  have l105 : dst = 8 → ∀ n t, t ≤ 8 → 8 - t < n → wX_send_105 post (nI src) m wt rt sh dl la cp on pr ca sc cr cc rp lk co sg st tm ro ep ea mg (zb_pw 8 (zb_cf F) cs) so n (zb_rc F so src dst t) (nI t) := fun e8 => by
    refine zb_loop (fun n t => wX_send_105 post (nI src) m wt rt sh dl la cp on pr ca sc cr cc rp lk co sg st tm ro ep ea mg (zb_pw 8 (zb_cf F) cs) so n (zb_rc F so src dst t) (nI t)) 8 ?_ ?_
    · intro n
      exact br_t (nI_le (a := 8) (b := 8) (by omega) (by omega)) h
    · intro n t ht hw
      have ho := hO t ht
      simp only [zb_rc] at hw
      refine br_f (nI_ge (a := t) (b := 8) ht (by omega)) (pk_eq t src (fun e => nm_r (nI_1 t) ?_) (fun e => ⟨vp_in_nI ht (by omega), ?_⟩))
      · rw [if_neg (fun z => z.1 e)] at hw
        exact hw
      · rw [nI_clamp (by omega), ho.1, zb_bv m (by omega), hm _ (by omega)]
        by_cases f : F (zb_N so t) = true
        · rw [if_pos ⟨e, Or.inl e8, f⟩] at hw
          rw [if_pos f]
          exact nm_e (nm_r (nI_1 t) hw)
        · rw [if_neg (fun z => f z.2.2)] at hw
          rw [if_neg f, Int32.add_zero]
          exact nm_e (nm_r (nI_1 t) hw)
  have l : ∀ n s, s ≤ 8 → 8 - s < n → wX_send_49 post (nI src) (nI dst) m wt rt sh dl la cp n (nI s) on pr ca sc cr cc rp lk co sg st tm ro ep ea mg (zb_pw s (zb_cf F) cs) so := by
    refine zb_loop (fun n s => wX_send_49 post (nI src) (nI dst) m wt rt sh dl la cp n (nI s) on pr ca sc cr cc rp lk co sg st tm ro ep ea mg (zb_pw s (zb_cf F) cs) so) 8 ?_ ?_
    · intro n
      refine br_t (nI_le (a := 8) (b := 8) (by omega) (by omega)) (pk_le 8 dst (fun g => ⟨9, l105 (by omega) 9 0 (by omega) (by omega)⟩) (fun g => ⟨vp_in_nI g (by omega), ?_⟩))
      have ho := hO dst g
      rw [zb_rc_one g hne] at h
      rw [nI_clamp (by omega), ho.1, zb_bv m (by omega), hm _ (by omega)]
      exact h
    · intro n s hs8 hw
      refine br_f (nI_ge (a := s) (b := 8) hs8 (by omega)) ?_
      by_cases f : F s = true
      · refine br_f (zb_bz1 (by omega) ((hm s (by omega)).trans f)) ⟨vp_in_nI hs8 (by omega), vp_in_nI hs8 (by omega), nm_r (e' := zb_pw (s + 1) (zb_cf F) cs) ?_ (nm_r (nI_1 s) hw)⟩
        rw [nI_clamp (by omega), zb_pw_ge (Nat.le_refl s)]
        exact zb_pw_u (show _ = zb_cf F s (cs s) from (if_pos f).symm)
      · refine br_t (zb_bz0 (by omega) (by rw [hm s (by omega)]; exact f)) (nm_r (nI_1 s) ?_)
        rw [zb_pw_k (show zb_cf F s (cs s) = cs s from if_neg f)]
        exact hw
  have k := l 9 0 (by omega) (by omega)
  rw [zb_pw0] at k
  exact ⟨9, k⟩
end
end
section
/-! the reference's frame -/
/-- an array of booleans holds F below n -/
def zb_fa (fr : Nat → Int32) (n : Nat) (F : Nat → Bool) : Prop := ∀ t, t < n → fr t = if F t = true then 1 else 0
theorem zb_fa_up {fr : Nat → Int32} {n s : Nat} {F : Nat → Bool} (h : zb_fa fr n F) : zb_fa (upd fr s 1) n (fun t => F t || decide (t = s)) := by
  intro t ht
  show _ = if (F t || decide (t = s)) = true then 1 else 0
  by_cases e : t = s
  · subst e; rw [pk_us, decide_eq_true rfl, Bool.or_true]; rfl
  · rw [pk_un e, decide_eq_false e, Bool.or_false]; exact h t ht
section
variable {wt rt sh dl la cp : Int32} {on pr ca sc cr cc rp lk co sg st tm ro ep ea mg cs so ya di tc cb ev he fr : Nat → Int32}
theorem zy_nh {post : Int32 → Prop} {x : zb_F} {d : Nat} (hS : zb_PS st tm d) (hG : ∀ i, i < 24 → sg i = nI (zb_N sg i) ∧ zb_N sg i ≤ 8) (h1 : zb_fa fr 9 x.2.2.1) (h2 : zb_fa he 6 x.2.2.2)
    (h : post (zb_hI (zb_nh st sg x))) : wpY_nextHearer post (dl, la, cp, wt, rt, sh, on, pr, ca, sc, sg, lk, co, st, tm, ep, ya, so, cs, di, tc, cb, ev, he, fr) := by
  obtain ⟨n1, n2, n3⟩ := zb_nh_spec (st := st) (sg := sg) (x := x)
  have l : ∀ n i, i ≤ zb_nh st sg x → zb_nh st sg x - i < n → wY_nextHearer_2 post dl la cp wt rt sh on pr ca sc sg lk co st tm ep ya so cs di tc cb ev he fr n (nI i) := by
    have gen : ∀ n i, i < 24 → (zb_hP st sg x i = true → post (nI i)) → (¬ zb_hP st sg x i = true → wY_nextHearer_2 post dl la cp wt rt sh on pr ca sc sg lk co st tm ep ya so cs di tc cb ev he fr n (nI (i + 1))) → wY_nextHearer_2 post dl la cp wt rt sh on pr ca sc sg lk co st tm ep ya so cs di tc cb ev he fr (n + 1) (nI i) := by
      intro n i hi ht hf
      have hs := hS i hi
      have hg := hG i hi
      refine br_f (nI_ge (a := i) (b := 24) hi (by omega)) ⟨by decide, ?_⟩
      rw [zb_dv4 (by omega), nI_clamp (show i / 4 < 2 ^ 31 by omega), nI_clamp (show i < 2 ^ 31 by omega), h2 _ (by omega)]
      refine ⟨vp_in_nI (by omega) (by omega), ?_⟩
      unfold zb_hP at ht hf
      by_cases c1 : x.2.2.2 (i / 4) = true
      · rw [if_pos c1]
        refine br_f (by decide) (nm_r (nI_1 i) (hf ?_))
        rw [c1]; intro z; cases z
      · have c1' : x.2.2.2 (i / 4) = false := Bool.eq_false_iff.mpr c1
        rw [if_neg c1]
        refine br_t rfl ⟨vp_in_nI hi (by omega), ?_⟩
        rw [hs.1]
        refine pk_lt (zb_N st i) 3 (fun g => nm_r (nI_1 i) (hf ?_)) (fun g => ⟨vp_in_nI hi (by omega), ?_⟩)
        · rw [decide_eq_false (by omega : ¬ 3 ≤ zb_N st i), Bool.false_and, Bool.and_false]; decide
        · rw [hg.1, nI_clamp (by omega), h1 _ (by omega)]
          refine ⟨vp_in_nI (by omega) (by omega), ?_⟩
          by_cases c3 : x.2.2.1 (zb_N sg i) = true
          · rw [if_pos c3]
            refine br_f (by decide) (ht ?_)
            rw [c1', c3, decide_eq_true (by omega : 3 ≤ zb_N st i)]; rfl
          · rw [if_neg c3]
            refine br_t rfl (nm_r (nI_1 i) (hf ?_))
            rw [Bool.eq_false_iff.mpr c3, Bool.and_false, Bool.and_false]; decide
    refine zb_loop (fun n i => wY_nextHearer_2 post dl la cp wt rt sh on pr ca sc sg lk co st tm ep ya so cs di tc cb ev he fr n (nI i)) (zb_nh st sg x) ?_ ?_
    · intro n
      by_cases e : zb_nh st sg x = 24
      · rw [e] at h ⊢
        exact br_t (nI_le (a := 24) (b := 24) (by omega) (by omega)) h
      · have e5 : zb_hI (zb_nh st sg x) = nI (zb_nh st sg x) := if_neg e
        rw [e5] at h
        exact gen n _ (by omega) (fun _ => h) (fun z => absurd (n2 (by omega)) z)
    · intro n i hi hw
      exact gen n i (by omega) (fun z => absurd z (n3 i hi)) (fun _ => hw)
  exact Exists.intro (zb_nh st sg x + 1) (l _ 0 (by omega) (by omega))
theorem zy_learn {post : SY → Prop} {i src : Nat} (hi : i < 24) (hs : src < 8)
    (h : post (dl, la, cp, wt, rt, sh, on, pr, ca, sc, sg, lk, co, st, tm, zb_le cp ep ya i (8 * (i / 4) + src), upd ya (8 * (i / 4) + src) 0, so, cs, di, tc, cb, ev, he, fr)) : wpY_learn post (dl, la, cp, wt, rt, sh, on, pr, ca, sc, sg, lk, co, st, tm, ep, ya, so, cs, di, tc, cb, ev, he, fr) (nI i) (nI src) := by
  have hb : i / 4 < 6 := by omega
  have h108 : ∀ ep : Nat → Int32, post (dl, la, cp, wt, rt, sh, on, pr, ca, sc, sg, lk, co, st, tm, upd ep (8 * (i / 4) + src) (nI (i % 4)), upd ya (8 * (i / 4) + src) 0, so, cs, di, tc, cb, ev, he, fr) → wY_learn_108 post (nI i) (nI src) (nI (8 * (i / 4))) dl la cp wt rt sh on pr ca sc sg lk co st tm ep ya so cs di tc cb ev he fr := fun ep hp => by
    unfold wY_learn_108
    rw [nI_add, nI_clamp (by omega), zb_rm4 (by omega)]
    exact ⟨by decide, vp_in_nI (by omega) (by omega), nm_e ⟨vp_in_nI (by omega) (by omega), nm_e hp⟩⟩
  unfold zb_le zb_rm at h
  have l : ∀ n t, t ≤ 8 → 8 - t < n → wY_learn_16 post (nI i) (nI src) (nI (8 * (i / 4))) dl la cp wt rt sh on pr ca sc sg lk co st tm ep ya so cs di tc cb ev he fr n (nI (zb_mh ep (i / 4) t)) (zb_oI (zb_mo ep ya (i / 4) t)) (nI (8 * (i / 4) + t)) := by
    refine zb_loop (fun n t => wY_learn_16 post (nI i) (nI src) (nI (8 * (i / 4))) dl la cp wt rt sh on pr ca sc sg lk co st tm ep ya so cs di tc cb ev he fr n (nI (zb_mh ep (i / 4) t)) (zb_oI (zb_mo ep ya (i / 4) t)) (nI (8 * (i / 4) + t))) 8 ?_ ?_
    · intro n
      refine pk_le (8 * (i / 4) + 8) (8 * (i / 4) + 8) (fun _ => ?_) (fun g => absurd g (by omega)) (nI_add _ 8) rfl (by omega) (by omega)
      rw [nI_add, nI_clamp (show 8 * (i / 4) + src < 2 ^ 31 by omega)]
      refine ⟨vp_in_nI (by omega) (by omega), ?_⟩
      by_cases z : ep (8 * (i / 4) + src) = -5
      · refine br_t z ?_
        by_cases c : nI (zb_mh ep (i / 4) 8) < cp
        · rw [if_neg (fun y => y.2.1 c)] at h
          exact br_t c (h108 _ h)
        · refine br_f c ?_
          have ho := zb_mo_in (ep := ep) (ya := ya) hb 8 (by omega)
          by_cases e : zb_mo ep ya (i / 4) 8 = 48
          · rw [if_neg (fun y => y.2.2 e)] at h
            rw [e]
            exact br_t (by decide) (h108 _ h)
          · rw [if_pos ⟨z, c, e⟩] at h
            have e5 : zb_oI (zb_mo ep ya (i / 4) 8) = nI (zb_mo ep ya (i / 4) 8) := if_neg e
            have ho' := ho.resolve_left e
            rw [e5]
            refine br_f (nI_pos (by omega)) ⟨vp_in_nI ho'.1 (by omega), nm_r (e' := upd ep (zb_mo ep ya (i / 4) 8) (-5)) (by rw [nI_clamp (by omega)]) (h108 _ h)⟩
      · rw [if_neg (fun y => z y.1)] at h
        exact br_f z (h108 _ h)
    · intro n t ht hw
      have hm := zb_mh_le (ep := ep) (b := i / 4) t
      have ho := zb_mo_in (ep := ep) (ya := ya) hb t (by omega)
      refine pk_le (8 * (i / 4) + 8) (8 * (i / 4) + t) (fun g => absurd g (by omega)) (fun _ => ⟨vp_in_nI (by omega) (by omega), ?_⟩) (nI_add _ 8) rfl (by omega) (by omega)
      rw [nI_clamp (show 8 * (i / 4) + t < 2 ^ 31 by omega)]
      simp only [zb_mh, zb_mo] at hw
      by_cases z : ep (8 * (i / 4) + t) = -5
      · rw [if_pos z, if_pos z] at hw
        exact br_t z (nm_r (nI_1 _) hw)
      · rw [if_neg z, if_neg z] at hw
        refine br_f z (nm_r (nI_1 _) ?_)
        by_cases e : zb_mo ep ya (i / 4) t = 48
        · rw [if_pos (Or.inl e)] at hw
          have e6 : zb_oI (8 * (i / 4) + t) = nI (8 * (i / 4) + t) := if_neg (by omega)
          rw [e6] at hw
          rw [e]
          exact br_t (by decide) (nm_r (nI_1 _) hw)
        · have e5 : zb_oI (zb_mo ep ya (i / 4) t) = nI (zb_mo ep ya (i / 4) t) := if_neg e
          have ho' := ho.resolve_left e
          rw [e5]
          refine br_f (nI_pos (by omega)) ⟨vp_in_nI (by omega) (by omega), vp_in_nI ho'.1 (by omega), ?_⟩
          rw [nI_clamp (by omega)]
          by_cases y : ya (8 * (i / 4) + t) ≤ ya (zb_mo ep ya (i / 4) t)
          · rw [if_neg (fun q => q.elim e (fun q2 => q2 y)), e5] at hw
            exact br_t y (nm_r (nI_1 _) hw)
          · have e6 : zb_oI (8 * (i / 4) + t) = nI (8 * (i / 4) + t) := if_neg (by omega)
            rw [if_pos (Or.inr y), e6] at hw
            exact br_f y (nm_r (nI_1 _) hw)
  unfold wpY_learn
  dsimp only
  rw [zb_dv4 (by omega), zb_m8]
  exact ⟨by decide, nm_e ⟨9, l 9 0 (by omega) (by omega)⟩⟩
theorem zy_h60 {post : SY → Prop} {i d : Nat} {q : Int32} {F : Nat → Bool} (hS : zb_PS st tm d) (hG : ∀ i, i < 24 → sg i = nI (zb_N sg i) ∧ zb_N sg i ≤ 8) (hi : i < 24) (hF : zb_fa fr 9 F)
    (h : ∀ fr : Nat → Int32, zb_fa fr 9 (fun s => F s || zb_fb (zb_g st i q) (fun p => zb_N sg (4 * (i / 4) + p)) 4 s) → post (dl, la, cp, wt, rt, sh, on, pr, ca, sc, sg, lk, co, st, tm, ep, ya, so, cs, di, tc, cb, ev, he, fr)) :
    ∃ n, wY_hear_60 post (nI i) (nI (i / 4)) q dl la cp wt rt sh n (nI (4 * (i / 4))) on pr ca sc sg lk co st tm ep ya so cs di tc cb ev he fr := by
  have l : ∀ n p fr, p ≤ 4 → 4 - p < n → zb_fa fr 9 (fun s => F s || zb_fb (zb_g st i q) (fun p => zb_N sg (4 * (i / 4) + p)) p s) → wY_hear_60 post (nI i) (nI (i / 4)) q dl la cp wt rt sh n (nI (4 * (i / 4) + p)) on pr ca sc sg lk co st tm ep ya so cs di tc cb ev he fr := by
    intro n
    induction n with
    | zero => intro p fr _ h; omega
    | succ n ih =>
      intro p fr hp hn hm
      refine pk_le (4 * (i / 4) + 4) (4 * (i / 4) + p) (fun hg => ?_) (fun hl => ?_) (zb_m4e _) rfl (by omega) (by omega)
      · have e : p = 4 := by omega
        subst e
        exact h fr hm
      · have hj : 4 * (i / 4) + p < 24 := by omega
        have hs := hS _ hj
        have hg := hG _ hj
        have keep : ¬ zb_g st i q p = true → wY_hear_60 post (nI i) (nI (i / 4)) q dl la cp wt rt sh n (nI (4 * (i / 4) + p + 1)) on pr ca sc sg lk co st tm ep ya so cs di tc cb ev he fr := fun z => by
          refine ih (p + 1) fr (by omega) (by omega) (fun s h9 => ?_)
          show _ = if (F s || (zb_fb (zb_g st i q) (fun p => zb_N sg (4 * (i / 4) + p)) p s || (zb_g st i q p && _))) = true then 1 else 0
          rw [Bool.eq_false_iff.mpr z, Bool.false_and, Bool.or_false]
          exact hm s h9
        have take : zb_g st i q p = true → wY_hear_104 post (wY_hear_60 post (nI i) (nI (i / 4)) q dl la cp wt rt sh n) (nI i) (nI (i / 4)) q (nI (4 * (i / 4) + p)) dl la cp wt rt sh on pr ca sc sg lk co st tm ep ya so cs di tc cb ev he fr := fun z => by
          unfold wY_hear_104
          rw [nI_clamp (show 4 * (i / 4) + p < 2 ^ 31 by omega), hg.1, nI_clamp (by omega)]
          refine ⟨vp_in_nI hj (by omega), vp_in_nI (by omega) (by omega), nm_r (e' := upd fr (zb_N sg (4 * (i / 4) + p)) 1) rfl (nm_r (nI_1 _) (ih (p + 1) _ (by omega) (by omega) (fun s h9 => ?_)))⟩
          have k := zb_fa_up (s := zb_N sg (4 * (i / 4) + p)) hm s h9
          show _ = if (F s || (zb_fb (zb_g st i q) (fun p => zb_N sg (4 * (i / 4) + p)) p s || (zb_g st i q p && decide (s = zb_N sg (4 * (i / 4) + p))))) = true then 1 else 0
          rw [z, Bool.true_and, ← Bool.or_assoc]
          exact k
        refine pk_eq (4 * (i / 4) + p) i (fun e => nm_r (nI_1 _) (keep (fun z => (of_decide_eq_true z).1 e))) (fun e => ⟨vp_in_nI hj (by omega), ?_⟩)
        rw [nI_clamp (show 4 * (i / 4) + p < 2 ^ 31 by omega), hs.1]
        refine pk_eq (zb_N st (4 * (i / 4) + p)) 4 (fun e4 => ?_) (fun e4 => nm_r (nI_1 _) (keep (fun z => e4 (of_decide_eq_true z).2.1)))
        by_cases y : q = -5
        · exact br_t y (take (decide_eq_true ⟨e, e4, Or.inl y⟩))
        · refine br_f y ⟨by decide, ?_⟩
          rw [zb_rm4 (by omega), show (4 * (i / 4) + p) % 4 = p from by omega]
          by_cases y2 : q = nI p
          · exact br_t y2 (take (decide_eq_true ⟨e, e4, Or.inr y2⟩))
          · exact br_f y2 (nm_r (nI_1 _) (keep (fun z => (of_decide_eq_true z).2.2.elim y y2)))
  exact ⟨5, l 5 0 fr (by omega) (by omega) (fun s h9 => by show _ = if (F s || false) = true then 1 else 0; rw [Bool.or_false]; exact hF s h9)⟩
theorem zy_hear {post : SY → Prop} {i src dst d : Nat} {x : zb_F} (hS : zb_PS st tm d) (hG : ∀ i, i < 24 → sg i = nI (zb_N sg i) ∧ zb_N sg i ≤ 8) (hi : i < 24) (hs : src < 8) (hd : dst ≤ 8) (hF : zb_fa fr 9 x.2.2.1) (hH : zb_fa he 6 x.2.2.2)
    (h : ∀ he fr : Nat → Int32, zb_fa fr 9 (zb_hr cp st sg src dst x i).2.2.1 → zb_fa he 6 (zb_hr cp st sg src dst x i).2.2.2 → post (dl, la, cp, wt, rt, sh, on, pr, ca, sc, sg, lk, co, st, tm, (zb_hr cp st sg src dst x i).1, (zb_hr cp st sg src dst x i).2.1, so, cs, di, tc, cb, ev, he, fr)) :
    wpY_hear post (dl, la, cp, wt, rt, sh, on, pr, ca, sc, sg, lk, co, st, tm, x.1, x.2.1, so, cs, di, tc, cb, ev, he, fr) (nI i) (nI src) (nI dst) := by
  obtain ⟨ep, ya, F, H⟩ := x
  unfold zb_hr at h
  dsimp only at h hF hH ⊢
  unfold wpY_hear
  dsimp only
  rw [zb_dv4 (by omega)]
  have hb : i / 4 < 6 := by omega
  refine ⟨by decide, nm_e ⟨vp_in_nI hb (by omega), nm_r (e' := upd he (i / 4) 1) (by rw [nI_clamp (by omega)]; rfl) ?_⟩⟩
  have hH' : zb_fa (upd he (i / 4) 1) 6 (zb_eb H (i / 4)) := zb_fa_up hH
  refine zy_learn hi hs ?_
  dsimp only
  refine ⟨vp_in_nI hi (by omega), ?_⟩
  have hst := hS i hi
  rw [nI_clamp (show i < 2 ^ 31 by omega), hst.1, zb_ix8, zb_m4]
  refine pk_eq (zb_N st i) 4 (fun e4 => ?_) (fun e4 => ?_)
  · rw [if_pos e4] at h
    unfold zb_kn at h
    refine pk_le 8 dst (fun g => nm_e ?_) (fun g => ?_)
    · rw [if_pos g] at h
      exact zy_h60 hS hG hi hF (fun fr hfr => h _ fr hfr hH')
    · rw [if_neg (by omega)] at h
      rw [nI_clamp (by omega)]
      exact ⟨vp_in_nI (by omega) (by omega), nm_e (nm_e (zy_h60 hS hG hi hF (fun fr hfr => h _ fr hfr hH')))⟩
  · rw [if_neg e4] at h
    exact h _ fr hF hH'
end
end
section
/-! send -/
section
variable {wt rt sh dl la cp : Int32} {on pr ca sc cr cc rp lk co sg st tm ro ep ea mg cs so ya di tc cb ev he fr : Nat → Int32}
theorem zy_s168 {post : Int32 → SY → Prop} {src dst : Nat} {F : Nat → Bool} (hs : src < 8) (hd : dst ≤ 8) (hO : ∀ t, t < 8 → so t = nI (zb_N so t) ∧ zb_N so t ≤ 8) (hF : zb_fa fr 9 F)
    (h : post (zb_rc F so src dst 8) (dl, la, cp, wt, rt, sh, on, pr, ca, sc, sg, lk, co, st, tm, ep, ya, so, cs, di, tc, cb, ev, he, fr)) : ∃ n, wY_send_168 post (nI src) (nI dst) dl la cp wt rt sh on pr ca sc sg lk co st tm ep ya so cs di tc cb ev he fr n 0 0 := by
  have l : ∀ n t, t ≤ 8 → 8 - t < n → wY_send_168 post (nI src) (nI dst) dl la cp wt rt sh on pr ca sc sg lk co st tm ep ya so cs di tc cb ev he fr n (zb_rc F so src dst t) (nI t) := by
    refine zb_loop (fun n t => wY_send_168 post (nI src) (nI dst) dl la cp wt rt sh on pr ca sc sg lk co st tm ep ya so cs di tc cb ev he fr n (zb_rc F so src dst t) (nI t)) 8 ?_ ?_
    · intro n
      exact br_t (nI_le (a := 8) (b := 8) (by omega) (by omega)) h
    · intro n t ht hw
      have ho := hO t ht
      simp only [zb_rc] at hw
      refine br_f (nI_ge (a := t) (b := 8) ht (by omega)) (pk_eq t src (fun e => nm_r (nI_1 t) ?_) (fun e => ?_))
      · rw [if_neg (fun z => z.1 e)] at hw
        exact hw
      · have h193 : (dst = 8 ∨ dst = t) → wY_send_193 post (wY_send_168 post (nI src) (nI dst) dl la cp wt rt sh on pr ca sc sg lk co st tm ep ya so cs di tc cb ev he fr n) (nI src) (nI dst) (zb_rc F so src dst t) (nI t) dl la cp wt rt sh on pr ca sc sg lk co st tm ep ya so cs di tc cb ev he fr := fun q => by
          unfold wY_send_193
          rw [nI_clamp (show t < 2 ^ 31 by omega), ho.1, nI_clamp (by omega), hF _ (by omega)]
          refine ⟨vp_in_nI ht (by omega), vp_in_nI (by omega) (by omega), ?_⟩
          by_cases f : F (zb_N so t) = true
          · rw [if_pos ⟨e, q, f⟩] at hw
            rw [if_pos f]
            exact br_f (by decide) (nm_e (nm_r (nI_1 t) hw))
          · rw [if_neg (fun z => f z.2.2)] at hw
            rw [if_neg f]
            exact br_t rfl (nm_r (nI_1 t) hw)
        refine pk_eq dst 8 (fun e8 => h193 (Or.inl e8)) (fun e8 => pk_eq dst t (fun et => h193 (Or.inr et)) (fun et => nm_r (nI_1 t) ?_))
        rw [if_neg (fun z => z.2.1.elim e8 et)] at hw
        exact hw
  exact ⟨9, l 9 0 (by omega) (by omega)⟩
theorem zy_s132 {post : Int32 → SY → Prop} {src dst : Nat} {F : Nat → Bool} (hs : src < 8) (hd : dst ≤ 8) (hO : ∀ t, t < 8 → so t = nI (zb_N so t) ∧ zb_N so t ≤ 8) (hF : zb_fa fr 9 F)
    (h : post (zb_rc F so src dst 8) (dl, la, cp, wt, rt, sh, on, pr, ca, sc, sg, lk, co, st, tm, ep, ya, so, zb_pw 8 (zb_cf F) cs, di, tc, cb, ev, he, fr)) : ∃ n, wY_send_132 post (nI src) (nI dst) dl la cp wt rt sh n 0 on pr ca sc sg lk co st tm ep ya so cs di tc cb ev he fr := by
  have l : ∀ n s, s ≤ 8 → 8 - s < n → wY_send_132 post (nI src) (nI dst) dl la cp wt rt sh n (nI s) on pr ca sc sg lk co st tm ep ya so (zb_pw s (zb_cf F) cs) di tc cb ev he fr := by
    refine zb_loop (fun n s => wY_send_132 post (nI src) (nI dst) dl la cp wt rt sh n (nI s) on pr ca sc sg lk co st tm ep ya so (zb_pw s (zb_cf F) cs) di tc cb ev he fr) 8 ?_ ?_
    · intro n
      exact br_t (nI_le (a := 8) (b := 8) (by omega) (by omega)) (zy_s168 hs hd hO hF h)
    · intro n s hs8 hw
      refine br_f (nI_ge (a := s) (b := 8) hs8 (by omega)) ⟨vp_in_nI (by omega) (by omega), ?_⟩
      rw [nI_clamp (by omega), hF s (by omega)]
      by_cases f : F s = true
      · rw [if_pos f, zb_pw_ge (Nat.le_refl s)]
        exact br_f (by decide) ⟨vp_in_nI hs8 (by omega), vp_in_nI hs8 (by omega), nm_r (e' := zb_pw (s + 1) (zb_cf F) cs) (zb_pw_u (show _ = zb_cf F s (cs s) from (if_pos f).symm)) (nm_r (nI_1 s) hw)⟩
      · rw [if_neg f]
        refine br_t rfl (nm_r (nI_1 s) ?_)
        rw [zb_pw_k (show zb_cf F s (cs s) = cs s from if_neg f)]
        exact hw
  have k := l 9 0 (by omega) (by omega)
  rw [zb_pw0] at k
  exact ⟨9, k⟩
theorem zy_s99 {post : Int32 → SY → Prop} {d src dst : Nat} {x : zb_F} (hW : zb_WF on pr lk co sg) (hS : zb_PS st tm d) (hs : src < 8) (hd : dst ≤ 8)
    (h : ∀ he fr : Nat → Int32, zb_fa fr 9 (zb_rn cp st sg src dst x 6).2.2.1 → ∃ n, wY_send_132 post (nI src) (nI dst) dl la cp wt rt sh n 0 on pr ca sc sg lk co st tm ((zb_rn cp st sg src dst x 6).1) ((zb_rn cp st sg src dst x 6).2.1) so cs di tc cb ev he fr) (hF : zb_fa fr 9 x.2.2.1) (hH : zb_fa he 6 x.2.2.2) :
    ∃ n, wY_send_99 post (nI src) (nI dst) n 0 dl la cp wt rt sh on pr ca sc sg lk co st tm x.1 x.2.1 so cs di tc cb ev he fr := by
  have hG : ∀ i, i < 24 → sg i = nI (zb_N sg i) ∧ zb_N sg i ≤ 8 := fun i hi => ⟨(zb_WF_sg hW hi).1, (zb_WF_sg hW hi).2.1⟩
  have l : ∀ n t he fr, t ≤ 6 → 6 - t < n → zb_fa fr 9 (zb_rn cp st sg src dst x t).2.2.1 → zb_fa he 6 (zb_rn cp st sg src dst x t).2.2.2 → wY_send_99 post (nI src) (nI dst) n (nI t) dl la cp wt rt sh on pr ca sc sg lk co st tm ((zb_rn cp st sg src dst x t).1) ((zb_rn cp st sg src dst x t).2.1) so cs di tc cb ev he fr := by
    intro n
    induction n with
    | zero => intro t he fr _ h; omega
    | succ n ih =>
      intro t he fr ht hn h3 h4
      refine pk_le 6 t (fun hg => ?_) (fun hl => ?_)
      · have e : t = 6 := by omega
        subst e
        exact h he fr h3
      · refine zy_nh (x := zb_rn cp st sg src dst x t) hS hG h3 h4 ?_
        obtain ⟨n1, n2, n3⟩ := zb_nh_spec (st := st) (sg := sg) (x := zb_rn cp st sg src dst x t)
        by_cases e : zb_nh st sg (zb_rn cp st sg src dst x t) = 24
        · have e6 : zb_rn cp st sg src dst x (t + 1) = zb_rn cp st sg src dst x t := if_pos e
          have k := ih (t + 1) he fr (by omega) (by omega)
          rw [e6] at k
          rw [e]
          exact br_t (by decide) (nm_r (nI_1 t) (k h3 h4))
        · have e5 : zb_hI (zb_nh st sg (zb_rn cp st sg src dst x t)) = nI (zb_nh st sg (zb_rn cp st sg src dst x t)) := if_neg e
          rw [e5]
          have eq : zb_rn cp st sg src dst x (t + 1) = zb_hr cp st sg src dst (zb_rn cp st sg src dst x t) (zb_nh st sg (zb_rn cp st sg src dst x t)) := if_neg e
          have ih' := fun he fr => ih (t + 1) he fr (by omega) (by omega)
          rw [eq] at ih'
          exact br_f (nI_pos (by omega)) (zy_hear hS hG (by omega) hs hd h3 h4 (fun he fr hf hh => nm_r (nI_1 t) (ih' he fr hf hh)))
  exact ⟨7, l 7 0 he fr (by omega) (by omega) hF hH⟩
theorem zy_s64 {post : Int32 → SY → Prop} {src dst s0 : Nat} (hs : src < 8) (h8 : s0 < 8) (hso : so src = nI s0) (h0 : fr 8 = 0)
    (h : ∀ fr : Nat → Int32, zb_fa fr 9 (fun s => decide (s = s0)) → ∃ n, wY_send_99 post (nI src) (nI dst) n 0 dl la cp wt rt sh on pr ca sc sg lk co st tm ep ya so cs di tc cb ev he fr) : ∃ n, wY_send_64 post (nI src) (nI dst) dl la cp wt rt sh n 0 on pr ca sc sg lk co st tm ep ya so cs di tc cb ev he fr := by
  have l : ∀ n s fr, s ≤ 8 → 8 - s < n → fr 8 = 0 → (∀ t, t < s → fr t = if decide (t = s0) = true then 1 else 0) → wY_send_64 post (nI src) (nI dst) dl la cp wt rt sh n (nI s) on pr ca sc sg lk co st tm ep ya so cs di tc cb ev he fr := by
    intro n
    induction n with
    | zero => intro s fr _ h; omega
    | succ n ih =>
      intro s fr hs8 hn h9 hf
      refine pk_le 8 s (fun hg => h fr (fun t ht => ?_)) (fun hl => ⟨vp_in_nI hs (by omega), ?_⟩)
      · by_cases e : t = 8
        · subst e
          show _ = if decide (8 = s0) = true then 1 else 0
          rw [h9, decide_eq_false (by omega)]
          rfl
        · exact hf t (by omega)
      · rw [nI_clamp (show src < 2 ^ 31 by omega), hso]
        refine pk_eq s s0 (fun e => ⟨vp_in_nI (by omega) (by omega), nm_r (e' := upd fr (nI s).toNatClampNeg 1) rfl (nm_r (nI_1 s) (ih (s + 1) _ (by omega) (by omega) ?_ (zb_fill (F := fun t => if decide (t = s0) = true then 1 else 0) (by omega) hf ?_)))⟩) (fun e => ⟨vp_in_nI (by omega) (by omega), nm_r (e' := upd fr (nI s).toNatClampNeg 0) rfl (nm_r (nI_1 s) (ih (s + 1) _ (by omega) (by omega) ?_ (zb_fill (F := fun t => if decide (t = s0) = true then 1 else 0) (by omega) hf ?_)))⟩)
        · rw [nI_clamp (by omega), pk_un (by omega)]; exact h9
        · show (1 : Int32) = if decide (s = s0) = true then 1 else 0
          rw [decide_eq_true e]; rfl
        · rw [nI_clamp (by omega), pk_un (by omega)]; exact h9
        · show (0 : Int32) = if decide (s = s0) = true then 1 else 0
          rw [decide_eq_false e]; rfl
  exact ⟨9, l 9 0 fr (by omega) (by omega) h0 (fun t ht => absurd ht (by omega))⟩
theorem zy_s43 {post : Int32 → SY → Prop} {src dst : Nat} (h : ∀ he : Nat → Int32, zb_fa he 6 (fun _ => false) → ∃ n, wY_send_64 post (nI src) (nI dst) dl la cp wt rt sh n 0 on pr ca sc sg lk co st tm ep ya so cs di tc cb ev he fr) : ∃ n, wY_send_43 post (nI src) (nI dst) dl la cp wt rt sh n 0 on pr ca sc sg lk co st tm ep ya so cs di tc cb ev he fr := by
  have l : ∀ n b he, b ≤ 6 → 6 - b < n → (∀ t, t < b → he t = 0) → wY_send_43 post (nI src) (nI dst) dl la cp wt rt sh n (nI b) on pr ca sc sg lk co st tm ep ya so cs di tc cb ev he fr := by
    intro n
    induction n with
    | zero => intro b he _ h; omega
    | succ n ih =>
      intro b he hb hn hf
      exact pk_le 6 b (fun hg => h he (fun t ht => hf t (by omega))) (fun hl => ⟨vp_in_nI hl (by omega), nm_r (e' := upd he (nI b).toNatClampNeg 0) rfl (nm_r (nI_1 b) (ih (b + 1) _ (by omega) (by omega) (zb_fill (F := fun _ => 0) (by omega) hf rfl)))⟩)
  exact ⟨7, l 7 0 he (by omega) (by omega) (fun t ht => absurd ht (by omega))⟩
end
theorem i_vc_send {k : Nat} {u : SX} {v : SY} (I : i_Rel k u v) (hk : k + 4 ≤ 2052) (v1 : Int32) (v2 : Int32) : wpX_send (fun r u' => wpY_send (fun r' v' => r' = r ∧ i_Rel (k + 4) u' v') v v1 v2) u v1 v2 := by
  refine zz_el (P := fun u v => wpX_send (fun r u' => wpY_send (fun r' v' => r' = r ∧ i_Rel (k + 4) u' v') v v1 v2) u v1 v2) ?_ I
  intro wt rt sh dl la cp on pr ca sc cr cc rp lk co sg st tm ro ep mg cs so ya di tc cb ev he fr w d hI
  have hR : i_Rel (k + 4) (wt, rt, sh, dl, la, cp, on, pr, ca, sc, cr, cc, rp, lk, co, sg, st, tm, ro, ep, zb_xA ep ya, mg, cs, so) (dl, la, cp, wt, rt, sh, on, pr, ca, sc, sg, lk, co, st, tm, ep, ya, so, cs, di, tc, cb, ev, he, fr) := zz_in hI
  obtain ⟨a1, a2, a3, a4, a5, a6, a7⟩ := hI
  unfold wpX_send
  dsimp only
  rcases zb_ix v1 (n := 8) (by omega) with hx | ⟨src, hs, rfl⟩
  · refine zx_sa0 hx (br_t rfl ?_)
    unfold wpY_send
    dsimp only
    exact zy_out1 (m := 7) (by omega) hx (br_f (by decide) ⟨rfl, hR⟩)
  · refine zx_sa1 hs (br_f (by decide) ?_)
    rcases zb_ix v2 (n := 9) (by omega) with hx | ⟨dst, hd, rfl⟩
    · have hY : wpY_send (fun r' v' => r' = -1 ∧ i_Rel (k + 4) (wt, rt, sh, dl, la, cp, on, pr, ca, sc, cr, cc, rp, lk, co, sg, st, tm, ro, ep, zb_xA ep ya, mg, cs, so) v') (dl, la, cp, wt, rt, sh, on, pr, ca, sc, sg, lk, co, st, tm, ep, ya, so, cs, di, tc, cb, ev, he, fr) (nI src) v2 := by
        unfold wpY_send
        dsimp only
        exact zy_out0 (m := 7) (by omega) (by omega) (br_t rfl (zy_out1 (m := 8) (by omega) hx (br_f (by decide) ⟨rfl, hR⟩)))
      by_cases z : v2 < 0
      · exact br_t z hY
      · exact br_f z (br_t (Int32.not_le.mp (zb_nle (m := 8) (by omega) (hx.resolve_left z))) hY)
    · refine br_f (nI_pos (by omega)) (br_f (nI_nlt (a := 8) (b := dst) (by omega) (by omega)) ?_)
      by_cases e : dst = src
      · subst e
        refine br_t rfl ?_
        unfold wpY_send
        dsimp only
        exact zy_out0 (m := 7) (by omega) (by omega) (br_t rfl (zy_out0 (m := 8) (by omega) (by omega) (br_t rfl (br_t rfl ⟨rfl, hR⟩))))
      · have ei : ¬ nI dst = nI src := fun z => e (zb_nI_inj (by omega) (by omega) z)
        refine br_f ei ⟨vp_in_nI hs (by omega), ?_⟩
        rw [nI_clamp (by omega)]
        have ho := a6 src hs
        by_cases z : so src = 8
        · refine br_t z ?_
          unfold wpY_send
          dsimp only
          refine zy_out0 (m := 7) (by omega) (by omega) (br_t rfl (zy_out0 (m := 8) (by omega) (by omega) (br_t rfl (br_f ei ⟨vp_in_nI hs (by omega), ?_⟩))))
          rw [nI_clamp (by omega)]
          exact br_t z ⟨rfl, hR⟩
        · have h8 : zb_N so src < 8 := by
            have : zb_N so src ≠ 8 := fun y => z (by rw [ho.1, y]; rfl)
            omega
          refine br_f z ?_
          unfold wpX_runFrame
          dsimp only
          rw [nI_clamp (by omega)]
          refine ⟨vp_in_nI hs (by omega), nm_e ⟨7, ?_⟩⟩
          have hPF : zb_PF st (ep, ya, (fun s => decide (s = zb_N so src)), fun _ => false) := ⟨a3.2, decide_eq_false (by omega)⟩
          refine zx_run15 (x := (ep, ya, (fun s => decide (s = zb_N so src)), fun _ => false)) a1 a4 a3.1 hs (by omega) hPF (fun m hm => ?_) 7 0 _ 0 (by omega) (by omega) (fun s h9 => by rw [ho.1]; exact zb_b1s (by omega) (by omega)) (fun t _ => b_0 t)
          refine zx_s49 hs (by omega) e a6 hm ?_
          unfold wpY_send
          dsimp only
          refine zy_out0 (m := 7) (by omega) (by omega) (br_t rfl (zy_out0 (m := 8) (by omega) (by omega) (br_t rfl (br_f ei ⟨vp_in_nI hs (by omega), ?_⟩))))
          rw [nI_clamp (by omega)]
          refine br_f z (zy_s43 (fun he hhe => zy_s64 hs h8 ho.1 a7 (fun fr hfr => ?_)))
          refine zy_s99 (x := (ep, ya, (fun s => decide (s = zb_N so src)), fun _ => false)) a1 a3.1 hs (by omega) (fun he fr hfr => ?_) hfr hhe
          refine zy_s132 hs (by omega) a6 hfr ⟨rfl, ?_⟩
          have hP6 := zb_rn_PF (cp := cp) (dst := dst) (x := (ep, ya, (fun s => decide (s = zb_N so src)), fun _ => false)) a1 a4 hs hPF 6
          refine zz_in (w := w) (d := d) ⟨a1, a2, ⟨a3.1, hP6.1⟩, a4, a5, a6, ?_⟩
          rw [hfr 8 (by omega), hP6.2]
          rfl
end
section
/-! the constructors -/
def zb_cl (x lo hi : Int32) : Int32 := if lo ≤ x then (if x ≤ hi then x else hi) else lo
theorem zx_clamp {post : Int32 → Prop} {u : SX} {x lo hi : Int32} (h : post (zb_cl x lo hi)) : wpX_clamp post u x lo hi := by
  obtain ⟨_, _, _, _, _, _, _, _, _, _, _, _, _, _, _, _, _, _, _, _, _, _, _, _⟩ := u
  unfold zb_cl at h
  by_cases a : lo ≤ x
  · rw [if_pos a] at h
    by_cases b : x ≤ hi
    · rw [if_pos b] at h; exact br_t a (br_t b h)
    · rw [if_neg b] at h; exact br_t a (br_f b h)
  · rw [if_neg a] at h; exact br_f a h
theorem zy_clamp {post : Int32 → Prop} {u : SY} {x lo hi : Int32} (h : post (zb_cl x lo hi)) : wpY_clamp post u x lo hi := by
  obtain ⟨_, _, _, _, _, _, _, _, _, _, _, _, _, _, _, _, _, _, _, _, _, _, _, _, _⟩ := u
  unfold zb_cl at h
  by_cases a : lo ≤ x
  · rw [if_pos a] at h
    by_cases b : x ≤ hi
    · rw [if_pos b] at h; exact br_t a (br_t b h)
    · rw [if_neg b] at h; exact br_t a (br_f b h)
  · rw [if_neg a] at h; exact br_f a h
theorem zb_cl_in {x : Int32} {lo hi : Nat} (h : lo ≤ hi) (hh : hi < 2 ^ 31) : ∃ n, lo ≤ n ∧ n ≤ hi ∧ zb_cl x (nI lo) (nI hi) = nI n := by
  unfold zb_cl
  by_cases a : nI lo ≤ x
  · rw [if_pos a]
    by_cases b : x ≤ nI hi
    · rw [if_pos b]
      have h0 : ¬ x < 0 := fun z => by
        rw [Int32.le_iff_toInt_le, nI_toInt (by omega)] at a
        rw [Int32.lt_iff_toInt_lt] at z
        have e0 : (0 : Int32).toInt = 0 := by decide
        omega
      obtain ⟨j, hj, rfl⟩ := nI_of h0
      exact ⟨j, (nI_leI (by omega) hj).mp a, (nI_leI hj hh).mp b, rfl⟩
    · rw [if_neg b]; exact ⟨hi, h, Nat.le_refl _, rfl⟩
  · rw [if_neg a]; exact ⟨lo, Nat.le_refl _, h, rfl⟩
section
variable {wt rt sh dl la cp : Int32} {on pr ca sc cr cc rp lk co sg st tm ro ep ea mg cs so ya di tc cb ev he fr : Nat → Int32}
theorem zx_i336 {post : SX → Prop} (hW : zb_WF on pr lk co sg) (h : ∀ cr cc rp ro mg : Nat → Int32, zb_CL on pr lk co sg cr cc ro → post (wt, rt, sh, dl, la, cp, on, pr, ca, sc, cr, cc, rp, lk, co, sg, st, tm, ro, ep, ea, mg, cs, zb_pw 8 (fun _ _ => 8) so)) : ∃ n, wX_init_336 post wt rt sh dl la cp n 0 on pr ca sc cr cc rp lk co sg st tm ro ep ea mg cs so := by
  have l : ∀ n i, i ≤ 8 → 8 - i < n → wX_init_336 post wt rt sh dl la cp n (nI i) on pr ca sc cr cc rp lk co sg st tm ro ep ea mg cs (zb_pw i (fun _ _ => 8) so) := by
    refine zb_loop (fun n i => wX_init_336 post wt rt sh dl la cp n (nI i) on pr ca sc cr cc rp lk co sg st tm ro ep ea mg cs (zb_pw i (fun _ _ => 8) so)) 8 ?_ ?_
    · intro n
      exact br_t (nI_le (a := 8) (b := 8) (by omega) (by omega)) (zx_el hW h)
    · intro n i hi hw
      exact br_f (nI_ge (a := i) (b := 8) hi (by omega)) ⟨vp_in_nI hi (by omega), nm_r (e' := zb_pw (i + 1) (fun _ _ => 8) so) (by rw [nI_clamp (by omega)]; exact zb_pw_u rfl) (nm_r (nI_1 i) hw)⟩
  have k := l 9 0 (by omega) (by omega)
  rw [zb_pw0] at k
  exact ⟨9, k⟩
theorem zx_i302 {post : SX → Prop} (h : ∃ n, wX_init_336 post wt rt sh dl la cp n 0 on pr ca sc cr cc rp lk co sg st tm ro (zb_pw 48 (fun _ _ => -5) ep) (zb_pw 48 (fun _ _ => -5) ea) mg cs so) : ∃ n, wX_init_302 post wt rt sh dl la cp n 0 on pr ca sc cr cc rp lk co sg st tm ro ep ea mg cs so := by
  have l : ∀ n i, i ≤ 48 → 48 - i < n → wX_init_302 post wt rt sh dl la cp n (nI i) on pr ca sc cr cc rp lk co sg st tm ro (zb_pw i (fun _ _ => -5) ep) (zb_pw i (fun _ _ => -5) ea) mg cs so := by
    refine zb_loop (fun n i => wX_init_302 post wt rt sh dl la cp n (nI i) on pr ca sc cr cc rp lk co sg st tm ro (zb_pw i (fun _ _ => -5) ep) (zb_pw i (fun _ _ => -5) ea) mg cs so) 48 ?_ ?_
    · intro n
      exact br_t (nI_le (a := 48) (b := 48) (by omega) (by omega)) h
    · intro n i hi hw
      exact br_f (nI_ge (a := i) (b := 48) hi (by omega)) ⟨vp_in_nI hi (by omega), nm_r (e' := zb_pw (i + 1) (fun _ _ => -5) ep) (by rw [nI_clamp (by omega)]; exact zb_pw_u rfl) ⟨vp_in_nI hi (by omega), nm_r (e' := zb_pw (i + 1) (fun _ _ => -5) ea) (by rw [nI_clamp (by omega)]; exact zb_pw_u rfl) (nm_r (nI_1 i) hw)⟩⟩
  have k := l 49 0 (by omega) (by omega)
  rw [zb_pw0, zb_pw0] at k
  exact ⟨49, k⟩
theorem zx_i268 {post : SX → Prop} (h : ∃ n, wX_init_302 post wt rt sh dl la cp n 0 on pr ca sc cr cc rp lk (zb_pw 24 (fun _ _ => 10) co) (zb_pw 24 (fun _ _ => 8) sg) st tm ro ep ea mg cs so) : ∃ n, wX_init_268 post wt rt sh dl la cp n 0 on pr ca sc cr cc rp lk co sg st tm ro ep ea mg cs so := by
  have l : ∀ n i, i ≤ 24 → 24 - i < n → wX_init_268 post wt rt sh dl la cp n (nI i) on pr ca sc cr cc rp lk (zb_pw i (fun _ _ => 10) co) (zb_pw i (fun _ _ => 8) sg) st tm ro ep ea mg cs so := by
    refine zb_loop (fun n i => wX_init_268 post wt rt sh dl la cp n (nI i) on pr ca sc cr cc rp lk (zb_pw i (fun _ _ => 10) co) (zb_pw i (fun _ _ => 8) sg) st tm ro ep ea mg cs so) 24 ?_ ?_
    · intro n
      exact br_t (nI_le (a := 24) (b := 24) (by omega) (by omega)) h
    · intro n i hi hw
      exact br_f (nI_ge (a := i) (b := 24) hi (by omega)) ⟨vp_in_nI hi (by omega), nm_r (e' := zb_pw (i + 1) (fun _ _ => 10) co) (by rw [nI_clamp (by omega)]; exact zb_pw_u rfl) ⟨vp_in_nI hi (by omega), nm_r (e' := zb_pw (i + 1) (fun _ _ => 8) sg) (by rw [nI_clamp (by omega)]; exact zb_pw_u rfl) (nm_r (nI_1 i) hw)⟩⟩
  have k := l 25 0 (by omega) (by omega)
  rw [zb_pw0, zb_pw0] at k
  exact ⟨25, k⟩
theorem zx_i235 {post : SX → Prop} (h : ∃ n, wX_init_268 post wt rt sh dl la cp n 0 (zb_pw 6 (fun _ _ => 1) on) (zb_pw 6 (fun _ _ => 8) pr) ca sc cr cc rp lk co sg st tm ro ep ea mg cs so) : ∃ n, wX_init_235 post wt rt sh dl la cp n 0 on pr ca sc cr cc rp lk co sg st tm ro ep ea mg cs so := by
  have l : ∀ n i, i ≤ 6 → 6 - i < n → wX_init_235 post wt rt sh dl la cp n (nI i) (zb_pw i (fun _ _ => 1) on) (zb_pw i (fun _ _ => 8) pr) ca sc cr cc rp lk co sg st tm ro ep ea mg cs so := by
    refine zb_loop (fun n i => wX_init_235 post wt rt sh dl la cp n (nI i) (zb_pw i (fun _ _ => 1) on) (zb_pw i (fun _ _ => 8) pr) ca sc cr cc rp lk co sg st tm ro ep ea mg cs so) 6 ?_ ?_
    · intro n
      exact br_t (nI_le (a := 6) (b := 6) (by omega) (by omega)) h
    · intro n i hi hw
      exact br_f (nI_ge (a := i) (b := 6) hi (by omega)) ⟨vp_in_nI hi (by omega), nm_r (e' := zb_pw (i + 1) (fun _ _ => 1) on) (by rw [nI_clamp (by omega)]; exact zb_pw_u rfl) ⟨vp_in_nI hi (by omega), nm_r (e' := zb_pw (i + 1) (fun _ _ => 8) pr) (by rw [nI_clamp (by omega)]; exact zb_pw_u rfl) (nm_r (nI_1 i) hw)⟩⟩
  have k := l 7 0 (by omega) (by omega)
  rw [zb_pw0, zb_pw0] at k
  exact ⟨7, k⟩
theorem zy_i335 {post : SY → Prop} (h : post (dl, la, cp, wt, rt, sh, on, pr, ca, sc, sg, lk, co, st, tm, ep, ya, zb_pw 8 (fun _ _ => 8) so, cs, di, tc, cb, ev, he, fr)) : ∃ n, wY_init_335 post dl la cp wt rt sh n 0 on pr ca sc sg lk co st tm ep ya so cs di tc cb ev he fr := by
  have l : ∀ n i, i ≤ 8 → 8 - i < n → wY_init_335 post dl la cp wt rt sh n (nI i) on pr ca sc sg lk co st tm ep ya (zb_pw i (fun _ _ => 8) so) cs di tc cb ev he fr := by
    refine zb_loop (fun n i => wY_init_335 post dl la cp wt rt sh n (nI i) on pr ca sc sg lk co st tm ep ya (zb_pw i (fun _ _ => 8) so) cs di tc cb ev he fr) 8 ?_ ?_
    · intro n
      exact br_t (nI_le (a := 8) (b := 8) (by omega) (by omega)) h
    · intro n i hi hw
      exact br_f (nI_ge (a := i) (b := 8) hi (by omega)) ⟨vp_in_nI hi (by omega), nm_r (e' := zb_pw (i + 1) (fun _ _ => 8) so) (by rw [nI_clamp (by omega)]; exact zb_pw_u rfl) (nm_r (nI_1 i) hw)⟩
  have k := l 9 0 (by omega) (by omega)
  rw [zb_pw0] at k
  exact ⟨9, k⟩
theorem zy_i310 {post : SY → Prop} (h : ∃ n, wY_init_335 post dl la cp wt rt sh n 0 on pr ca sc sg lk co st tm (zb_pw 48 (fun _ _ => -5) ep) ya so cs di tc cb ev he fr) : ∃ n, wY_init_310 post dl la cp wt rt sh n 0 on pr ca sc sg lk co st tm ep ya so cs di tc cb ev he fr := by
  have l : ∀ n i, i ≤ 48 → 48 - i < n → wY_init_310 post dl la cp wt rt sh n (nI i) on pr ca sc sg lk co st tm (zb_pw i (fun _ _ => -5) ep) ya so cs di tc cb ev he fr := by
    refine zb_loop (fun n i => wY_init_310 post dl la cp wt rt sh n (nI i) on pr ca sc sg lk co st tm (zb_pw i (fun _ _ => -5) ep) ya so cs di tc cb ev he fr) 48 ?_ ?_
    · intro n
      exact br_t (nI_le (a := 48) (b := 48) (by omega) (by omega)) h
    · intro n i hi hw
      exact br_f (nI_ge (a := i) (b := 48) hi (by omega)) ⟨vp_in_nI hi (by omega), nm_r (e' := zb_pw (i + 1) (fun _ _ => -5) ep) (by rw [nI_clamp (by omega)]; exact zb_pw_u rfl) (nm_r (nI_1 i) hw)⟩
  have k := l 49 0 (by omega) (by omega)
  rw [zb_pw0] at k
  exact ⟨49, k⟩
theorem zy_i276 {post : SY → Prop} (h : ∃ n, wY_init_310 post dl la cp wt rt sh n 0 on pr ca sc (zb_pw 24 (fun _ _ => 8) sg) lk (zb_pw 24 (fun _ _ => 10) co) st tm ep ya so cs di tc cb ev he fr) : ∃ n, wY_init_276 post dl la cp wt rt sh n 0 on pr ca sc sg lk co st tm ep ya so cs di tc cb ev he fr := by
  have l : ∀ n i, i ≤ 24 → 24 - i < n → wY_init_276 post dl la cp wt rt sh n (nI i) on pr ca sc (zb_pw i (fun _ _ => 8) sg) lk (zb_pw i (fun _ _ => 10) co) st tm ep ya so cs di tc cb ev he fr := by
    refine zb_loop (fun n i => wY_init_276 post dl la cp wt rt sh n (nI i) on pr ca sc (zb_pw i (fun _ _ => 8) sg) lk (zb_pw i (fun _ _ => 10) co) st tm ep ya so cs di tc cb ev he fr) 24 ?_ ?_
    · intro n
      exact br_t (nI_le (a := 24) (b := 24) (by omega) (by omega)) h
    · intro n i hi hw
      exact br_f (nI_ge (a := i) (b := 24) hi (by omega)) ⟨vp_in_nI hi (by omega), nm_r (e' := zb_pw (i + 1) (fun _ _ => 8) sg) (by rw [nI_clamp (by omega)]; exact zb_pw_u rfl) ⟨vp_in_nI hi (by omega), nm_r (e' := zb_pw (i + 1) (fun _ _ => 10) co) (by rw [nI_clamp (by omega)]; exact zb_pw_u rfl) (nm_r (nI_1 i) hw)⟩⟩
  have k := l 25 0 (by omega) (by omega)
  rw [zb_pw0, zb_pw0] at k
  exact ⟨25, k⟩
theorem zy_i243 {post : SY → Prop} (h : ∃ n, wY_init_276 post dl la cp wt rt sh n 0 (zb_pw 6 (fun _ _ => 1) on) (zb_pw 6 (fun _ _ => 8) pr) ca sc sg lk co st tm ep ya so cs di tc cb ev he fr) : ∃ n, wY_init_243 post dl la cp wt rt sh n 0 on pr ca sc sg lk co st tm ep ya so cs di tc cb ev he fr := by
  have l : ∀ n i, i ≤ 6 → 6 - i < n → wY_init_243 post dl la cp wt rt sh n (nI i) (zb_pw i (fun _ _ => 1) on) (zb_pw i (fun _ _ => 8) pr) ca sc sg lk co st tm ep ya so cs di tc cb ev he fr := by
    refine zb_loop (fun n i => wY_init_243 post dl la cp wt rt sh n (nI i) (zb_pw i (fun _ _ => 1) on) (zb_pw i (fun _ _ => 8) pr) ca sc sg lk co st tm ep ya so cs di tc cb ev he fr) 6 ?_ ?_
    · intro n
      exact br_t (nI_le (a := 6) (b := 6) (by omega) (by omega)) h
    · intro n i hi hw
      exact br_f (nI_ge (a := i) (b := 6) hi (by omega)) ⟨vp_in_nI hi (by omega), nm_r (e' := zb_pw (i + 1) (fun _ _ => 1) on) (by rw [nI_clamp (by omega)]; exact zb_pw_u rfl) ⟨vp_in_nI hi (by omega), nm_r (e' := zb_pw (i + 1) (fun _ _ => 8) pr) (by rw [nI_clamp (by omega)]; exact zb_pw_u rfl) (nm_r (nI_1 i) hw)⟩⟩
  have k := l 7 0 (by omega) (by omega)
  rw [zb_pw0, zb_pw0] at k
  exact ⟨7, k⟩
end
theorem zb_WF0 : zb_WF (zb_pw 6 (fun _ _ => 1) (fun _ => 0)) (zb_pw 6 (fun _ _ => 8) (fun _ => 0)) (fun _ => 0) (zb_pw 24 (fun _ _ => 10) (fun _ => 0)) (zb_pw 24 (fun _ _ => 8) (fun _ => 0)) := by
  refine ⟨fun b hb => ?_, fun b hb => ?_, fun i hi => Or.inl rfl, fun i hi => ?_, fun i hi => ?_⟩
  · rw [zb_pw_lt hb]; exact Or.inr rfl
  · rw [zb_pw_lt hb]; exact ⟨8, by omega, rfl⟩
  · rw [zb_pw_lt hi]; exact ⟨10, by omega, by omega, rfl⟩
  · rw [zb_pw_lt hi]; exact ⟨8, by omega, rfl, fun z => absurd rfl z⟩
theorem zb_xA_0 : zb_pw 48 (fun _ _ => -5) (fun _ => 0) = zb_xA (zb_pw 48 (fun _ _ => -5) (fun _ => 0)) (fun _ => 0) := by
  funext k
  by_cases h : k < 48
  · rw [zb_xA1 (zb_pw_lt h), zb_pw_lt h]
  · have e : zb_pw 48 (fun _ _ => -5) (fun _ => 0) k = 0 := zb_pw_ge (by omega)
    rw [zb_xA0 (by rw [e]; decide), e]
section
variable {wt rt sh dl la cp : Int32} {on pr ca sc cr cc rp lk co sg st tm ro ep ea mg cs so ya di tc cb ev he fr : Nat → Int32}
theorem zz_in2 {k w d : Nat} (hea : ea = zb_xA ep ya) (h : zb_INV wt rt dl on pr lk co sg cr cc ro st tm ep so fr w d) : i_Rel k (wt, rt, sh, dl, la, cp, on, pr, ca, sc, cr, cc, rp, lk, co, sg, st, tm, ro, ep, ea, mg, cs, so) (dl, la, cp, wt, rt, sh, on, pr, ca, sc, sg, lk, co, st, tm, ep, ya, so, cs, di, tc, cb, ev, he, fr) := by
  rw [hea]
  exact zz_in h
end
theorem zb_N0 (i : Nat) : zb_N (fun _ => 0) i = 0 := rfl
theorem i_vc0 (k0 : Int32) (k1 : Int32) (k2 : Int32) (k3 : Int32) : wpX_init (fun u => wpY_init (fun v => i_Rel 4 u v) k0 k1 k2 k3) k0 k1 k2 k3 := by
  obtain ⟨l, l1, l2, el⟩ := zb_cl_in (x := k0) (lo := 6) (hi := 12) (by omega) (by omega)
  obtain ⟨d, d1, d2, ed⟩ := zb_cl_in (x := k1) (lo := 1) (hi := 8) (by omega) (by omega)
  have el' : zb_cl k0 6 12 = nI l := el
  have ed' : zb_cl k1 1 8 = nI d := ed
  unfold wpX_init
  refine zx_clamp ?_
  refine zx_clamp ?_
  refine zx_clamp ?_
  refine zx_clamp ?_
  rw [el', ed']
  refine nm_r (nI_add l 6) (nm_r (e' := nI (l + 6 + 2 * d)) ?_ (nm_e ?_))
  · rw [show (2 : Int32) = nI 2 from rfl, pk_mul, nI_add]
  refine zx_i235 (zx_i268 (zx_i302 (zx_i336 zb_WF0 (fun cr cc rp ro mg hC => ?_))))
  unfold wpY_init
  refine zy_clamp ?_
  refine zy_clamp ?_
  refine zy_clamp ?_
  refine zy_clamp ?_
  rw [el', ed']
  refine nm_r (nI_add l 6) (nm_r (e' := nI (l + 6 + 2 * d)) ?_ (nm_e ?_))
  · rw [show (2 : Int32) = nI 2 from rfl, pk_mul, nI_add]
  refine zy_i243 (zy_i276 (zy_i310 (zy_i335 ?_)))
  refine zz_in2 (w := l + 6) (d := d) zb_xA_0 ?_
  refine ⟨zb_WF0, hC, ⟨fun i hi => ?_, fun k hk => Or.inl (zb_pw_lt hk)⟩, fun i hi => ?_, ⟨rfl, rfl, rfl, by omega, by omega, d1, d2⟩, fun t ht => ?_, rfl⟩
  · exact ⟨rfl, by rw [zb_N0]; omega, rfl, by rw [zb_N0]; omega, fun _ => rfl⟩
  · unfold zb_PU
    rw [zb_N0]
    exact ⟨fun _ z => (zb_U_lk z).1 rfl, fun _ => rfl⟩
  · have e : zb_pw 8 (fun _ _ => (8 : Int32)) (fun _ => 0) t = 8 := zb_pw_lt ht
    have e2 : zb_N (zb_pw 8 (fun _ _ => (8 : Int32)) (fun _ => 0)) t = 8 := by unfold zb_N; rw [e]; rfl
    rw [e, e2]
    exact ⟨rfl, by omega⟩
end
