section
/-! pure rows to paste: stores, nI and lN arithmetic, masks, shifts, narrowing, branches by naturals (pk_le, pk_lt, pk_eq), loops (lp1 .. lp16: the measure of the state; rp1 ..: recursion), negatives. Take what you need -/
theorem pk_us {f : Nat → Int32} {k : Nat} {x : Int32} : upd f k x k = x := if_pos rfl
theorem pk_un {f : Nat → Int32} {k j : Nat} {x : Int32} (h : j ≠ k) : upd f k x j = f j := if_neg h
theorem pk_uLs {f : Nat → Int64} {k : Nat} {x : Int64} : vp_updL f k x k = x := if_pos rfl
theorem pk_uLn {f : Nat → Int64} {k j : Nat} {x : Int64} (h : j ≠ k) : vp_updL f k x j = f j := if_neg h
theorem pk_sub {a b : Nat} (h : b ≤ a) : nI a - nI b = nI (a - b) := by
  obtain ⟨c, rfl⟩ : ∃ c, a = c + b := ⟨a - b, by omega⟩
  rw [← nI_add, Int32.add_sub_cancel, Nat.add_sub_cancel]
theorem pk_m1 (n : Nat) : nI (n + 1) + (-1) = nI n := by
  rw [← nI_1, Int32.add_assoc, show (1 : Int32) + (-1) = 0 from rfl, Int32.add_zero]
theorem pk_mul (a b : Nat) : nI a * nI b = nI (a * b) := (Int32.ofNat_mul a b).symm
theorem pk_div {a d : Nat} (ha : a < 2 ^ 31) (h0 : 0 < d) (hd : d < 2 ^ 31) : nI a / nI d = nI (a / d) := by
  apply Int32.toInt_inj.mp
  rw [lg_idiv_nonneg (by rw [nI_toInt ha]; omega) (by rw [nI_toInt hd]; omega), nI_toInt ha, nI_toInt hd, nI_toInt (Nat.lt_of_le_of_lt (Nat.div_le_self a d) ha)]
  first | rfl | exact (Int.natCast_ediv _ _).symm
theorem pk_rem {a d : Nat} (ha : a < 2 ^ 31) (h0 : 0 < d) (hd : d < 2 ^ 31) : nI a - nI a / nI d * nI d = nI (a % d) := by
  rw [pk_div ha h0 hd, pk_mul, pk_sub (Nat.div_mul_le_self a d)]
  exact congrArg nI (by have := Nat.div_add_mod' a d; omega)
theorem pk_sub_toInt {a b : Nat} (ha : a < 2 ^ 30) (hb : b < 2 ^ 30) : (nI a - nI b).toInt = (a : Int) - b := by
  rw [Int32.toInt_sub, nI_toInt (by omega), nI_toInt (by omega)]
  exact Int.bmod_eq_of_le (by omega) (by omega)
theorem pk_sneg {a b : Nat} (hb : b < 2 ^ 30) (h : a < b) : nI a - nI b < 0 := by
  rw [Int32.lt_iff_toInt_lt, pk_sub_toInt (by omega) hb, show (0 : Int32).toInt = 0 from by decide]
  omega
theorem pk_ix (x : Int32) {n : Nat} (hn : n < 2 ^ 31) : x < 0 ∨ nI n ≤ x ∨ ∃ j : Nat, j < n ∧ x = nI j := by
  by_cases h : x < 0
  · exact Or.inl h
  · obtain ⟨j, hj, rfl⟩ := nI_of h
    by_cases h2 : j < n
    · exact Or.inr (Or.inr ⟨j, h2, rfl⟩)
    · exact Or.inr (Or.inl (nI_le (by omega) hj))
theorem pk_le {x y : Int32} {A B : Prop} (a b : Nat) (f : a ≤ b → A) (g : b < a → B) (hx : x = nI a := by rfl) (hy : y = nI b := by rfl) (ha : a < 2 ^ 31 := by omega) (hb : b < 2 ^ 31 := by omega) : (x ≤ y → A) ∧ (¬ x ≤ y → B) := by
  subst hx hy
  rw [nI_leI ha hb]
  exact ⟨f, fun z => g (by omega)⟩
theorem pk_lt {x y : Int32} {A B : Prop} (a b : Nat) (f : a < b → A) (g : b ≤ a → B) (hx : x = nI a := by rfl) (hy : y = nI b := by rfl) (ha : a < 2 ^ 31 := by omega) (hb : b < 2 ^ 31 := by omega) : (x < y → A) ∧ (¬ x < y → B) := by
  subst hx hy
  rw [nI_ltI ha hb]
  exact ⟨f, fun z => g (by omega)⟩
theorem pk_eq {x y : Int32} {A B : Prop} (a b : Nat) (f : a = b → A) (g : a ≠ b → B) (hx : x = nI a := by rfl) (hy : y = nI b := by rfl) (ha : a < 2 ^ 31 := by omega) (hb : b < 2 ^ 31 := by omega) : (x = y → A) ∧ (¬ x = y → B) := by
  subst hx hy
  rw [nI_eq ha hb]
  exact ⟨f, g⟩
theorem pk_in {x : Int32} (n N : Nat) (h : n < N) (hx : x = nI n := by rfl) (hN : N < 2 ^ 31 := by omega) : vp_in x N := by
  subst hx
  exact vp_in_nI h hN
theorem pk_cl {x : Int32} (n : Nat) (hx : x = nI n := by rfl) (h : n < 2 ^ 31 := by omega) : x.toNatClampNeg = n := by
  subst hx
  exact nI_clamp h
theorem pk_tn {n : Nat} (h : n < 2 ^ 32) : (nI n).toBitVec.toNat = n := Nat.mod_eq_of_lt h
theorem pk_and (x : Int32) {m : Int32} (k : Nat) (hm : m.toBitVec.toNat = 2 ^ k - 1) : x &&& m = nI (x.toBitVec.toNat % 2 ^ k) := by
  apply Int32.toBitVec_inj.mp
  apply BitVec.eq_of_toNat_eq
  rw [Int32.toBitVec_and, BitVec.toNat_and, hm, Nat.and_two_pow_sub_one_eq_mod]
  show _ = (BitVec.ofNat 32 _).toNat
  rw [BitVec.toNat_ofNat]
  exact (Nat.mod_eq_of_lt (Nat.lt_of_le_of_lt (Nat.mod_le _ _) x.toBitVec.isLt)).symm
theorem pk_andN {n : Nat} (h : n < 2 ^ 32) {m : Int32} (k : Nat) (hm : m.toBitVec.toNat = 2 ^ k - 1) : nI n &&& m = nI (n % 2 ^ k) := by
  rw [pk_and _ k hm, pk_tn h]
theorem pk_andE (x : Int32) {m : Int32} (k : Nat) (hm : m.toBitVec.toNat = 2 ^ k - 1) : ∃ j : Nat, j < 2 ^ k ∧ x &&& m = nI j := ⟨_, Nat.mod_lt _ (Nat.two_pow_pos k), pk_and x k hm⟩
theorem pk_andIn (x : Int32) {m : Int32} (k : Nat) (hm : m.toBitVec.toNat = 2 ^ k - 1) (hk : k ≤ 30) : vp_in (x &&& m) (2 ^ k) := by
  obtain ⟨j, hj, e⟩ := pk_andE x k hm
  rw [e]
  exact vp_in_nI hj (Nat.lt_of_le_of_lt (Nat.pow_le_pow_right (by decide) hk) (by decide))
theorem pk_shl (a s : Int32) (k : Nat) (hs : (s.toBitVec.smod 32).toNat = k) : (a <<< s).toBitVec.toNat = a.toBitVec.toNat * 2 ^ k % 2 ^ 32 := by
  show (a.toBitVec <<< (s.toBitVec.smod 32).toNat).toNat = _
  rw [hs, BitVec.toNat_shiftLeft, Nat.shiftLeft_eq]
theorem pk_shlN {n : Nat} (s : Int32) (k : Nat) (hs : (s.toBitVec.smod 32).toNat = k) (h : n * 2 ^ k < 2 ^ 32) : nI n <<< s = nI (n * 2 ^ k) := by
  apply Int32.toBitVec_inj.mp
  apply BitVec.eq_of_toNat_eq
  have hn : n < 2 ^ 32 := Nat.lt_of_le_of_lt (Nat.le_mul_of_pos_right n (Nat.two_pow_pos k)) h
  rw [pk_shl _ _ k hs, pk_tn hn, pk_tn h, Nat.mod_eq_of_lt h]
theorem pk_shr (a s : Int32) (k : Nat) (hs : (s.toBitVec.smod 32).toNat = k) : (a >>> s).toInt = a.toInt >>> k := by
  show (a.toBitVec.sshiftRight (s.toBitVec.smod 32).toNat).toInt = _
  rw [hs, BitVec.toInt_sshiftRight]
  rfl
theorem pk_shrN {n : Nat} (h : n < 2 ^ 31) (s : Int32) (k : Nat) (hs : (s.toBitVec.smod 32).toNat = k) : nI n >>> s = nI (n / 2 ^ k) := by
  apply Int32.toInt_inj.mp
  have h2 : n / 2 ^ k ≤ n := Nat.div_le_self _ _
  rw [pk_shr _ _ k hs, nI_toInt h, nI_toInt (by omega), Int.shiftRight_eq_div_pow]
  rfl
theorem pk_ushr (x s : Int32) (k : Nat) (hs : ((s.toUInt32 &&& Int32.toUInt32 31).toBitVec % 32).toNat = k) : (x.toUInt32 >>> (s.toUInt32 &&& Int32.toUInt32 31)).toInt32.toBitVec.toNat = x.toBitVec.toNat / 2 ^ k := by
  have e : (x.toUInt32 >>> (s.toUInt32 &&& Int32.toUInt32 31)).toInt32.toBitVec = x.toBitVec >>> k := by
    rw [← hs]
    exact UInt32.toBitVec_shiftRight _ _
  rw [e, BitVec.toNat_ushiftRight, Nat.shiftRight_eq_div_pow]
theorem pk_ushrN {n : Nat} (hn : n < 2 ^ 32) (s : Int32) (k : Nat) (hs : ((s.toUInt32 &&& Int32.toUInt32 31).toBitVec % 32).toNat = k) : ((nI n).toUInt32 >>> (s.toUInt32 &&& Int32.toUInt32 31)).toInt32 = nI (n / 2 ^ k) := by
  apply Int32.toBitVec_inj.mp
  apply BitVec.eq_of_toNat_eq
  rw [pk_ushr _ s k hs, pk_tn hn, pk_tn (Nat.lt_of_le_of_lt (Nat.div_le_self _ _) hn)]
theorem pk_nb (z : Int32) : narrow .byte (.int z.toInt8.toInt32) = .int z.toInt8.toInt32 := congrArg Value.int (by simp)
theorem pk_ns (z : Int32) : narrow .short (.int z.toInt16.toInt32) = .int z.toInt16.toInt32 := congrArg Value.int (by simp)
theorem pk_fb (r : Int32) : fits .byte (.int r.toInt8.toInt32) = true := by
  have ⟨a, b⟩ := lg_i2b_range r
  have h1 : (-128 : Int32).toInt = -128 := by decide
  have h2 : (127 : Int32).toInt = 127 := by decide
  simp only [fits, Bool.and_eq_true, decide_eq_true_eq, Int32.le_iff_toInt_le, h1, h2]
  omega
theorem pk_fs (r : Int32) : fits .short (.int r.toInt16.toInt32) = true := by
  have ⟨a, b⟩ := lg_i2s_range r
  have h1 : (-32768 : Int32).toInt = -32768 := by decide
  have h2 : (32767 : Int32).toInt = 32767 := by decide
  simp only [fits, Bool.and_eq_true, decide_eq_true_eq, Int32.le_iff_toInt_le, h1, h2]
  omega
theorem pk_charN {q : Nat} (hq : q < 65536) : narrow .char (.int (nI q)) = .int (nI q) ∧ fits .char (.int (nI q)) = true := by
  constructor
  · have e : (nI q).toUInt32.toUInt16.toUInt32.toInt32 = nI q := by
      apply Int32.toBitVec_inj.mp
      apply BitVec.eq_of_toNat_eq
      show (nI q).toUInt32.toUInt16.toUInt32.toNat = q % 2 ^ 32
      rw [UInt16.toNat_toUInt32, UInt32.toNat_toUInt16, show (nI q).toUInt32.toNat = q % 2 ^ 32 from rfl]
      omega
    exact congrArg Value.int e
  · have a : (0 : Int32) ≤ nI q := nI_pos' (by omega)
    have b : nI q ≤ 65535 := nI_le (b := 65535) (by omega) (by decide)
    show (decide ((0 : Int32) ≤ nI q) && decide (nI q ≤ 65535)) = true
    rw [decide_eq_true a, decide_eq_true b]
    rfl
theorem pk_char (x : Int32) : (x.toUInt32 % 65536).toInt32 = nI (x.toBitVec.toNat % 65536) := by
  apply Int32.toBitVec_inj.mp
  apply BitVec.eq_of_toNat_eq
  rw [pk_tn (by omega)]
  show (x.toUInt32 % 65536).toNat = _
  rw [UInt32.toNat_mod]
  rfl
theorem pk_nc (x : Int32) : narrow .char (.int (x.toUInt32 % 65536).toInt32) = .int (x.toUInt32 % 65536).toInt32 := by
  rw [pk_char]
  exact (pk_charN (Nat.mod_lt _ (by decide))).1
theorem pk_fc (x : Int32) : fits .char (.int (x.toUInt32 % 65536).toInt32) = true := by
  rw [pk_char]
  exact (pk_charN (Nat.mod_lt _ (by decide))).2
theorem pk_vb (z : Int32) : vp_nar .byte z.toInt8.toInt32 = z.toInt8.toInt32 := by rw [vp_nar_byte]; simp
theorem pk_vs (z : Int32) : vp_nar .short z.toInt16.toInt32 = z.toInt16.toInt32 := by rw [vp_nar_short]; simp
theorem pk_vc (z : Int32) : vp_nar .char (z.toUInt32 % 65536).toInt32 = (z.toUInt32 % 65536).toInt32 := Value.int.inj (pk_nc z)
theorem pk_lT {n : Nat} (h : n < 2 ^ 63) : (lN n).toInt = (n : Int) := lg_ofNat_toInt h
theorem pk_lLT {a b : Nat} (ha : a < 2 ^ 63) (hb : b < 2 ^ 63) : lN a < lN b ↔ a < b := by
  rw [Int64.lt_iff_toInt_lt, pk_lT ha, pk_lT hb]; omega
theorem pk_lLE {a b : Nat} (ha : a < 2 ^ 63) (hb : b < 2 ^ 63) : lN a ≤ lN b ↔ a ≤ b := by
  rw [Int64.le_iff_toInt_le, pk_lT ha, pk_lT hb]; omega
theorem pk_lEQ {a b : Nat} (ha : a < 2 ^ 63) (hb : b < 2 ^ 63) : lN a = lN b ↔ a = b := by
  rw [← Int64.toInt_inj, pk_lT ha, pk_lT hb]; omega
theorem pk_lOf {x : Int64} (h : ¬ x < 0) : ∃ k : Nat, k < 2 ^ 63 ∧ x = lN k := by
  rw [Int64.lt_iff_toInt_lt] at h
  have h0 : (0 : Int64).toInt = 0 := by decide
  have hx := Int64.toInt_lt x
  refine ⟨x.toInt.toNat, by omega, Int64.toInt_inj.mp ?_⟩
  rw [pk_lT (by omega)]
  omega
theorem pk_lDiv {a b : Nat} (ha : a < 2 ^ 63) (h0 : 0 < b) (hb : b < 2 ^ 63) : lN a / lN b = lN (a / b) := by
  apply Int64.toInt_inj.mp
  rw [lg_ldiv_nonneg (by rw [pk_lT ha]; omega) (by rw [pk_lT hb]; omega), pk_lT ha, pk_lT hb, pk_lT (Nat.lt_of_le_of_lt (Nat.div_le_self a b) ha)]
  rfl
theorem pk_lRem {a b : Nat} (ha : a < 2 ^ 63) (h0 : 0 < b) (hb : b < 2 ^ 63) : lN a - lN a / lN b * lN b = lN (a % b) := by
  rw [pk_lDiv ha h0 hb, lN_mul, lN_sub (Nat.div_mul_le_self a b)]
  exact congrArg lN (by have := Nat.div_add_mod' a b; omega)
theorem pk_loop {σ : Type} (W : Nat → Nat → σ → Prop) (I : Nat → σ → Prop) (e i0 : Nat) (s : σ) (hi : i0 ≤ e) (h0 : I i0 s) (hx : ∀ n s, I e s → W (n + 1) e s)
    (hs : ∀ n i s, i < e → I i s → (∀ s', I (i + 1) s' → W n (i + 1) s') → W (n + 1) i s) : ∃ n, W n i0 s :=
  ⟨e + 1, loop_i W I e hx hs (e + 1) i0 s hi (by omega) h0⟩
theorem pk_loopD {σ : Type} (W : Nat → Nat → σ → Prop) (I : Nat → σ → Prop) (hx : ∀ n s, I 0 s → W (n + 1) 0 s)
    (hs : ∀ n i s, I (i + 1) s → (∀ s', I i s' → W n i s') → W (n + 1) (i + 1) s) : ∀ (e : Nat) (s : σ), I e s → W (e + 1) e s := by
  intro e
  induction e with
  | zero => exact fun s h => hx 0 s h
  | succ e ih => exact fun s h => hs (e + 1) e s h (fun s' h' => ih s' h')
theorem lp1 {A1 : Type} (W : Nat → A1 → Prop) (I : A1 → Prop) (μ : A1 → Nat) (hs : ∀ (n : Nat) (a1 : A1), I a1 → (∀ (b1 : A1), I b1 → μ b1 < μ a1 → W n b1) → W (n + 1) a1) (a1 : A1) (h : I a1) : ∃ n, W n a1 :=
  loop_m (σ := A1) (fun n s => W n s) (fun s => I s) (fun s => μ s) (fun n s hI hk => hs n s hI (fun b1 h9 hm => hk b1 h9 hm)) a1 h
theorem lp2 {A1 A2 : Type} (W : Nat → A1 → A2 → Prop) (I : A1 → A2 → Prop) (μ : A1 → A2 → Nat) (hs : ∀ (n : Nat) (a1 : A1) (a2 : A2), I a1 a2 → (∀ (b1 : A1) (b2 : A2), I b1 b2 → μ b1 b2 < μ a1 a2 → W n b1 b2) → W (n + 1) a1 a2) (a1 : A1) (a2 : A2) (h : I a1 a2) : ∃ n, W n a1 a2 :=
  loop_m (σ := A1 × A2) (fun n s => W n s.1 s.2) (fun s => I s.1 s.2) (fun s => μ s.1 s.2) (fun n s hI hk => hs n s.1 s.2 hI (fun b1 b2 h9 hm => hk (b1, b2) h9 hm)) (a1, a2) h
theorem lp3 {A1 A2 A3 : Type} (W : Nat → A1 → A2 → A3 → Prop) (I : A1 → A2 → A3 → Prop) (μ : A1 → A2 → A3 → Nat) (hs : ∀ (n : Nat) (a1 : A1) (a2 : A2) (a3 : A3), I a1 a2 a3 → (∀ (b1 : A1) (b2 : A2) (b3 : A3), I b1 b2 b3 → μ b1 b2 b3 < μ a1 a2 a3 → W n b1 b2 b3) → W (n + 1) a1 a2 a3) (a1 : A1) (a2 : A2) (a3 : A3) (h : I a1 a2 a3) : ∃ n, W n a1 a2 a3 :=
  loop_m (σ := A1 × A2 × A3) (fun n s => W n s.1 s.2.1 s.2.2) (fun s => I s.1 s.2.1 s.2.2) (fun s => μ s.1 s.2.1 s.2.2) (fun n s hI hk => hs n s.1 s.2.1 s.2.2 hI (fun b1 b2 b3 h9 hm => hk (b1, b2, b3) h9 hm)) (a1, a2, a3) h
theorem lp4 {A1 A2 A3 A4 : Type} (W : Nat → A1 → A2 → A3 → A4 → Prop) (I : A1 → A2 → A3 → A4 → Prop) (μ : A1 → A2 → A3 → A4 → Nat) (hs : ∀ (n : Nat) (a1 : A1) (a2 : A2) (a3 : A3) (a4 : A4), I a1 a2 a3 a4 → (∀ (b1 : A1) (b2 : A2) (b3 : A3) (b4 : A4), I b1 b2 b3 b4 → μ b1 b2 b3 b4 < μ a1 a2 a3 a4 → W n b1 b2 b3 b4) → W (n + 1) a1 a2 a3 a4) (a1 : A1) (a2 : A2) (a3 : A3) (a4 : A4) (h : I a1 a2 a3 a4) : ∃ n, W n a1 a2 a3 a4 :=
  loop_m (σ := A1 × A2 × A3 × A4) (fun n s => W n s.1 s.2.1 s.2.2.1 s.2.2.2) (fun s => I s.1 s.2.1 s.2.2.1 s.2.2.2) (fun s => μ s.1 s.2.1 s.2.2.1 s.2.2.2) (fun n s hI hk => hs n s.1 s.2.1 s.2.2.1 s.2.2.2 hI (fun b1 b2 b3 b4 h9 hm => hk (b1, b2, b3, b4) h9 hm)) (a1, a2, a3, a4) h
theorem lp5 {A1 A2 A3 A4 A5 : Type} (W : Nat → A1 → A2 → A3 → A4 → A5 → Prop) (I : A1 → A2 → A3 → A4 → A5 → Prop) (μ : A1 → A2 → A3 → A4 → A5 → Nat) (hs : ∀ (n : Nat) (a1 : A1) (a2 : A2) (a3 : A3) (a4 : A4) (a5 : A5), I a1 a2 a3 a4 a5 → (∀ (b1 : A1) (b2 : A2) (b3 : A3) (b4 : A4) (b5 : A5), I b1 b2 b3 b4 b5 → μ b1 b2 b3 b4 b5 < μ a1 a2 a3 a4 a5 → W n b1 b2 b3 b4 b5) → W (n + 1) a1 a2 a3 a4 a5) (a1 : A1) (a2 : A2) (a3 : A3) (a4 : A4) (a5 : A5) (h : I a1 a2 a3 a4 a5) : ∃ n, W n a1 a2 a3 a4 a5 :=
  loop_m (σ := A1 × A2 × A3 × A4 × A5) (fun n s => W n s.1 s.2.1 s.2.2.1 s.2.2.2.1 s.2.2.2.2) (fun s => I s.1 s.2.1 s.2.2.1 s.2.2.2.1 s.2.2.2.2) (fun s => μ s.1 s.2.1 s.2.2.1 s.2.2.2.1 s.2.2.2.2) (fun n s hI hk => hs n s.1 s.2.1 s.2.2.1 s.2.2.2.1 s.2.2.2.2 hI (fun b1 b2 b3 b4 b5 h9 hm => hk (b1, b2, b3, b4, b5) h9 hm)) (a1, a2, a3, a4, a5) h
theorem lp6 {A1 A2 A3 A4 A5 A6 : Type} (W : Nat → A1 → A2 → A3 → A4 → A5 → A6 → Prop) (I : A1 → A2 → A3 → A4 → A5 → A6 → Prop) (μ : A1 → A2 → A3 → A4 → A5 → A6 → Nat) (hs : ∀ (n : Nat) (a1 : A1) (a2 : A2) (a3 : A3) (a4 : A4) (a5 : A5) (a6 : A6), I a1 a2 a3 a4 a5 a6 → (∀ (b1 : A1) (b2 : A2) (b3 : A3) (b4 : A4) (b5 : A5) (b6 : A6), I b1 b2 b3 b4 b5 b6 → μ b1 b2 b3 b4 b5 b6 < μ a1 a2 a3 a4 a5 a6 → W n b1 b2 b3 b4 b5 b6) → W (n + 1) a1 a2 a3 a4 a5 a6) (a1 : A1) (a2 : A2) (a3 : A3) (a4 : A4) (a5 : A5) (a6 : A6) (h : I a1 a2 a3 a4 a5 a6) : ∃ n, W n a1 a2 a3 a4 a5 a6 :=
  loop_m (σ := A1 × A2 × A3 × A4 × A5 × A6) (fun n s => W n s.1 s.2.1 s.2.2.1 s.2.2.2.1 s.2.2.2.2.1 s.2.2.2.2.2) (fun s => I s.1 s.2.1 s.2.2.1 s.2.2.2.1 s.2.2.2.2.1 s.2.2.2.2.2) (fun s => μ s.1 s.2.1 s.2.2.1 s.2.2.2.1 s.2.2.2.2.1 s.2.2.2.2.2) (fun n s hI hk => hs n s.1 s.2.1 s.2.2.1 s.2.2.2.1 s.2.2.2.2.1 s.2.2.2.2.2 hI (fun b1 b2 b3 b4 b5 b6 h9 hm => hk (b1, b2, b3, b4, b5, b6) h9 hm)) (a1, a2, a3, a4, a5, a6) h
theorem lp7 {A1 A2 A3 A4 A5 A6 A7 : Type} (W : Nat → A1 → A2 → A3 → A4 → A5 → A6 → A7 → Prop) (I : A1 → A2 → A3 → A4 → A5 → A6 → A7 → Prop) (μ : A1 → A2 → A3 → A4 → A5 → A6 → A7 → Nat) (hs : ∀ (n : Nat) (a1 : A1) (a2 : A2) (a3 : A3) (a4 : A4) (a5 : A5) (a6 : A6) (a7 : A7), I a1 a2 a3 a4 a5 a6 a7 → (∀ (b1 : A1) (b2 : A2) (b3 : A3) (b4 : A4) (b5 : A5) (b6 : A6) (b7 : A7), I b1 b2 b3 b4 b5 b6 b7 → μ b1 b2 b3 b4 b5 b6 b7 < μ a1 a2 a3 a4 a5 a6 a7 → W n b1 b2 b3 b4 b5 b6 b7) → W (n + 1) a1 a2 a3 a4 a5 a6 a7) (a1 : A1) (a2 : A2) (a3 : A3) (a4 : A4) (a5 : A5) (a6 : A6) (a7 : A7) (h : I a1 a2 a3 a4 a5 a6 a7) : ∃ n, W n a1 a2 a3 a4 a5 a6 a7 :=
  loop_m (σ := A1 × A2 × A3 × A4 × A5 × A6 × A7) (fun n s => W n s.1 s.2.1 s.2.2.1 s.2.2.2.1 s.2.2.2.2.1 s.2.2.2.2.2.1 s.2.2.2.2.2.2) (fun s => I s.1 s.2.1 s.2.2.1 s.2.2.2.1 s.2.2.2.2.1 s.2.2.2.2.2.1 s.2.2.2.2.2.2) (fun s => μ s.1 s.2.1 s.2.2.1 s.2.2.2.1 s.2.2.2.2.1 s.2.2.2.2.2.1 s.2.2.2.2.2.2) (fun n s hI hk => hs n s.1 s.2.1 s.2.2.1 s.2.2.2.1 s.2.2.2.2.1 s.2.2.2.2.2.1 s.2.2.2.2.2.2 hI (fun b1 b2 b3 b4 b5 b6 b7 h9 hm => hk (b1, b2, b3, b4, b5, b6, b7) h9 hm)) (a1, a2, a3, a4, a5, a6, a7) h
theorem lp8 {A1 A2 A3 A4 A5 A6 A7 A8 : Type} (W : Nat → A1 → A2 → A3 → A4 → A5 → A6 → A7 → A8 → Prop) (I : A1 → A2 → A3 → A4 → A5 → A6 → A7 → A8 → Prop) (μ : A1 → A2 → A3 → A4 → A5 → A6 → A7 → A8 → Nat) (hs : ∀ (n : Nat) (a1 : A1) (a2 : A2) (a3 : A3) (a4 : A4) (a5 : A5) (a6 : A6) (a7 : A7) (a8 : A8), I a1 a2 a3 a4 a5 a6 a7 a8 → (∀ (b1 : A1) (b2 : A2) (b3 : A3) (b4 : A4) (b5 : A5) (b6 : A6) (b7 : A7) (b8 : A8), I b1 b2 b3 b4 b5 b6 b7 b8 → μ b1 b2 b3 b4 b5 b6 b7 b8 < μ a1 a2 a3 a4 a5 a6 a7 a8 → W n b1 b2 b3 b4 b5 b6 b7 b8) → W (n + 1) a1 a2 a3 a4 a5 a6 a7 a8) (a1 : A1) (a2 : A2) (a3 : A3) (a4 : A4) (a5 : A5) (a6 : A6) (a7 : A7) (a8 : A8) (h : I a1 a2 a3 a4 a5 a6 a7 a8) : ∃ n, W n a1 a2 a3 a4 a5 a6 a7 a8 :=
  loop_m (σ := A1 × A2 × A3 × A4 × A5 × A6 × A7 × A8) (fun n s => W n s.1 s.2.1 s.2.2.1 s.2.2.2.1 s.2.2.2.2.1 s.2.2.2.2.2.1 s.2.2.2.2.2.2.1 s.2.2.2.2.2.2.2) (fun s => I s.1 s.2.1 s.2.2.1 s.2.2.2.1 s.2.2.2.2.1 s.2.2.2.2.2.1 s.2.2.2.2.2.2.1 s.2.2.2.2.2.2.2) (fun s => μ s.1 s.2.1 s.2.2.1 s.2.2.2.1 s.2.2.2.2.1 s.2.2.2.2.2.1 s.2.2.2.2.2.2.1 s.2.2.2.2.2.2.2) (fun n s hI hk => hs n s.1 s.2.1 s.2.2.1 s.2.2.2.1 s.2.2.2.2.1 s.2.2.2.2.2.1 s.2.2.2.2.2.2.1 s.2.2.2.2.2.2.2 hI (fun b1 b2 b3 b4 b5 b6 b7 b8 h9 hm => hk (b1, b2, b3, b4, b5, b6, b7, b8) h9 hm)) (a1, a2, a3, a4, a5, a6, a7, a8) h
theorem lp9 {A1 A2 A3 A4 A5 A6 A7 A8 A9 : Type} (W : Nat → A1 → A2 → A3 → A4 → A5 → A6 → A7 → A8 → A9 → Prop) (I : A1 → A2 → A3 → A4 → A5 → A6 → A7 → A8 → A9 → Prop) (μ : A1 → A2 → A3 → A4 → A5 → A6 → A7 → A8 → A9 → Nat) (hs : ∀ (n : Nat) (a1 : A1) (a2 : A2) (a3 : A3) (a4 : A4) (a5 : A5) (a6 : A6) (a7 : A7) (a8 : A8) (a9 : A9), I a1 a2 a3 a4 a5 a6 a7 a8 a9 → (∀ (b1 : A1) (b2 : A2) (b3 : A3) (b4 : A4) (b5 : A5) (b6 : A6) (b7 : A7) (b8 : A8) (b9 : A9), I b1 b2 b3 b4 b5 b6 b7 b8 b9 → μ b1 b2 b3 b4 b5 b6 b7 b8 b9 < μ a1 a2 a3 a4 a5 a6 a7 a8 a9 → W n b1 b2 b3 b4 b5 b6 b7 b8 b9) → W (n + 1) a1 a2 a3 a4 a5 a6 a7 a8 a9) (a1 : A1) (a2 : A2) (a3 : A3) (a4 : A4) (a5 : A5) (a6 : A6) (a7 : A7) (a8 : A8) (a9 : A9) (h : I a1 a2 a3 a4 a5 a6 a7 a8 a9) : ∃ n, W n a1 a2 a3 a4 a5 a6 a7 a8 a9 :=
  loop_m (σ := A1 × A2 × A3 × A4 × A5 × A6 × A7 × A8 × A9) (fun n s => W n s.1 s.2.1 s.2.2.1 s.2.2.2.1 s.2.2.2.2.1 s.2.2.2.2.2.1 s.2.2.2.2.2.2.1 s.2.2.2.2.2.2.2.1 s.2.2.2.2.2.2.2.2) (fun s => I s.1 s.2.1 s.2.2.1 s.2.2.2.1 s.2.2.2.2.1 s.2.2.2.2.2.1 s.2.2.2.2.2.2.1 s.2.2.2.2.2.2.2.1 s.2.2.2.2.2.2.2.2) (fun s => μ s.1 s.2.1 s.2.2.1 s.2.2.2.1 s.2.2.2.2.1 s.2.2.2.2.2.1 s.2.2.2.2.2.2.1 s.2.2.2.2.2.2.2.1 s.2.2.2.2.2.2.2.2) (fun n s hI hk => hs n s.1 s.2.1 s.2.2.1 s.2.2.2.1 s.2.2.2.2.1 s.2.2.2.2.2.1 s.2.2.2.2.2.2.1 s.2.2.2.2.2.2.2.1 s.2.2.2.2.2.2.2.2 hI (fun b1 b2 b3 b4 b5 b6 b7 b8 b9 h9 hm => hk (b1, b2, b3, b4, b5, b6, b7, b8, b9) h9 hm)) (a1, a2, a3, a4, a5, a6, a7, a8, a9) h
theorem lp10 {A1 A2 A3 A4 A5 A6 A7 A8 A9 A10 : Type} (W : Nat → A1 → A2 → A3 → A4 → A5 → A6 → A7 → A8 → A9 → A10 → Prop) (I : A1 → A2 → A3 → A4 → A5 → A6 → A7 → A8 → A9 → A10 → Prop) (μ : A1 → A2 → A3 → A4 → A5 → A6 → A7 → A8 → A9 → A10 → Nat) (hs : ∀ (n : Nat) (a1 : A1) (a2 : A2) (a3 : A3) (a4 : A4) (a5 : A5) (a6 : A6) (a7 : A7) (a8 : A8) (a9 : A9) (a10 : A10), I a1 a2 a3 a4 a5 a6 a7 a8 a9 a10 → (∀ (b1 : A1) (b2 : A2) (b3 : A3) (b4 : A4) (b5 : A5) (b6 : A6) (b7 : A7) (b8 : A8) (b9 : A9) (b10 : A10), I b1 b2 b3 b4 b5 b6 b7 b8 b9 b10 → μ b1 b2 b3 b4 b5 b6 b7 b8 b9 b10 < μ a1 a2 a3 a4 a5 a6 a7 a8 a9 a10 → W n b1 b2 b3 b4 b5 b6 b7 b8 b9 b10) → W (n + 1) a1 a2 a3 a4 a5 a6 a7 a8 a9 a10) (a1 : A1) (a2 : A2) (a3 : A3) (a4 : A4) (a5 : A5) (a6 : A6) (a7 : A7) (a8 : A8) (a9 : A9) (a10 : A10) (h : I a1 a2 a3 a4 a5 a6 a7 a8 a9 a10) : ∃ n, W n a1 a2 a3 a4 a5 a6 a7 a8 a9 a10 :=
  loop_m (σ := A1 × A2 × A3 × A4 × A5 × A6 × A7 × A8 × A9 × A10) (fun n s => W n s.1 s.2.1 s.2.2.1 s.2.2.2.1 s.2.2.2.2.1 s.2.2.2.2.2.1 s.2.2.2.2.2.2.1 s.2.2.2.2.2.2.2.1 s.2.2.2.2.2.2.2.2.1 s.2.2.2.2.2.2.2.2.2) (fun s => I s.1 s.2.1 s.2.2.1 s.2.2.2.1 s.2.2.2.2.1 s.2.2.2.2.2.1 s.2.2.2.2.2.2.1 s.2.2.2.2.2.2.2.1 s.2.2.2.2.2.2.2.2.1 s.2.2.2.2.2.2.2.2.2) (fun s => μ s.1 s.2.1 s.2.2.1 s.2.2.2.1 s.2.2.2.2.1 s.2.2.2.2.2.1 s.2.2.2.2.2.2.1 s.2.2.2.2.2.2.2.1 s.2.2.2.2.2.2.2.2.1 s.2.2.2.2.2.2.2.2.2) (fun n s hI hk => hs n s.1 s.2.1 s.2.2.1 s.2.2.2.1 s.2.2.2.2.1 s.2.2.2.2.2.1 s.2.2.2.2.2.2.1 s.2.2.2.2.2.2.2.1 s.2.2.2.2.2.2.2.2.1 s.2.2.2.2.2.2.2.2.2 hI (fun b1 b2 b3 b4 b5 b6 b7 b8 b9 b10 h9 hm => hk (b1, b2, b3, b4, b5, b6, b7, b8, b9, b10) h9 hm)) (a1, a2, a3, a4, a5, a6, a7, a8, a9, a10) h
theorem lp11 {A1 A2 A3 A4 A5 A6 A7 A8 A9 A10 A11 : Type} (W : Nat → A1 → A2 → A3 → A4 → A5 → A6 → A7 → A8 → A9 → A10 → A11 → Prop) (I : A1 → A2 → A3 → A4 → A5 → A6 → A7 → A8 → A9 → A10 → A11 → Prop) (μ : A1 → A2 → A3 → A4 → A5 → A6 → A7 → A8 → A9 → A10 → A11 → Nat) (hs : ∀ (n : Nat) (a1 : A1) (a2 : A2) (a3 : A3) (a4 : A4) (a5 : A5) (a6 : A6) (a7 : A7) (a8 : A8) (a9 : A9) (a10 : A10) (a11 : A11), I a1 a2 a3 a4 a5 a6 a7 a8 a9 a10 a11 → (∀ (b1 : A1) (b2 : A2) (b3 : A3) (b4 : A4) (b5 : A5) (b6 : A6) (b7 : A7) (b8 : A8) (b9 : A9) (b10 : A10) (b11 : A11), I b1 b2 b3 b4 b5 b6 b7 b8 b9 b10 b11 → μ b1 b2 b3 b4 b5 b6 b7 b8 b9 b10 b11 < μ a1 a2 a3 a4 a5 a6 a7 a8 a9 a10 a11 → W n b1 b2 b3 b4 b5 b6 b7 b8 b9 b10 b11) → W (n + 1) a1 a2 a3 a4 a5 a6 a7 a8 a9 a10 a11) (a1 : A1) (a2 : A2) (a3 : A3) (a4 : A4) (a5 : A5) (a6 : A6) (a7 : A7) (a8 : A8) (a9 : A9) (a10 : A10) (a11 : A11) (h : I a1 a2 a3 a4 a5 a6 a7 a8 a9 a10 a11) : ∃ n, W n a1 a2 a3 a4 a5 a6 a7 a8 a9 a10 a11 :=
  loop_m (σ := A1 × A2 × A3 × A4 × A5 × A6 × A7 × A8 × A9 × A10 × A11) (fun n s => W n s.1 s.2.1 s.2.2.1 s.2.2.2.1 s.2.2.2.2.1 s.2.2.2.2.2.1 s.2.2.2.2.2.2.1 s.2.2.2.2.2.2.2.1 s.2.2.2.2.2.2.2.2.1 s.2.2.2.2.2.2.2.2.2.1 s.2.2.2.2.2.2.2.2.2.2) (fun s => I s.1 s.2.1 s.2.2.1 s.2.2.2.1 s.2.2.2.2.1 s.2.2.2.2.2.1 s.2.2.2.2.2.2.1 s.2.2.2.2.2.2.2.1 s.2.2.2.2.2.2.2.2.1 s.2.2.2.2.2.2.2.2.2.1 s.2.2.2.2.2.2.2.2.2.2) (fun s => μ s.1 s.2.1 s.2.2.1 s.2.2.2.1 s.2.2.2.2.1 s.2.2.2.2.2.1 s.2.2.2.2.2.2.1 s.2.2.2.2.2.2.2.1 s.2.2.2.2.2.2.2.2.1 s.2.2.2.2.2.2.2.2.2.1 s.2.2.2.2.2.2.2.2.2.2) (fun n s hI hk => hs n s.1 s.2.1 s.2.2.1 s.2.2.2.1 s.2.2.2.2.1 s.2.2.2.2.2.1 s.2.2.2.2.2.2.1 s.2.2.2.2.2.2.2.1 s.2.2.2.2.2.2.2.2.1 s.2.2.2.2.2.2.2.2.2.1 s.2.2.2.2.2.2.2.2.2.2 hI (fun b1 b2 b3 b4 b5 b6 b7 b8 b9 b10 b11 h9 hm => hk (b1, b2, b3, b4, b5, b6, b7, b8, b9, b10, b11) h9 hm)) (a1, a2, a3, a4, a5, a6, a7, a8, a9, a10, a11) h
theorem lp12 {A1 A2 A3 A4 A5 A6 A7 A8 A9 A10 A11 A12 : Type} (W : Nat → A1 → A2 → A3 → A4 → A5 → A6 → A7 → A8 → A9 → A10 → A11 → A12 → Prop) (I : A1 → A2 → A3 → A4 → A5 → A6 → A7 → A8 → A9 → A10 → A11 → A12 → Prop) (μ : A1 → A2 → A3 → A4 → A5 → A6 → A7 → A8 → A9 → A10 → A11 → A12 → Nat) (hs : ∀ (n : Nat) (a1 : A1) (a2 : A2) (a3 : A3) (a4 : A4) (a5 : A5) (a6 : A6) (a7 : A7) (a8 : A8) (a9 : A9) (a10 : A10) (a11 : A11) (a12 : A12), I a1 a2 a3 a4 a5 a6 a7 a8 a9 a10 a11 a12 → (∀ (b1 : A1) (b2 : A2) (b3 : A3) (b4 : A4) (b5 : A5) (b6 : A6) (b7 : A7) (b8 : A8) (b9 : A9) (b10 : A10) (b11 : A11) (b12 : A12), I b1 b2 b3 b4 b5 b6 b7 b8 b9 b10 b11 b12 → μ b1 b2 b3 b4 b5 b6 b7 b8 b9 b10 b11 b12 < μ a1 a2 a3 a4 a5 a6 a7 a8 a9 a10 a11 a12 → W n b1 b2 b3 b4 b5 b6 b7 b8 b9 b10 b11 b12) → W (n + 1) a1 a2 a3 a4 a5 a6 a7 a8 a9 a10 a11 a12) (a1 : A1) (a2 : A2) (a3 : A3) (a4 : A4) (a5 : A5) (a6 : A6) (a7 : A7) (a8 : A8) (a9 : A9) (a10 : A10) (a11 : A11) (a12 : A12) (h : I a1 a2 a3 a4 a5 a6 a7 a8 a9 a10 a11 a12) : ∃ n, W n a1 a2 a3 a4 a5 a6 a7 a8 a9 a10 a11 a12 :=
  loop_m (σ := A1 × A2 × A3 × A4 × A5 × A6 × A7 × A8 × A9 × A10 × A11 × A12) (fun n s => W n s.1 s.2.1 s.2.2.1 s.2.2.2.1 s.2.2.2.2.1 s.2.2.2.2.2.1 s.2.2.2.2.2.2.1 s.2.2.2.2.2.2.2.1 s.2.2.2.2.2.2.2.2.1 s.2.2.2.2.2.2.2.2.2.1 s.2.2.2.2.2.2.2.2.2.2.1 s.2.2.2.2.2.2.2.2.2.2.2) (fun s => I s.1 s.2.1 s.2.2.1 s.2.2.2.1 s.2.2.2.2.1 s.2.2.2.2.2.1 s.2.2.2.2.2.2.1 s.2.2.2.2.2.2.2.1 s.2.2.2.2.2.2.2.2.1 s.2.2.2.2.2.2.2.2.2.1 s.2.2.2.2.2.2.2.2.2.2.1 s.2.2.2.2.2.2.2.2.2.2.2) (fun s => μ s.1 s.2.1 s.2.2.1 s.2.2.2.1 s.2.2.2.2.1 s.2.2.2.2.2.1 s.2.2.2.2.2.2.1 s.2.2.2.2.2.2.2.1 s.2.2.2.2.2.2.2.2.1 s.2.2.2.2.2.2.2.2.2.1 s.2.2.2.2.2.2.2.2.2.2.1 s.2.2.2.2.2.2.2.2.2.2.2) (fun n s hI hk => hs n s.1 s.2.1 s.2.2.1 s.2.2.2.1 s.2.2.2.2.1 s.2.2.2.2.2.1 s.2.2.2.2.2.2.1 s.2.2.2.2.2.2.2.1 s.2.2.2.2.2.2.2.2.1 s.2.2.2.2.2.2.2.2.2.1 s.2.2.2.2.2.2.2.2.2.2.1 s.2.2.2.2.2.2.2.2.2.2.2 hI (fun b1 b2 b3 b4 b5 b6 b7 b8 b9 b10 b11 b12 h9 hm => hk (b1, b2, b3, b4, b5, b6, b7, b8, b9, b10, b11, b12) h9 hm)) (a1, a2, a3, a4, a5, a6, a7, a8, a9, a10, a11, a12) h
theorem lp13 {A1 A2 A3 A4 A5 A6 A7 A8 A9 A10 A11 A12 A13 : Type} (W : Nat → A1 → A2 → A3 → A4 → A5 → A6 → A7 → A8 → A9 → A10 → A11 → A12 → A13 → Prop) (I : A1 → A2 → A3 → A4 → A5 → A6 → A7 → A8 → A9 → A10 → A11 → A12 → A13 → Prop) (μ : A1 → A2 → A3 → A4 → A5 → A6 → A7 → A8 → A9 → A10 → A11 → A12 → A13 → Nat) (hs : ∀ (n : Nat) (a1 : A1) (a2 : A2) (a3 : A3) (a4 : A4) (a5 : A5) (a6 : A6) (a7 : A7) (a8 : A8) (a9 : A9) (a10 : A10) (a11 : A11) (a12 : A12) (a13 : A13), I a1 a2 a3 a4 a5 a6 a7 a8 a9 a10 a11 a12 a13 → (∀ (b1 : A1) (b2 : A2) (b3 : A3) (b4 : A4) (b5 : A5) (b6 : A6) (b7 : A7) (b8 : A8) (b9 : A9) (b10 : A10) (b11 : A11) (b12 : A12) (b13 : A13), I b1 b2 b3 b4 b5 b6 b7 b8 b9 b10 b11 b12 b13 → μ b1 b2 b3 b4 b5 b6 b7 b8 b9 b10 b11 b12 b13 < μ a1 a2 a3 a4 a5 a6 a7 a8 a9 a10 a11 a12 a13 → W n b1 b2 b3 b4 b5 b6 b7 b8 b9 b10 b11 b12 b13) → W (n + 1) a1 a2 a3 a4 a5 a6 a7 a8 a9 a10 a11 a12 a13) (a1 : A1) (a2 : A2) (a3 : A3) (a4 : A4) (a5 : A5) (a6 : A6) (a7 : A7) (a8 : A8) (a9 : A9) (a10 : A10) (a11 : A11) (a12 : A12) (a13 : A13) (h : I a1 a2 a3 a4 a5 a6 a7 a8 a9 a10 a11 a12 a13) : ∃ n, W n a1 a2 a3 a4 a5 a6 a7 a8 a9 a10 a11 a12 a13 :=
  loop_m (σ := A1 × A2 × A3 × A4 × A5 × A6 × A7 × A8 × A9 × A10 × A11 × A12 × A13) (fun n s => W n s.1 s.2.1 s.2.2.1 s.2.2.2.1 s.2.2.2.2.1 s.2.2.2.2.2.1 s.2.2.2.2.2.2.1 s.2.2.2.2.2.2.2.1 s.2.2.2.2.2.2.2.2.1 s.2.2.2.2.2.2.2.2.2.1 s.2.2.2.2.2.2.2.2.2.2.1 s.2.2.2.2.2.2.2.2.2.2.2.1 s.2.2.2.2.2.2.2.2.2.2.2.2) (fun s => I s.1 s.2.1 s.2.2.1 s.2.2.2.1 s.2.2.2.2.1 s.2.2.2.2.2.1 s.2.2.2.2.2.2.1 s.2.2.2.2.2.2.2.1 s.2.2.2.2.2.2.2.2.1 s.2.2.2.2.2.2.2.2.2.1 s.2.2.2.2.2.2.2.2.2.2.1 s.2.2.2.2.2.2.2.2.2.2.2.1 s.2.2.2.2.2.2.2.2.2.2.2.2) (fun s => μ s.1 s.2.1 s.2.2.1 s.2.2.2.1 s.2.2.2.2.1 s.2.2.2.2.2.1 s.2.2.2.2.2.2.1 s.2.2.2.2.2.2.2.1 s.2.2.2.2.2.2.2.2.1 s.2.2.2.2.2.2.2.2.2.1 s.2.2.2.2.2.2.2.2.2.2.1 s.2.2.2.2.2.2.2.2.2.2.2.1 s.2.2.2.2.2.2.2.2.2.2.2.2) (fun n s hI hk => hs n s.1 s.2.1 s.2.2.1 s.2.2.2.1 s.2.2.2.2.1 s.2.2.2.2.2.1 s.2.2.2.2.2.2.1 s.2.2.2.2.2.2.2.1 s.2.2.2.2.2.2.2.2.1 s.2.2.2.2.2.2.2.2.2.1 s.2.2.2.2.2.2.2.2.2.2.1 s.2.2.2.2.2.2.2.2.2.2.2.1 s.2.2.2.2.2.2.2.2.2.2.2.2 hI (fun b1 b2 b3 b4 b5 b6 b7 b8 b9 b10 b11 b12 b13 h9 hm => hk (b1, b2, b3, b4, b5, b6, b7, b8, b9, b10, b11, b12, b13) h9 hm)) (a1, a2, a3, a4, a5, a6, a7, a8, a9, a10, a11, a12, a13) h
theorem lp14 {A1 A2 A3 A4 A5 A6 A7 A8 A9 A10 A11 A12 A13 A14 : Type} (W : Nat → A1 → A2 → A3 → A4 → A5 → A6 → A7 → A8 → A9 → A10 → A11 → A12 → A13 → A14 → Prop) (I : A1 → A2 → A3 → A4 → A5 → A6 → A7 → A8 → A9 → A10 → A11 → A12 → A13 → A14 → Prop) (μ : A1 → A2 → A3 → A4 → A5 → A6 → A7 → A8 → A9 → A10 → A11 → A12 → A13 → A14 → Nat) (hs : ∀ (n : Nat) (a1 : A1) (a2 : A2) (a3 : A3) (a4 : A4) (a5 : A5) (a6 : A6) (a7 : A7) (a8 : A8) (a9 : A9) (a10 : A10) (a11 : A11) (a12 : A12) (a13 : A13) (a14 : A14), I a1 a2 a3 a4 a5 a6 a7 a8 a9 a10 a11 a12 a13 a14 → (∀ (b1 : A1) (b2 : A2) (b3 : A3) (b4 : A4) (b5 : A5) (b6 : A6) (b7 : A7) (b8 : A8) (b9 : A9) (b10 : A10) (b11 : A11) (b12 : A12) (b13 : A13) (b14 : A14), I b1 b2 b3 b4 b5 b6 b7 b8 b9 b10 b11 b12 b13 b14 → μ b1 b2 b3 b4 b5 b6 b7 b8 b9 b10 b11 b12 b13 b14 < μ a1 a2 a3 a4 a5 a6 a7 a8 a9 a10 a11 a12 a13 a14 → W n b1 b2 b3 b4 b5 b6 b7 b8 b9 b10 b11 b12 b13 b14) → W (n + 1) a1 a2 a3 a4 a5 a6 a7 a8 a9 a10 a11 a12 a13 a14) (a1 : A1) (a2 : A2) (a3 : A3) (a4 : A4) (a5 : A5) (a6 : A6) (a7 : A7) (a8 : A8) (a9 : A9) (a10 : A10) (a11 : A11) (a12 : A12) (a13 : A13) (a14 : A14) (h : I a1 a2 a3 a4 a5 a6 a7 a8 a9 a10 a11 a12 a13 a14) : ∃ n, W n a1 a2 a3 a4 a5 a6 a7 a8 a9 a10 a11 a12 a13 a14 :=
  loop_m (σ := A1 × A2 × A3 × A4 × A5 × A6 × A7 × A8 × A9 × A10 × A11 × A12 × A13 × A14) (fun n s => W n s.1 s.2.1 s.2.2.1 s.2.2.2.1 s.2.2.2.2.1 s.2.2.2.2.2.1 s.2.2.2.2.2.2.1 s.2.2.2.2.2.2.2.1 s.2.2.2.2.2.2.2.2.1 s.2.2.2.2.2.2.2.2.2.1 s.2.2.2.2.2.2.2.2.2.2.1 s.2.2.2.2.2.2.2.2.2.2.2.1 s.2.2.2.2.2.2.2.2.2.2.2.2.1 s.2.2.2.2.2.2.2.2.2.2.2.2.2) (fun s => I s.1 s.2.1 s.2.2.1 s.2.2.2.1 s.2.2.2.2.1 s.2.2.2.2.2.1 s.2.2.2.2.2.2.1 s.2.2.2.2.2.2.2.1 s.2.2.2.2.2.2.2.2.1 s.2.2.2.2.2.2.2.2.2.1 s.2.2.2.2.2.2.2.2.2.2.1 s.2.2.2.2.2.2.2.2.2.2.2.1 s.2.2.2.2.2.2.2.2.2.2.2.2.1 s.2.2.2.2.2.2.2.2.2.2.2.2.2) (fun s => μ s.1 s.2.1 s.2.2.1 s.2.2.2.1 s.2.2.2.2.1 s.2.2.2.2.2.1 s.2.2.2.2.2.2.1 s.2.2.2.2.2.2.2.1 s.2.2.2.2.2.2.2.2.1 s.2.2.2.2.2.2.2.2.2.1 s.2.2.2.2.2.2.2.2.2.2.1 s.2.2.2.2.2.2.2.2.2.2.2.1 s.2.2.2.2.2.2.2.2.2.2.2.2.1 s.2.2.2.2.2.2.2.2.2.2.2.2.2) (fun n s hI hk => hs n s.1 s.2.1 s.2.2.1 s.2.2.2.1 s.2.2.2.2.1 s.2.2.2.2.2.1 s.2.2.2.2.2.2.1 s.2.2.2.2.2.2.2.1 s.2.2.2.2.2.2.2.2.1 s.2.2.2.2.2.2.2.2.2.1 s.2.2.2.2.2.2.2.2.2.2.1 s.2.2.2.2.2.2.2.2.2.2.2.1 s.2.2.2.2.2.2.2.2.2.2.2.2.1 s.2.2.2.2.2.2.2.2.2.2.2.2.2 hI (fun b1 b2 b3 b4 b5 b6 b7 b8 b9 b10 b11 b12 b13 b14 h9 hm => hk (b1, b2, b3, b4, b5, b6, b7, b8, b9, b10, b11, b12, b13, b14) h9 hm)) (a1, a2, a3, a4, a5, a6, a7, a8, a9, a10, a11, a12, a13, a14) h
theorem lp15 {A1 A2 A3 A4 A5 A6 A7 A8 A9 A10 A11 A12 A13 A14 A15 : Type} (W : Nat → A1 → A2 → A3 → A4 → A5 → A6 → A7 → A8 → A9 → A10 → A11 → A12 → A13 → A14 → A15 → Prop) (I : A1 → A2 → A3 → A4 → A5 → A6 → A7 → A8 → A9 → A10 → A11 → A12 → A13 → A14 → A15 → Prop) (μ : A1 → A2 → A3 → A4 → A5 → A6 → A7 → A8 → A9 → A10 → A11 → A12 → A13 → A14 → A15 → Nat) (hs : ∀ (n : Nat) (a1 : A1) (a2 : A2) (a3 : A3) (a4 : A4) (a5 : A5) (a6 : A6) (a7 : A7) (a8 : A8) (a9 : A9) (a10 : A10) (a11 : A11) (a12 : A12) (a13 : A13) (a14 : A14) (a15 : A15), I a1 a2 a3 a4 a5 a6 a7 a8 a9 a10 a11 a12 a13 a14 a15 → (∀ (b1 : A1) (b2 : A2) (b3 : A3) (b4 : A4) (b5 : A5) (b6 : A6) (b7 : A7) (b8 : A8) (b9 : A9) (b10 : A10) (b11 : A11) (b12 : A12) (b13 : A13) (b14 : A14) (b15 : A15), I b1 b2 b3 b4 b5 b6 b7 b8 b9 b10 b11 b12 b13 b14 b15 → μ b1 b2 b3 b4 b5 b6 b7 b8 b9 b10 b11 b12 b13 b14 b15 < μ a1 a2 a3 a4 a5 a6 a7 a8 a9 a10 a11 a12 a13 a14 a15 → W n b1 b2 b3 b4 b5 b6 b7 b8 b9 b10 b11 b12 b13 b14 b15) → W (n + 1) a1 a2 a3 a4 a5 a6 a7 a8 a9 a10 a11 a12 a13 a14 a15) (a1 : A1) (a2 : A2) (a3 : A3) (a4 : A4) (a5 : A5) (a6 : A6) (a7 : A7) (a8 : A8) (a9 : A9) (a10 : A10) (a11 : A11) (a12 : A12) (a13 : A13) (a14 : A14) (a15 : A15) (h : I a1 a2 a3 a4 a5 a6 a7 a8 a9 a10 a11 a12 a13 a14 a15) : ∃ n, W n a1 a2 a3 a4 a5 a6 a7 a8 a9 a10 a11 a12 a13 a14 a15 :=
  loop_m (σ := A1 × A2 × A3 × A4 × A5 × A6 × A7 × A8 × A9 × A10 × A11 × A12 × A13 × A14 × A15) (fun n s => W n s.1 s.2.1 s.2.2.1 s.2.2.2.1 s.2.2.2.2.1 s.2.2.2.2.2.1 s.2.2.2.2.2.2.1 s.2.2.2.2.2.2.2.1 s.2.2.2.2.2.2.2.2.1 s.2.2.2.2.2.2.2.2.2.1 s.2.2.2.2.2.2.2.2.2.2.1 s.2.2.2.2.2.2.2.2.2.2.2.1 s.2.2.2.2.2.2.2.2.2.2.2.2.1 s.2.2.2.2.2.2.2.2.2.2.2.2.2.1 s.2.2.2.2.2.2.2.2.2.2.2.2.2.2) (fun s => I s.1 s.2.1 s.2.2.1 s.2.2.2.1 s.2.2.2.2.1 s.2.2.2.2.2.1 s.2.2.2.2.2.2.1 s.2.2.2.2.2.2.2.1 s.2.2.2.2.2.2.2.2.1 s.2.2.2.2.2.2.2.2.2.1 s.2.2.2.2.2.2.2.2.2.2.1 s.2.2.2.2.2.2.2.2.2.2.2.1 s.2.2.2.2.2.2.2.2.2.2.2.2.1 s.2.2.2.2.2.2.2.2.2.2.2.2.2.1 s.2.2.2.2.2.2.2.2.2.2.2.2.2.2) (fun s => μ s.1 s.2.1 s.2.2.1 s.2.2.2.1 s.2.2.2.2.1 s.2.2.2.2.2.1 s.2.2.2.2.2.2.1 s.2.2.2.2.2.2.2.1 s.2.2.2.2.2.2.2.2.1 s.2.2.2.2.2.2.2.2.2.1 s.2.2.2.2.2.2.2.2.2.2.1 s.2.2.2.2.2.2.2.2.2.2.2.1 s.2.2.2.2.2.2.2.2.2.2.2.2.1 s.2.2.2.2.2.2.2.2.2.2.2.2.2.1 s.2.2.2.2.2.2.2.2.2.2.2.2.2.2) (fun n s hI hk => hs n s.1 s.2.1 s.2.2.1 s.2.2.2.1 s.2.2.2.2.1 s.2.2.2.2.2.1 s.2.2.2.2.2.2.1 s.2.2.2.2.2.2.2.1 s.2.2.2.2.2.2.2.2.1 s.2.2.2.2.2.2.2.2.2.1 s.2.2.2.2.2.2.2.2.2.2.1 s.2.2.2.2.2.2.2.2.2.2.2.1 s.2.2.2.2.2.2.2.2.2.2.2.2.1 s.2.2.2.2.2.2.2.2.2.2.2.2.2.1 s.2.2.2.2.2.2.2.2.2.2.2.2.2.2 hI (fun b1 b2 b3 b4 b5 b6 b7 b8 b9 b10 b11 b12 b13 b14 b15 h9 hm => hk (b1, b2, b3, b4, b5, b6, b7, b8, b9, b10, b11, b12, b13, b14, b15) h9 hm)) (a1, a2, a3, a4, a5, a6, a7, a8, a9, a10, a11, a12, a13, a14, a15) h
theorem lp16 {A1 A2 A3 A4 A5 A6 A7 A8 A9 A10 A11 A12 A13 A14 A15 A16 : Type} (W : Nat → A1 → A2 → A3 → A4 → A5 → A6 → A7 → A8 → A9 → A10 → A11 → A12 → A13 → A14 → A15 → A16 → Prop) (I : A1 → A2 → A3 → A4 → A5 → A6 → A7 → A8 → A9 → A10 → A11 → A12 → A13 → A14 → A15 → A16 → Prop) (μ : A1 → A2 → A3 → A4 → A5 → A6 → A7 → A8 → A9 → A10 → A11 → A12 → A13 → A14 → A15 → A16 → Nat) (hs : ∀ (n : Nat) (a1 : A1) (a2 : A2) (a3 : A3) (a4 : A4) (a5 : A5) (a6 : A6) (a7 : A7) (a8 : A8) (a9 : A9) (a10 : A10) (a11 : A11) (a12 : A12) (a13 : A13) (a14 : A14) (a15 : A15) (a16 : A16), I a1 a2 a3 a4 a5 a6 a7 a8 a9 a10 a11 a12 a13 a14 a15 a16 → (∀ (b1 : A1) (b2 : A2) (b3 : A3) (b4 : A4) (b5 : A5) (b6 : A6) (b7 : A7) (b8 : A8) (b9 : A9) (b10 : A10) (b11 : A11) (b12 : A12) (b13 : A13) (b14 : A14) (b15 : A15) (b16 : A16), I b1 b2 b3 b4 b5 b6 b7 b8 b9 b10 b11 b12 b13 b14 b15 b16 → μ b1 b2 b3 b4 b5 b6 b7 b8 b9 b10 b11 b12 b13 b14 b15 b16 < μ a1 a2 a3 a4 a5 a6 a7 a8 a9 a10 a11 a12 a13 a14 a15 a16 → W n b1 b2 b3 b4 b5 b6 b7 b8 b9 b10 b11 b12 b13 b14 b15 b16) → W (n + 1) a1 a2 a3 a4 a5 a6 a7 a8 a9 a10 a11 a12 a13 a14 a15 a16) (a1 : A1) (a2 : A2) (a3 : A3) (a4 : A4) (a5 : A5) (a6 : A6) (a7 : A7) (a8 : A8) (a9 : A9) (a10 : A10) (a11 : A11) (a12 : A12) (a13 : A13) (a14 : A14) (a15 : A15) (a16 : A16) (h : I a1 a2 a3 a4 a5 a6 a7 a8 a9 a10 a11 a12 a13 a14 a15 a16) : ∃ n, W n a1 a2 a3 a4 a5 a6 a7 a8 a9 a10 a11 a12 a13 a14 a15 a16 :=
  loop_m (σ := A1 × A2 × A3 × A4 × A5 × A6 × A7 × A8 × A9 × A10 × A11 × A12 × A13 × A14 × A15 × A16) (fun n s => W n s.1 s.2.1 s.2.2.1 s.2.2.2.1 s.2.2.2.2.1 s.2.2.2.2.2.1 s.2.2.2.2.2.2.1 s.2.2.2.2.2.2.2.1 s.2.2.2.2.2.2.2.2.1 s.2.2.2.2.2.2.2.2.2.1 s.2.2.2.2.2.2.2.2.2.2.1 s.2.2.2.2.2.2.2.2.2.2.2.1 s.2.2.2.2.2.2.2.2.2.2.2.2.1 s.2.2.2.2.2.2.2.2.2.2.2.2.2.1 s.2.2.2.2.2.2.2.2.2.2.2.2.2.2.1 s.2.2.2.2.2.2.2.2.2.2.2.2.2.2.2) (fun s => I s.1 s.2.1 s.2.2.1 s.2.2.2.1 s.2.2.2.2.1 s.2.2.2.2.2.1 s.2.2.2.2.2.2.1 s.2.2.2.2.2.2.2.1 s.2.2.2.2.2.2.2.2.1 s.2.2.2.2.2.2.2.2.2.1 s.2.2.2.2.2.2.2.2.2.2.1 s.2.2.2.2.2.2.2.2.2.2.2.1 s.2.2.2.2.2.2.2.2.2.2.2.2.1 s.2.2.2.2.2.2.2.2.2.2.2.2.2.1 s.2.2.2.2.2.2.2.2.2.2.2.2.2.2.1 s.2.2.2.2.2.2.2.2.2.2.2.2.2.2.2) (fun s => μ s.1 s.2.1 s.2.2.1 s.2.2.2.1 s.2.2.2.2.1 s.2.2.2.2.2.1 s.2.2.2.2.2.2.1 s.2.2.2.2.2.2.2.1 s.2.2.2.2.2.2.2.2.1 s.2.2.2.2.2.2.2.2.2.1 s.2.2.2.2.2.2.2.2.2.2.1 s.2.2.2.2.2.2.2.2.2.2.2.1 s.2.2.2.2.2.2.2.2.2.2.2.2.1 s.2.2.2.2.2.2.2.2.2.2.2.2.2.1 s.2.2.2.2.2.2.2.2.2.2.2.2.2.2.1 s.2.2.2.2.2.2.2.2.2.2.2.2.2.2.2) (fun n s hI hk => hs n s.1 s.2.1 s.2.2.1 s.2.2.2.1 s.2.2.2.2.1 s.2.2.2.2.2.1 s.2.2.2.2.2.2.1 s.2.2.2.2.2.2.2.1 s.2.2.2.2.2.2.2.2.1 s.2.2.2.2.2.2.2.2.2.1 s.2.2.2.2.2.2.2.2.2.2.1 s.2.2.2.2.2.2.2.2.2.2.2.1 s.2.2.2.2.2.2.2.2.2.2.2.2.1 s.2.2.2.2.2.2.2.2.2.2.2.2.2.1 s.2.2.2.2.2.2.2.2.2.2.2.2.2.2.1 s.2.2.2.2.2.2.2.2.2.2.2.2.2.2.2 hI (fun b1 b2 b3 b4 b5 b6 b7 b8 b9 b10 b11 b12 b13 b14 b15 b16 h9 hm => hk (b1, b2, b3, b4, b5, b6, b7, b8, b9, b10, b11, b12, b13, b14, b15, b16) h9 hm)) (a1, a2, a3, a4, a5, a6, a7, a8, a9, a10, a11, a12, a13, a14, a15, a16) h
theorem pk_least (P : Nat → Prop) (h : ∃ k, P k) : ∃ k, P k ∧ ∀ j, j < k → ¬ P j := by
  obtain ⟨k, hk⟩ := h
  induction k using Nat.strongRecOn with
  | ind k ih =>
    by_cases e : ∃ j, j < k ∧ P j
    · obtain ⟨j, hj, pj⟩ := e
      exact ih j hj pj
    · exact ⟨k, hk, fun j hj pj => e ⟨j, hj, pj⟩⟩
theorem rp1 {ρ A1 : Type} (W : Nat → (ρ → Prop) → A1 → Prop) (ok : A1 → Prop) (μ : A1 → Nat) (val : A1 → ρ)
    (hs : ∀ (d : Nat) (post : ρ → Prop) (a1 : A1), ok a1 → post (val a1) → (∀ (post' : ρ → Prop) (b1 : A1), ok b1 → μ b1 < μ a1 → post' (val b1) → W d post' b1) → W (d + 1) post a1) :
    ∀ (d : Nat) (post : ρ → Prop) (a1 : A1), ok a1 → μ a1 < d → post (val a1) → W d post a1 := by
  intro d
  induction d with
  | zero => intro post a1 _ h; omega
  | succ d ih =>
    intro post a1 ho hm hp
    exact hs d post a1 ho hp (fun post' b1 ho' hm' hp' => ih post' b1 ho' (by omega) hp')
theorem rp2 {ρ A1 A2 : Type} (W : Nat → (ρ → Prop) → A1 → A2 → Prop) (ok : A1 → A2 → Prop) (μ : A1 → A2 → Nat) (val : A1 → A2 → ρ)
    (hs : ∀ (d : Nat) (post : ρ → Prop) (a1 : A1) (a2 : A2), ok a1 a2 → post (val a1 a2) → (∀ (post' : ρ → Prop) (b1 : A1) (b2 : A2), ok b1 b2 → μ b1 b2 < μ a1 a2 → post' (val b1 b2) → W d post' b1 b2) → W (d + 1) post a1 a2) :
    ∀ (d : Nat) (post : ρ → Prop) (a1 : A1) (a2 : A2), ok a1 a2 → μ a1 a2 < d → post (val a1 a2) → W d post a1 a2 := by
  intro d
  induction d with
  | zero => intro post a1 a2 _ h; omega
  | succ d ih =>
    intro post a1 a2 ho hm hp
    exact hs d post a1 a2 ho hp (fun post' b1 b2 ho' hm' hp' => ih post' b1 b2 ho' (by omega) hp')
theorem rp3 {ρ A1 A2 A3 : Type} (W : Nat → (ρ → Prop) → A1 → A2 → A3 → Prop) (ok : A1 → A2 → A3 → Prop) (μ : A1 → A2 → A3 → Nat) (val : A1 → A2 → A3 → ρ)
    (hs : ∀ (d : Nat) (post : ρ → Prop) (a1 : A1) (a2 : A2) (a3 : A3), ok a1 a2 a3 → post (val a1 a2 a3) → (∀ (post' : ρ → Prop) (b1 : A1) (b2 : A2) (b3 : A3), ok b1 b2 b3 → μ b1 b2 b3 < μ a1 a2 a3 → post' (val b1 b2 b3) → W d post' b1 b2 b3) → W (d + 1) post a1 a2 a3) :
    ∀ (d : Nat) (post : ρ → Prop) (a1 : A1) (a2 : A2) (a3 : A3), ok a1 a2 a3 → μ a1 a2 a3 < d → post (val a1 a2 a3) → W d post a1 a2 a3 := by
  intro d
  induction d with
  | zero => intro post a1 a2 a3 _ h; omega
  | succ d ih =>
    intro post a1 a2 a3 ho hm hp
    exact hs d post a1 a2 a3 ho hp (fun post' b1 b2 b3 ho' hm' hp' => ih post' b1 b2 b3 ho' (by omega) hp')
theorem rp4 {ρ A1 A2 A3 A4 : Type} (W : Nat → (ρ → Prop) → A1 → A2 → A3 → A4 → Prop) (ok : A1 → A2 → A3 → A4 → Prop) (μ : A1 → A2 → A3 → A4 → Nat) (val : A1 → A2 → A3 → A4 → ρ)
    (hs : ∀ (d : Nat) (post : ρ → Prop) (a1 : A1) (a2 : A2) (a3 : A3) (a4 : A4), ok a1 a2 a3 a4 → post (val a1 a2 a3 a4) → (∀ (post' : ρ → Prop) (b1 : A1) (b2 : A2) (b3 : A3) (b4 : A4), ok b1 b2 b3 b4 → μ b1 b2 b3 b4 < μ a1 a2 a3 a4 → post' (val b1 b2 b3 b4) → W d post' b1 b2 b3 b4) → W (d + 1) post a1 a2 a3 a4) :
    ∀ (d : Nat) (post : ρ → Prop) (a1 : A1) (a2 : A2) (a3 : A3) (a4 : A4), ok a1 a2 a3 a4 → μ a1 a2 a3 a4 < d → post (val a1 a2 a3 a4) → W d post a1 a2 a3 a4 := by
  intro d
  induction d with
  | zero => intro post a1 a2 a3 a4 _ h; omega
  | succ d ih =>
    intro post a1 a2 a3 a4 ho hm hp
    exact hs d post a1 a2 a3 a4 ho hp (fun post' b1 b2 b3 b4 ho' hm' hp' => ih post' b1 b2 b3 b4 ho' (by omega) hp')
theorem rp5 {ρ A1 A2 A3 A4 A5 : Type} (W : Nat → (ρ → Prop) → A1 → A2 → A3 → A4 → A5 → Prop) (ok : A1 → A2 → A3 → A4 → A5 → Prop) (μ : A1 → A2 → A3 → A4 → A5 → Nat) (val : A1 → A2 → A3 → A4 → A5 → ρ)
    (hs : ∀ (d : Nat) (post : ρ → Prop) (a1 : A1) (a2 : A2) (a3 : A3) (a4 : A4) (a5 : A5), ok a1 a2 a3 a4 a5 → post (val a1 a2 a3 a4 a5) → (∀ (post' : ρ → Prop) (b1 : A1) (b2 : A2) (b3 : A3) (b4 : A4) (b5 : A5), ok b1 b2 b3 b4 b5 → μ b1 b2 b3 b4 b5 < μ a1 a2 a3 a4 a5 → post' (val b1 b2 b3 b4 b5) → W d post' b1 b2 b3 b4 b5) → W (d + 1) post a1 a2 a3 a4 a5) :
    ∀ (d : Nat) (post : ρ → Prop) (a1 : A1) (a2 : A2) (a3 : A3) (a4 : A4) (a5 : A5), ok a1 a2 a3 a4 a5 → μ a1 a2 a3 a4 a5 < d → post (val a1 a2 a3 a4 a5) → W d post a1 a2 a3 a4 a5 := by
  intro d
  induction d with
  | zero => intro post a1 a2 a3 a4 a5 _ h; omega
  | succ d ih =>
    intro post a1 a2 a3 a4 a5 ho hm hp
    exact hs d post a1 a2 a3 a4 a5 ho hp (fun post' b1 b2 b3 b4 b5 ho' hm' hp' => ih post' b1 b2 b3 b4 b5 ho' (by omega) hp')
theorem rp6 {ρ A1 A2 A3 A4 A5 A6 : Type} (W : Nat → (ρ → Prop) → A1 → A2 → A3 → A4 → A5 → A6 → Prop) (ok : A1 → A2 → A3 → A4 → A5 → A6 → Prop) (μ : A1 → A2 → A3 → A4 → A5 → A6 → Nat) (val : A1 → A2 → A3 → A4 → A5 → A6 → ρ)
    (hs : ∀ (d : Nat) (post : ρ → Prop) (a1 : A1) (a2 : A2) (a3 : A3) (a4 : A4) (a5 : A5) (a6 : A6), ok a1 a2 a3 a4 a5 a6 → post (val a1 a2 a3 a4 a5 a6) → (∀ (post' : ρ → Prop) (b1 : A1) (b2 : A2) (b3 : A3) (b4 : A4) (b5 : A5) (b6 : A6), ok b1 b2 b3 b4 b5 b6 → μ b1 b2 b3 b4 b5 b6 < μ a1 a2 a3 a4 a5 a6 → post' (val b1 b2 b3 b4 b5 b6) → W d post' b1 b2 b3 b4 b5 b6) → W (d + 1) post a1 a2 a3 a4 a5 a6) :
    ∀ (d : Nat) (post : ρ → Prop) (a1 : A1) (a2 : A2) (a3 : A3) (a4 : A4) (a5 : A5) (a6 : A6), ok a1 a2 a3 a4 a5 a6 → μ a1 a2 a3 a4 a5 a6 < d → post (val a1 a2 a3 a4 a5 a6) → W d post a1 a2 a3 a4 a5 a6 := by
  intro d
  induction d with
  | zero => intro post a1 a2 a3 a4 a5 a6 _ h; omega
  | succ d ih =>
    intro post a1 a2 a3 a4 a5 a6 ho hm hp
    exact hs d post a1 a2 a3 a4 a5 a6 ho hp (fun post' b1 b2 b3 b4 b5 b6 ho' hm' hp' => ih post' b1 b2 b3 b4 b5 b6 ho' (by omega) hp')
theorem rec_p {σ ρ : Type} (W : Nat → (ρ → Prop) → σ → Prop) (ok : σ → Prop) (μ : σ → Nat) (val : σ → ρ)
    (hs : ∀ d s post, ok s → post (val s) → (∀ s' post', ok s' → μ s' < μ s → post' (val s') → W d post' s') → W (d + 1) post s) :
    ∀ d s post, ok s → μ s < d → post (val s) → W d post s := by
  intro d
  induction d with
  | zero => intro s post _ h; omega
  | succ d ih =>
    intro s post ho hm hp
    exact hs d s post ho hp (fun s' post' ho' hm' hp' => ih s' post' ho' (by omega) hp')
theorem rec_q {σ ρ : Type} (W : Nat → (ρ → Prop) → σ → Prop) (ok : σ → Prop) (μ : σ → Nat) (Q : σ → ρ → Prop)
    (hs : ∀ d s post, ok s → (∀ r, Q s r → post r) → (∀ s' post', ok s' → μ s' < μ s → (∀ r, Q s' r → post' r) → W d post' s') → W (d + 1) post s) :
    ∀ d s post, ok s → μ s < d → (∀ r, Q s r → post r) → W d post s := by
  intro d
  induction d with
  | zero => intro s post _ h; omega
  | succ d ih =>
    intro s post ho hm hp
    exact hs d s post ho hp (fun s' post' ho' hm' hp' => ih s' post' ho' (by omega) hp')
def bx_sum (f : Nat → Int32) : Nat → Int32
  | 0 => 0
  | n + 1 => bx_sum f n + f n
theorem ek_u {A : Prop} {B : Nat → Prop} {k N : Nat} (hk : k < N) (h : B k) : (some k = none → A) ∧ (∀ y : Nat, some k = some y → (y < N ∧ B y)) :=
  ⟨fun z => absurd z (Option.some_ne_none k), fun _ e => (by cases e; exact ⟨hk, h⟩)⟩
theorem ek_nu {A : Prop} {B : Nat → Prop} (h : A) : ((none : Option Nat) = none → A) ∧ (∀ y : Nat, (none : Option Nat) = some y → B y) :=
  ⟨fun _ => h, fun _ e => (by cases e)⟩
theorem ek_if {c d A B : Prop} (e : c ↔ d) (f : d → A) (g : ¬ d → B) : (c → A) ∧ (¬ c → B) :=
  ⟨fun z => f (e.mp z), fun z => g (fun y => z (e.mpr y))⟩
theorem ek_v {α : Sort _} {P : α → Prop} {a b : α} (e : a = b) (h : P b) : P a := e ▸ h
theorem co_some {x : Option Nat} {A : Prop} {B : Nat → Prop} (i : Nat) (h : B i) (hx : x = some i := by rfl) : (x = none → A) ∧ (∀ y : Nat, x = some y → B y) := by
  subst hx
  exact ⟨fun e => (nomatch e), fun y e => Option.some.inj e ▸ h⟩
theorem co_none {x : Option Nat} {A : Prop} {B : Nat → Prop} (h : A) (hx : x = none := by rfl) : (x = none → A) ∧ (∀ y : Nat, x = some y → B y) := by
  subst hx
  exact ⟨fun _ => h, fun y e => (nomatch e)⟩
theorem co_any {x : Option Nat} {A : Prop} {B : Nat → Prop} (hn : x = none → A) (hs : ∀ i : Nat, x = some i → B i) : (x = none → A) ∧ (∀ y : Nat, x = some y → B y) := ⟨hn, hs⟩
theorem co_2 {P : Nat → Prop} (h0 : P 0) (h1 : P 1) {i : Nat} (hi : i < 2) : P i :=
  match i, hi with
  | 0, _ => h0
  | 1, _ => h1
theorem co_3 {P : Nat → Prop} (h0 : P 0) (h1 : P 1) (h2 : P 2) {i : Nat} (hi : i < 3) : P i :=
  match i, hi with
  | 0, _ => h0
  | 1, _ => h1
  | 2, _ => h2
theorem co_4 {P : Nat → Prop} (h0 : P 0) (h1 : P 1) (h2 : P 2) (h3 : P 3) {i : Nat} (hi : i < 4) : P i :=
  match i, hi with
  | 0, _ => h0
  | 1, _ => h1
  | 2, _ => h2
  | 3, _ => h3
theorem co_dec {N : Nat} {P : Nat → Prop} [DecidablePred P] (h : (List.range N).all (fun i => decide (P i)) = true) {i : Nat} (hi : i < N) : P i := by
  have := List.all_eq_true.mp h i (List.mem_range.mpr hi)
  exact of_decide_eq_true this
theorem co_tab {α : Type} {l : List α} {d : α} {P : α → Prop} (h : ∀ a, a ∈ l → P a) {i : Nat} (hi : i < l.length) : P (l.getD i d) := by
  rw [List.getD_eq_getElem?_getD, List.getElem?_eq_getElem hi]
  exact h _ (List.getElem_mem hi)
theorem pk_mu {x : Int32} {L : Nat} (h0 : ¬ x < 0) (h : ¬ nI L ≤ x) (hL : L < 2 ^ 31) : ∃ j : Nat, j < L ∧ x = nI j ∧ x + 1 = nI (j + 1) ∧ x.toNatClampNeg = j ∧ L - (x + 1).toNatClampNeg < L - x.toNatClampNeg := by
  obtain ⟨j, hj, rfl⟩ := nI_of h0
  have hl : j < L := Nat.not_le.mp fun q => h (nI_le q hj)
  refine ⟨j, hl, rfl, nI_1 j, nI_clamp hj, ?_⟩
  rw [nI_1, nI_clamp (by omega), nI_clamp hj]
  omega
theorem op_s {α : Type} {r : Option α} {A : Prop} {B : α → Prop} {y : α} (h : r = some y) (b : B y) : (r = none → A) ∧ ∀ z, r = some z → B z :=
  ⟨fun e => (by rw [h] at e; cases e), fun z e => (by rw [h] at e; cases e; exact b)⟩
def l_holds {α : Type} (a : Nat → Option Nat) (LP : List Nat) (p : Nat → α) (c : Nat) (b : Nat → α) : Prop :=
  ∀ j, j < c → ∃ y, a j = some y ∧ y ∈ LP ∧ p y = b j
theorem l_holds_0 {α : Type} {a : Nat → Option Nat} {LP : List Nat} {p b : Nat → α} : l_holds a LP p 0 b := fun j h => absurd h (Nat.not_lt_zero j)
theorem l_in_new (LP : List Nat) (q : Nat) : q ∈ LP ++ [q] := List.mem_append.mpr (Or.inr (List.mem_singleton.mpr rfl))
def l_sum (b : Nat → Int32) : Nat → Int32
  | 0 => 0
  | k + 1 => l_sum b k + b k
theorem sb_shr0 (x : Int32) : x >>> ((0 : Int32) &&& 31) = x := by
  rw [show ((0 : Int32) &&& 31) = 0 by decide]
  simp
theorem sb_shl0 (x : Int32) : x <<< ((0 : Int32) &&& 31) = x := by
  rw [show ((0 : Int32) &&& 31) = 0 by decide]
  simp
theorem sb_cl0 : (0 : Int32).toNatClampNeg = 0 := by decide
theorem sb_m1 {p : Nat} (h : 0 < p) : nI p + (-1) = nI (p - 1) := by
  obtain ⟨q, rfl⟩ : ∃ q, p = q + 1 := ⟨p - 1, by omega⟩
  exact pk_m1 q
def sb_b (c : Nat) : Int32 := (nI c).toInt8.toInt32
theorem sb_byte : ∀ c, c < 256 → sb_b c &&& 255 = nI c ∧ ((nI c).toUInt32 % 65536).toInt32 = nI c ∧ nI c ≤ 255 := by decide +kernel
def sb_Fit (a : Nat → Int32) : Prop := ∀ j, fits .byte (.int (a j)) = true
def sb_Lat (t : Nat → Nat) (n : Nat) (a : Nat → Int32) : Prop := ∀ j, j < n → t j < 256 ∧ a j = sb_b (t j)
theorem sb_fitB (c : Nat) : fits .byte (.int (sb_b c)) = true := pk_fb _
theorem sb_fit0 : sb_Fit (fun _ => 0) := fun _ => by
  show fits .byte (.int 0) = true
  decide
theorem sb_fitU {a : Nat → Int32} {k : Nat} {x : Int32} (h : sb_Fit a) (hx : fits .byte (.int x) = true) : sb_Fit (upd a k x) := by
  intro j
  by_cases e : j = k
  · subst e
    rw [pk_us]
    exact hx
  · rw [pk_un e]
    exact h j
def sb_cat (t : Nat → Nat) (n : Nat) (s : Nat → Nat) : Nat → Nat := fun j => if j < n then t j else s (j - n)
theorem sb_cat_lo {t s : Nat → Nat} {n j : Nat} (h : j < n) : sb_cat t n s j = t j := if_pos h
theorem sb_cat_hi {t s : Nat → Nat} {n j : Nat} : sb_cat t n s (n + j) = s j := by
  show (if n + j < n then t (n + j) else s (n + j - n)) = s j
  rw [if_neg (by omega), Nat.add_sub_cancel_left]
theorem sb_latPut {t s : Nat → Nat} {n w : Nat} {a a' : Nat → Int32} (h : sb_Lat t n a) (hk : ∀ j, j < n → a' j = a j) (hs : ∀ i, i < w → s i < 256 ∧ a' (n + i) = sb_b (s i)) : sb_Lat (sb_cat t n s) (n + w) a' := by
  intro j hj
  by_cases e : j < n
  · rw [sb_cat_lo e, hk j e]
    exact h j e
  · obtain ⟨i, rfl⟩ : ∃ i, j = n + i := ⟨j - n, by omega⟩
    rw [sb_cat_hi]
    exact hs i (by omega)
theorem sb_latKeep {t : Nat → Nat} {n : Nat} {a a' : Nat → Int32} (h : sb_Lat t n a) (hk : ∀ j, j < n → a' j = a j) : sb_Lat t n a' := fun j hj => by
  rw [hk j hj]
  exact h j hj
def sb_cap (q m : Nat) : Nat := if q ≤ m then m else if 2 * m + 2 < q then q else 2 * m + 2
def sb_Room (q m mc ms : Nat) : Prop := q ≤ m ∨ (1 ≤ mc ∧ sb_cap q m ≤ ms ∧ sb_cap q m ≤ 65536)
theorem sb_cap_ge (q m : Nat) : q ≤ sb_cap q m := by
  unfold sb_cap
  split
  · omega
  · split <;> omega
theorem sb_cap_gem (q m : Nat) : m ≤ sb_cap q m := by
  unfold sb_cap
  split
  · omega
  · split <;> omega
theorem sb_cap_le {q m mc ms : Nat} (hm : m ≤ 65536) (hr : sb_Room q m mc ms) : sb_cap q m ≤ 65536 := by
  rcases hr with h | h
  · rw [sb_cap, if_pos h]
    exact hm
  · exact h.2.2
theorem sb_at {P : Int32 → Prop} {x y : Int32} (e : x = y) (h : P y) : P x := e ▸ h
def sb_dg (w : Nat) : Nat := if w < 10 then 1 else if w < 100 then 2 else if w < 1000 then 3 else if w < 10000 then 4 else if w < 100000 then 5 else if w < 1000000 then 6 else if w < 10000000 then 7 else if w < 100000000 then 8 else if w < 1000000000 then 9 else 10
def sb_dec (v : Nat) : Nat → Nat := fun i => 48 + v / 10 ^ (sb_dg v - 1 - i) % 10
theorem sb_dg_in (w : Nat) : 1 ≤ sb_dg w ∧ sb_dg w ≤ 10 := by
  unfold sb_dg
  constructor <;> (repeat' split) <;> omega
theorem sb_dg100 {w : Nat} (h : 100 ≤ w) (hw : w < 2 ^ 31) : sb_dg w = sb_dg (w / 100) + 2 := by
  rw [sb_dg, sb_dg, if_neg (show ¬ w < 10 by omega), if_neg (show ¬ w < 100 by omega)]
  by_cases h3 : w < 1000
  · rw [if_pos h3, if_pos (show w / 100 < 10 by omega)]
  rw [if_neg h3, if_neg (show ¬ w / 100 < 10 by omega)]
  by_cases h4 : w < 10000
  · rw [if_pos h4, if_pos (show w / 100 < 100 by omega)]
  rw [if_neg h4, if_neg (show ¬ w / 100 < 100 by omega)]
  by_cases h5 : w < 100000
  · rw [if_pos h5, if_pos (show w / 100 < 1000 by omega)]
  rw [if_neg h5, if_neg (show ¬ w / 100 < 1000 by omega)]
  by_cases h6 : w < 1000000
  · rw [if_pos h6, if_pos (show w / 100 < 10000 by omega)]
  rw [if_neg h6, if_neg (show ¬ w / 100 < 10000 by omega)]
  by_cases h7 : w < 10000000
  · rw [if_pos h7, if_pos (show w / 100 < 100000 by omega)]
  rw [if_neg h7, if_neg (show ¬ w / 100 < 100000 by omega)]
  by_cases h8 : w < 100000000
  · rw [if_pos h8, if_pos (show w / 100 < 1000000 by omega)]
  rw [if_neg h8, if_neg (show ¬ w / 100 < 1000000 by omega)]
  by_cases h9 : w < 1000000000
  · rw [if_pos h9, if_pos (show w / 100 < 10000000 by omega)]
  rw [if_neg h9, if_neg (show ¬ w / 100 < 10000000 by omega)]
  rw [if_pos (show w / 100 < 100000000 by omega)]
theorem sb_negT {w : Nat} (h : w < 2 ^ 31) : (-nI w).toInt = -(w : Int) := by
  rw [Int32.toInt_neg, nI_toInt h]
  exact Int.bmod_eq_of_le (by omega) (by omega)
theorem sb_nle {a b : Nat} (ha : a < 2 ^ 31) (hb : b < 2 ^ 31) : -nI a ≤ -nI b ↔ b ≤ a := by
  rw [Int32.le_iff_toInt_le, sb_negT ha, sb_negT hb]
  omega
theorem sb_nlt {a b : Nat} (ha : a < 2 ^ 31) (hb : b < 2 ^ 31) : -nI a < -nI b ↔ b < a := by
  rw [Int32.lt_iff_toInt_lt, sb_negT ha, sb_negT hb]
  omega
theorem sb_cmp {A B : Prop} {x : Int32} (v c : Nat) (f : c ≤ v → A) (g : v < c → B) (hv : v < 2 ^ 31) (hx : x = -nI c := by rfl) (hc : c < 2 ^ 31 := by omega) : (-nI v ≤ x → A) ∧ (¬ -nI v ≤ x → B) := by
  subst hx
  rw [sb_nle hv hc]
  exact ⟨f, fun z => g (by omega)⟩
theorem sb_ndiv {w : Nat} (hw : w < 2 ^ 31) : (-nI w) / 100 = -nI (w / 100) := by
  apply Int32.toInt_inj.mp
  have h100 : (100 : Int32).toInt = 100 := by decide
  rw [Int32.toInt_div, sb_negT hw, h100, sb_negT (by omega), Int.neg_tdiv, Int.tdiv_eq_ediv_of_nonneg (by omega), Int.bmod_eq_of_le (by omega) (by omega)]
  omega
theorem sb_nrem {w : Nat} (hw : w < 2 ^ 31) : (-nI (w / 100)) * 100 - (-nI w) = nI (w % 100) := by
  have h := pk_rem (a := w) (d := 100) hw (by decide) (by decide)
  rw [pk_div hw (by decide) (by decide)] at h
  rw [← h]
  show (-nI (w / 100)) * nI 100 - (-nI w) = nI w - nI (w / 100) * nI 100
  rw [Int32.neg_mul, Int32.sub_neg, Int32.add_comm, ← Int32.sub_eq_add_neg]
end
section
/-! preorder token strings: 0 a pair, 1 .. 16 a symbol, 100 + v an unknown -/
/-- l is k complete trees one behind another -/
def rs_W : Nat → List Nat → Prop
  | k, [] => k = 0
  | k, a :: l => 0 < k ∧ rs_W (if a = 0 then k + 1 else k - 1) l
theorem rs_W_app : ∀ (a : List Nat) (j k : Nat) (b : List Nat), rs_W j a → rs_W k b → rs_W (j + k) (a ++ b)
  | [], j, k, b, ha, hb => by
    have h0 : j = 0 := ha
    subst h0
    rw [Nat.zero_add]
    exact hb
  | t :: a, j, k, b, ha, hb => by
    obtain ⟨hj, ha⟩ := ha
    have h := rs_W_app a _ k b ha hb
    have e : (if t = 0 then j + k + 1 else j + k - 1) = (if t = 0 then j + 1 else j - 1) + k := by
      split <;> omega
    refine ⟨by omega, ?_⟩
    rw [e]
    exact h
theorem rs_W_split : ∀ (l : List Nat) (j k : Nat), rs_W (j + k) l → ∃ a b, l = a ++ b ∧ rs_W j a ∧ rs_W k b
  | [], j, k, h => by
    have h0 : j + k = 0 := h
    exact ⟨[], [], rfl, (by omega : j = 0), (by omega : k = 0)⟩
  | t :: l, j, k, h => by
    by_cases hj : j = 0
    · subst hj
      rw [Nat.zero_add] at h
      exact ⟨[], t :: l, rfl, rfl, h⟩
    · obtain ⟨_, h⟩ := h
      have e : (if t = 0 then j + k + 1 else j + k - 1) = (if t = 0 then j + 1 else j - 1) + k := by
        split <;> omega
      rw [e] at h
      obtain ⟨a, b, e1, e2, e3⟩ := rs_W_split l _ k h
      exact ⟨t :: a, b, by rw [e1]; rfl, ⟨by omega, e2⟩, e3⟩
theorem rs_W_pre : ∀ (a b : List Nat) (k : Nat) (c d : List Nat), rs_W k a → rs_W k b → a ++ c = b ++ d → a = b ∧ c = d
  | [], [], _, _, _, _, _, h => ⟨rfl, h⟩
  | [], _ :: _, k, _, _, ha, hb, _ => by
    have h0 : k = 0 := ha
    have h1 : 0 < k := hb.1
    omega
  | _ :: _, [], k, _, _, ha, hb, _ => by
    have h0 : k = 0 := hb
    have h1 : 0 < k := ha.1
    omega
  | t :: a, t' :: b, k, c, d, ha, hb, h => by
    rw [List.cons_append, List.cons_append] at h
    injection h with h1 h2
    subst h1
    obtain ⟨e1, e2⟩ := rs_W_pre a b _ c d ha.2 hb.2 h2
    exact ⟨by rw [e1], e2⟩
theorem rs_W_eq {a b : List Nat} {k : Nat} {c d : List Nat} (ha : rs_W k a) (hb : rs_W k b) (h : a ++ c = b ++ d) : a = b ∧ c = d :=
  rs_W_pre a b k c d ha hb h
theorem rs_W_pos {l : List Nat} {k : Nat} (h : rs_W (k + 1) l) : 0 < l.length := by
  cases l with
  | nil => exact absurd (show k + 1 = 0 from h) (by omega)
  | cons a l => rw [List.length_cons]; omega
theorem rs_W_one {t : Nat} (h : t ≠ 0) : rs_W 1 [t] := ⟨by omega, by rw [if_neg h]; rfl⟩
theorem rs_W_pair {a b : List Nat} (ha : rs_W 1 a) (hb : rs_W 1 b) : rs_W 1 (0 :: (a ++ b)) :=
  ⟨by omega, by rw [if_pos rfl]; exact rs_W_app a 1 1 b ha hb⟩
theorem rs_W_pair_inv {l : List Nat} (h : rs_W 1 (0 :: l)) : ∃ a b, l = a ++ b ∧ rs_W 1 a ∧ rs_W 1 b := by
  have h2 := h.2
  rw [if_pos rfl] at h2
  exact rs_W_split l 1 1 h2
theorem rs_W_nz {t : Nat} {l : List Nat} (ht : t ≠ 0) (h : rs_W 1 (t :: l)) : l = [] := by
  have h2 := h.2
  rw [if_neg ht] at h2
  cases l with
  | nil => rfl
  | cons a l => exact absurd h2.1 (by omega)
/-- no string of k trees is a proper head of another -/
theorem rs_W_head {a c : List Nat} {k : Nat} (ha : rs_W k a) (hb : rs_W k (a ++ c)) : c = [] := by
  have h := rs_W_pre a (a ++ c) k c [] ha hb (by rw [List.append_nil])
  exact h.2
/-- the substitution -/
def rs_s (θ : Nat → List Nat) : List Nat → List Nat
  | [] => []
  | t :: l => (if t < 100 then [t] else θ (t - 100)) ++ rs_s θ l
theorem rs_s_app (θ : Nat → List Nat) : ∀ a b : List Nat, rs_s θ (a ++ b) = rs_s θ a ++ rs_s θ b
  | [], _ => rfl
  | t :: a, b => by
    show (if t < 100 then [t] else θ (t - 100)) ++ rs_s θ (a ++ b) = ((if t < 100 then [t] else θ (t - 100)) ++ rs_s θ a) ++ rs_s θ b
    rw [rs_s_app θ a b, List.append_assoc]
theorem rs_s_lo {θ : Nat → List Nat} {t : Nat} {l : List Nat} (h : t < 100) : rs_s θ (t :: l) = t :: rs_s θ l := by
  show (if t < 100 then [t] else θ (t - 100)) ++ rs_s θ l = t :: rs_s θ l
  rw [if_pos h]; rfl
theorem rs_s_hi {θ : Nat → List Nat} {v : Nat} {l : List Nat} : rs_s θ ((100 + v) :: l) = θ v ++ rs_s θ l := by
  show (if 100 + v < 100 then [100 + v] else θ (100 + v - 100)) ++ rs_s θ l = θ v ++ rs_s θ l
  rw [if_neg (by omega), Nat.add_sub_cancel_left]
theorem rs_s_1 {θ : Nat → List Nat} {v : Nat} : rs_s θ [100 + v] = θ v := by
  rw [rs_s_hi]; exact List.append_nil _
theorem rs_tok (t : Nat) : t < 100 ∨ ∃ v, t = 100 + v := by
  by_cases h : t < 100
  · exact Or.inl h
  · exact Or.inr ⟨t - 100, by omega⟩
/-- complete values -/
def rs_cp (θ : Nat → List Nat) : Prop := ∀ v, rs_W 1 (θ v)
theorem rs_s_W {θ : Nat → List Nat} (hθ : rs_cp θ) : ∀ (l : List Nat) (k : Nat), rs_W k l → rs_W k (rs_s θ l)
  | [], _, h => h
  | t :: l, k, h => by
    obtain ⟨hk, h⟩ := h
    rcases rs_tok t with ht | ⟨v, rfl⟩
    · rw [rs_s_lo ht]
      exact ⟨hk, rs_s_W hθ l _ h⟩
    · rw [rs_s_hi]
      rw [if_neg (by omega)] at h
      have := rs_W_app (θ v) 1 (k - 1) _ (hθ v) (rs_s_W hθ l _ h)
      rwa [show 1 + (k - 1) = k by omega] at this
theorem rs_s_s (θ η : Nat → List Nat) : ∀ l : List Nat, rs_s θ (rs_s η l) = rs_s (fun v => rs_s θ (η v)) l
  | [] => rfl
  | t :: l => by
    rcases rs_tok t with ht | ⟨v, rfl⟩
    · rw [rs_s_lo ht, rs_s_lo ht, rs_s_lo ht, rs_s_s θ η l]
    · rw [rs_s_hi, rs_s_hi, rs_s_app, rs_s_s θ η l]
theorem rs_s_id : ∀ l : List Nat, rs_s (fun v => [100 + v]) l = l
  | [] => rfl
  | t :: l => by
    rcases rs_tok t with ht | ⟨v, rfl⟩
    · rw [rs_s_lo ht, rs_s_id l]
    · rw [rs_s_hi, rs_s_id l]; rfl
theorem rs_s_congr {θ η : Nat → List Nat} : ∀ l : List Nat, (∀ v, 100 + v ∈ l → θ v = η v) → rs_s θ l = rs_s η l
  | [], _ => rfl
  | t :: l, h => by
    have ih := rs_s_congr l (fun v hv => h v (List.mem_cons_of_mem _ hv))
    rcases rs_tok t with ht | ⟨v, rfl⟩
    · rw [rs_s_lo ht, rs_s_lo ht, ih]
    · rw [rs_s_hi, rs_s_hi, ih, h v (List.mem_cons_self ..)]
theorem rs_cp_pos {θ : Nat → List Nat} (hθ : rs_cp θ) (v : Nat) : 0 < (θ v).length := rs_W_pos (k := 0) (hθ v)
theorem rs_s_len {θ : Nat → List Nat} (hθ : rs_cp θ) : ∀ l : List Nat, l.length ≤ (rs_s θ l).length
  | [] => Nat.le_refl _
  | t :: l => by
    have ih := rs_s_len hθ l
    rcases rs_tok t with ht | ⟨v, rfl⟩
    · rw [rs_s_lo ht, List.length_cons, List.length_cons]; omega
    · rw [rs_s_hi, List.length_cons, List.length_append]
      have := rs_cp_pos hθ v
      omega
theorem rs_s_occ {θ : Nat → List Nat} (hθ : rs_cp θ) {v : Nat} : ∀ l : List Nat, 100 + v ∈ l → (θ v).length + l.length ≤ (rs_s θ l).length + 1
  | [], h => absurd h (List.not_mem_nil)
  | t :: l, h => by
    have ihl := rs_s_len hθ l
    rcases rs_tok t with ht | ⟨w, rfl⟩
    · rw [rs_s_lo ht, List.length_cons, List.length_cons]
      rcases List.mem_cons.mp h with h | h
      · omega
      · have := rs_s_occ hθ l h
        omega
    · rw [rs_s_hi, List.length_cons, List.length_append]
      rcases List.mem_cons.mp h with h | h
      · have e : v = w := by omega
        subst e
        omega
      · have := rs_s_occ hθ l h
        have := rs_cp_pos hθ w
        omega
/-- a term's string in frame f -/
def rs_sh (f : Nat) (l : List Nat) : List Nat := l.map (fun t => if t < 100 then t else t + 6 * f)
theorem rs_sh_app (f : Nat) (a b : List Nat) : rs_sh f (a ++ b) = rs_sh f a ++ rs_sh f b := List.map_append
theorem rs_sh_lo {f t : Nat} {l : List Nat} (h : t < 100) : rs_sh f (t :: l) = t :: rs_sh f l := by
  show (if t < 100 then t else t + 6 * f) :: rs_sh f l = t :: rs_sh f l
  rw [if_pos h]
theorem rs_sh_hi {f v : Nat} {l : List Nat} : rs_sh f ((100 + v) :: l) = (100 + (6 * f + v)) :: rs_sh f l := by
  show (if 100 + v < 100 then 100 + v else 100 + v + 6 * f) :: rs_sh f l = (100 + (6 * f + v)) :: rs_sh f l
  rw [if_neg (by omega)]
  congr 1
  omega
theorem rs_sh_len (f : Nat) (l : List Nat) : (rs_sh f l).length = l.length := List.length_map ..
theorem rs_sh_W (f : Nat) : ∀ (l : List Nat) (k : Nat), rs_W k l → rs_W k (rs_sh f l)
  | [], _, h => h
  | t :: l, k, h => by
    obtain ⟨hk, h⟩ := h
    rcases rs_tok t with ht | ⟨v, rfl⟩
    · rw [rs_sh_lo ht]
      exact ⟨hk, rs_sh_W f l _ h⟩
    · rw [rs_sh_hi]
      rw [if_neg (by omega)] at h
      refine ⟨hk, ?_⟩
      rw [if_neg (by omega)]
      exact rs_sh_W f l _ h
theorem rs_sh_mem {f : Nat} : ∀ {l : List Nat} {t : Nat}, t ∈ rs_sh f l → (t < 100 ∧ t ∈ l) ∨ ∃ v, 100 + v ∈ l ∧ t = 100 + (6 * f + v)
  | [], t, h => absurd h (List.not_mem_nil)
  | s :: l, t, h => by
    rcases rs_tok s with hs | ⟨w, rfl⟩
    · rw [rs_sh_lo hs] at h
      rcases List.mem_cons.mp h with h | h
      · exact Or.inl ⟨by omega, by rw [h]; exact List.mem_cons_self ..⟩
      · rcases rs_sh_mem h with ⟨h1, h2⟩ | ⟨v, h1, h2⟩
        · exact Or.inl ⟨h1, List.mem_cons_of_mem _ h2⟩
        · exact Or.inr ⟨v, List.mem_cons_of_mem _ h1, h2⟩
    · rw [rs_sh_hi] at h
      rcases List.mem_cons.mp h with h | h
      · exact Or.inr ⟨w, List.mem_cons_self .., h⟩
      · rcases rs_sh_mem h with ⟨h1, h2⟩ | ⟨v, h1, h2⟩
        · exact Or.inl ⟨h1, List.mem_cons_of_mem _ h2⟩
        · exact Or.inr ⟨v, List.mem_cons_of_mem _ h1, h2⟩
/-- tokens of a substituted string -/
theorem rs_s_mem {θ : Nat → List Nat} : ∀ {l : List Nat} {t : Nat}, t ∈ rs_s θ l → (t < 100 ∧ t ∈ l) ∨ ∃ v, 100 + v ∈ l ∧ t ∈ θ v
  | [], t, h => absurd h (List.not_mem_nil)
  | s :: l, t, h => by
    rcases rs_tok s with hs | ⟨w, rfl⟩
    · rw [rs_s_lo hs] at h
      rcases List.mem_cons.mp h with h | h
      · exact Or.inl ⟨by omega, by rw [h]; exact List.mem_cons_self ..⟩
      · rcases rs_s_mem h with ⟨h1, h2⟩ | ⟨v, h1, h2⟩
        · exact Or.inl ⟨h1, List.mem_cons_of_mem _ h2⟩
        · exact Or.inr ⟨v, List.mem_cons_of_mem _ h1, h2⟩
    · rw [rs_s_hi] at h
      rcases List.mem_append.mp h with h | h
      · exact Or.inr ⟨w, List.mem_cons_self .., h⟩
      · rcases rs_s_mem h with ⟨h1, h2⟩ | ⟨v, h1, h2⟩
        · exact Or.inl ⟨h1, List.mem_cons_of_mem _ h2⟩
        · exact Or.inr ⟨v, List.mem_cons_of_mem _ h1, h2⟩
theorem rs_s_mem_of {θ : Nat → List Nat} : ∀ {l : List Nat} {t v : Nat}, 100 + v ∈ l → t ∈ θ v → t ∈ rs_s θ l
  | [], _, _, h, _ => absurd h (List.not_mem_nil)
  | s :: l, t, v, h, ht => by
    rcases List.mem_cons.mp h with h | h
    · subst h
      rw [rs_s_hi]
      exact List.mem_append_left _ ht
    · exact List.mem_append_right _ (rs_s_mem_of h ht)
/-! the semantic state: a set of valuations -/
/-- two strings have the same value throughout C -/
def rs_Same (C : (Nat → List Nat) → Prop) (A B : List Nat) : Prop := ∀ θ, rs_cp θ → C θ → rs_s θ A = rs_s θ B
/-- C has a member whose first n variables have at most ms tokens -/
def rs_Sat (ms n : Nat) (C : (Nat → List Nat) → Prop) : Prop := ∃ θ, rs_cp θ ∧ C θ ∧ ∀ v, v < n → (θ v).length ≤ ms
/-- s is a most general member of C -/
def rs_MG (C : (Nat → List Nat) → Prop) (s : Nat → List Nat) : Prop := rs_cp s ∧ C s ∧ ∀ θ, rs_cp θ → C θ → ∀ v, θ v = rs_s θ (s v)
theorem rs_MG_s {C : (Nat → List Nat) → Prop} {s θ : Nat → List Nat} (h : rs_MG C s) (hθ : rs_cp θ) (hC : C θ) (l : List Nat) : rs_s θ (rs_s s l) = rs_s θ l := by
  rw [rs_s_s]
  exact rs_s_congr l (fun v _ => (h.2.2 θ hθ hC v).symm)
theorem rs_MG_same {C : (Nat → List Nat) → Prop} {s : Nat → List Nat} (h : rs_MG C s) (A B : List Nat) : rs_Same C A B ↔ rs_s s A = rs_s s B := by
  constructor
  · intro hs
    exact hs s h.1 h.2.1
  · intro e θ hθ hC
    rw [← rs_MG_s h hθ hC A, ← rs_MG_s h hθ hC B, e]
theorem rs_MG_sat {C : (Nat → List Nat) → Prop} {s : Nat → List Nat} (h : rs_MG C s) (ms n : Nat) : rs_Sat ms n C ↔ ∀ v, v < n → (s v).length ≤ ms := by
  constructor
  · rintro ⟨θ, hθ, hC, hl⟩ v hv
    have h1 := rs_s_len hθ (s v)
    rw [← h.2.2 θ hθ hC v] at h1
    have := hl v hv
    omega
  · intro hl
    exact ⟨s, h.1, h.2.1, hl⟩
end
section
/-! the component's nodes: terms (kind, left, right, string; how many), links -/
abbrev rs_T : Type := (Nat → Nat) × (Nat → Nat) × (Nat → Nat) × (Nat → List Nat) × Nat
def rs_TX (T : rs_T) : Prop := ∀ t, t < 64 → (T.2.2.2.1 t).length ≤ 15 ∧
  ((T.1 t = 0 ∧ T.2.1 t < 16 ∧ T.2.2.2.1 t = [1 + T.2.1 t]) ∨ (T.1 t = 1 ∧ T.2.1 t < 6 ∧ T.2.2.2.1 t = [100 + T.2.1 t]) ∨ (T.1 t = 2 ∧ T.2.1 t < t ∧ T.2.2.1 t < t ∧ T.2.2.2.1 t = 0 :: (T.2.2.2.1 (T.2.1 t) ++ T.2.2.2.1 (T.2.2.1 t))))
/-- the string of a node -/
def rs_ns (T : rs_T) (n : Nat) : List Nat := if n < 704 then rs_sh (n / 64) (T.2.2.2.1 (n % 64)) else [100 + (n - 704)]
def rs_lf (T : rs_T) (n : Nat) : Nat := n - n % 64 + T.2.1 (n % 64)
def rs_rg (T : rs_T) (n : Nat) : Nat := n - n % 64 + T.2.2.1 (n % 64)
def rs_tkn (T : rs_T) (r : Nat) : Nat := if 704 ≤ r then 100 + (r - 704) else if T.1 (r % 64) = 2 then 0 else 1 + T.2.1 (r % 64)
def rs_kd (T : rs_T) (r : Nat) : List Nat := if r < 704 ∧ T.1 (r % 64) = 2 then [rs_lf T r, rs_rg T r] else []
def rs_nx (T : rs_T) (L : Nat → Option Nat) (n : Nat) : Option Nat :=
  match L n with
  | some m => some m
  | none => if n < 704 ∧ T.1 (n % 64) = 1 then some (704 + 6 * (n / 64) + T.2.1 (n % 64)) else none
def rs_fd (T : rs_T) (L : Nat → Option Nat) : Nat → Nat → Nat
  | 0, n => n
  | k + 1, n => match rs_nx T L n with
    | none => n
    | some m => rs_fd T L k m
def rs_rt (T : rs_T) (L : Nat → Option Nat) (n : Nat) : Nat := rs_fd T L 800 n
/-- a node of an open frame -/
def rs_op (T : rs_T) (nf n : Nat) : Prop := (n < 64 * nf ∧ n % 64 < T.2.2.2.2) ∨ (704 ≤ n ∧ n < 704 + 6 * nf)
def rs_cn (L : Nat → Option Nat) : Nat → Nat
  | 0 => 0
  | n + 1 => rs_cn L n + (if L n = none then 0 else 1)
def rs_LK (T : rs_T) (nf : Nat) (L : Nat → Option Nat) (tt : Nat) : Prop :=
  nf ≤ 11 ∧ (∀ n m, L n = some m → rs_op T nf n ∧ rs_op T nf m ∧ (n < 704 → T.1 (n % 64) = 2 ∧ m < 704 ∧ T.1 (m % 64) = 2)) ∧
  (∀ n, n < 770 → (n < 704 → T.1 (n % 64) ≠ 1) → rs_nx T L (rs_fd T L tt n) = none) ∧ rs_cn L 770 = tt
theorem rs_nx_link {T : rs_T} {L : Nat → Option Nat} {n m : Nat} (h : L n = some m) : rs_nx T L n = some m := by
  unfold rs_nx
  rw [h]
theorem rs_nx_slot {T : rs_T} {L : Nat → Option Nat} {n : Nat} (h : L n = none) (hn : n < 704) (hk : T.1 (n % 64) = 1) : rs_nx T L n = some (704 + 6 * (n / 64) + T.2.1 (n % 64)) := by
  unfold rs_nx
  rw [h]
  exact if_pos ⟨hn, hk⟩
theorem rs_nx_none {T : rs_T} {L : Nat → Option Nat} {n : Nat} (h : L n = none) (hk : 704 ≤ n ∨ T.1 (n % 64) ≠ 1) : rs_nx T L n = none := by
  unfold rs_nx
  rw [h]
  exact if_neg (by intro z; omega)
/-- what no next node means -/
theorem rs_nx_inv {T : rs_T} {L : Nat → Option Nat} {n : Nat} (h : rs_nx T L n = none) : L n = none ∧ (704 ≤ n ∨ T.1 (n % 64) ≠ 1) := by
  cases hL : L n with
  | some m => rw [rs_nx_link hL] at h; exact absurd h (by simp)
  | none =>
    refine ⟨rfl, ?_⟩
    by_cases h1 : 704 ≤ n
    · exact Or.inl h1
    · refine Or.inr (fun hk => ?_)
      rw [rs_nx_slot hL (by omega) hk] at h
      exact absurd h (by simp)
theorem rs_nx_some {T : rs_T} {L : Nat → Option Nat} {n m : Nat} (h : rs_nx T L n = some m) : L n = some m ∨ (L n = none ∧ n < 704 ∧ T.1 (n % 64) = 1 ∧ m = 704 + 6 * (n / 64) + T.2.1 (n % 64)) := by
  cases hL : L n with
  | some k => rw [rs_nx_link hL] at h; exact Or.inl h
  | none =>
    by_cases h1 : n < 704 ∧ T.1 (n % 64) = 1
    · rw [rs_nx_slot hL h1.1 h1.2] at h
      exact Or.inr ⟨rfl, h1.1, h1.2, by injection h with h; exact h.symm⟩
    · rw [rs_nx_none hL (by omega)] at h
      exact absurd h (by simp)
theorem rs_op_lt {T : rs_T} {nf n : Nat} (hf : nf ≤ 11) (h : rs_op T nf n) : n < 770 := by
  rcases h with h | h <;> omega
theorem rs_nx_op {T : rs_T} {nf tt : Nat} {L : Nat → Option Nat} {n m : Nat} (hT : rs_TX T) (hL : rs_LK T nf L tt) (hn : rs_op T nf n) (h : rs_nx T L n = some m) : rs_op T nf m := by
  rcases rs_nx_some h with h | ⟨_, h1, h2, h3⟩
  · exact (hL.2.1 n m h).2.1
  · have hf := hL.1
    rcases (hT (n % 64) (by omega)).2 with ⟨h4, _⟩ | ⟨_, h5, _⟩ | ⟨h4, _⟩
    · omega
    · right
      rcases hn with ⟨hn, _⟩ | hn
      · have : n / 64 < nf := by omega
        omega
      · omega
    · omega
theorem rs_nx_lt {T : rs_T} {nf tt : Nat} {L : Nat → Option Nat} {n m : Nat} (hT : rs_TX T) (hL : rs_LK T nf L tt) (hn : n < 770) (h : rs_nx T L n = some m) : m < 770 := by
  rcases rs_nx_some h with h | ⟨_, h1, h2, h3⟩
  · exact rs_op_lt hL.1 (hL.2.1 n m h).2.1
  · rcases (hT (n % 64) (by omega)).2 with ⟨h4, _⟩ | ⟨_, h5, _⟩ | ⟨h4, _⟩
    · omega
    · have : n / 64 < 11 := by omega
      omega
    · omega
theorem rs_fd_stop {T : rs_T} {L : Nat → Option Nat} {n : Nat} (h : rs_nx T L n = none) : ∀ k, rs_fd T L k n = n
  | 0 => rfl
  | k + 1 => by
    show (match rs_nx T L n with
      | none => n
      | some m => rs_fd T L k m) = n
    rw [h]
theorem rs_fd_s {T : rs_T} {L : Nat → Option Nat} {n m : Nat} (h : rs_nx T L n = some m) (k : Nat) : rs_fd T L (k + 1) n = rs_fd T L k m := by
  show (match rs_nx T L n with
    | none => n
    | some m => rs_fd T L k m) = rs_fd T L k m
  rw [h]
theorem rs_fd_more {T : rs_T} {L : Nat → Option Nat} : ∀ (k d n : Nat), rs_nx T L (rs_fd T L k n) = none → rs_fd T L (k + d) n = rs_fd T L k n
  | 0, d, n, h => by rw [Nat.zero_add]; exact rs_fd_stop h d
  | k + 1, d, n, h => by
    cases e : rs_nx T L n with
    | none => rw [rs_fd_stop e, rs_fd_stop e]
    | some m =>
      rw [show k + 1 + d = (k + d) + 1 by omega, rs_fd_s e, rs_fd_s e]
      rw [rs_fd_s e] at h
      exact rs_fd_more k d m h
theorem rs_cn_le (L : Nat → Option Nat) : ∀ N, rs_cn L N ≤ N
  | 0 => Nat.le_refl _
  | N + 1 => by
    have := rs_cn_le L N
    show rs_cn L N + (if L N = none then 0 else 1) ≤ N + 1
    split <;> omega
theorem rs_LK_tt {T : rs_T} {nf tt : Nat} {L : Nat → Option Nat} (hL : rs_LK T nf L tt) : tt ≤ 770 := by
  have := rs_cn_le L 770
  have := hL.2.2.2
  omega
theorem rs_LK_root {T : rs_T} {nf tt : Nat} {L : Nat → Option Nat} (hT : rs_TX T) (hL : rs_LK T nf L tt) {n : Nat} (hn : n < 770) : rs_nx T L (rs_fd T L (tt + 1) n) = none := by
  by_cases h : n < 704 ∧ T.1 (n % 64) = 1
  · cases e : rs_nx T L n with
    | none => rw [rs_fd_stop e]; exact e
    | some m =>
      rw [rs_fd_s e]
      have hm := rs_nx_lt hT hL hn e
      refine hL.2.2.1 m hm (fun h7 => ?_)
      rcases rs_nx_some e with e | ⟨_, _, _, e⟩
      · have := ((hL.2.1 n m e).2.2 h.1).1
        omega
      · omega
  · have h1 := hL.2.2.1 n hn (by intro z z2; exact h ⟨z, z2⟩)
    rw [rs_fd_more tt 1 n h1]
    exact h1
theorem rs_rt_eq {T : rs_T} {nf tt : Nat} {L : Nat → Option Nat} (hT : rs_TX T) (hL : rs_LK T nf L tt) {n : Nat} (hn : n < 770) : rs_rt T L n = rs_fd T L (tt + 1) n := by
  have := rs_LK_tt hL
  have h := rs_fd_more (tt + 1) (799 - tt) n (rs_LK_root hT hL hn)
  rw [show tt + 1 + (799 - tt) = 800 by omega] at h
  exact h
theorem rs_rt_root {T : rs_T} {nf tt : Nat} {L : Nat → Option Nat} (hT : rs_TX T) (hL : rs_LK T nf L tt) {n : Nat} (hn : n < 770) : rs_nx T L (rs_rt T L n) = none := by
  rw [rs_rt_eq hT hL hn]
  exact rs_LK_root hT hL hn
theorem rs_rt_stop {T : rs_T} {L : Nat → Option Nat} {n : Nat} (h : rs_nx T L n = none) : rs_rt T L n = n := rs_fd_stop h 800
theorem rs_rt_nx {T : rs_T} {nf tt : Nat} {L : Nat → Option Nat} (hT : rs_TX T) (hL : rs_LK T nf L tt) {n m : Nat} (hn : n < 770) (h : rs_nx T L n = some m) : rs_rt T L n = rs_rt T L m := by
  have := rs_LK_tt hL
  have hm := rs_nx_lt hT hL hn h
  rw [rs_rt_eq hT hL hm]
  show rs_fd T L (799 + 1) n = _
  rw [rs_fd_s h]
  have := rs_fd_more (tt + 1) (798 - tt) m (rs_LK_root hT hL hm)
  rw [show tt + 1 + (798 - tt) = 799 by omega] at this
  exact this
theorem rs_fd_ind {T : rs_T} {L : Nat → Option Nat} (P : Nat → Prop) (hs : ∀ n m, P n → rs_nx T L n = some m → P m) : ∀ k n, P n → P (rs_fd T L k n)
  | 0, _, h => h
  | k + 1, n, h => by
    cases e : rs_nx T L n with
    | none => rw [rs_fd_stop e]; exact h
    | some m => rw [rs_fd_s e]; exact rs_fd_ind P hs k m (hs n m h e)
theorem rs_rt_op {T : rs_T} {nf tt : Nat} {L : Nat → Option Nat} (hT : rs_TX T) (hL : rs_LK T nf L tt) {n : Nat} (hn : rs_op T nf n) : rs_op T nf (rs_rt T L n) :=
  rs_fd_ind (rs_op T nf) (fun _ _ h e => rs_nx_op hT hL h e) 800 n hn
theorem rs_rt_lt {T : rs_T} {nf tt : Nat} {L : Nat → Option Nat} (hT : rs_TX T) (hL : rs_LK T nf L tt) {n : Nat} (hn : n < 770) : rs_rt T L n < 770 :=
  rs_fd_ind (· < 770) (fun _ _ h e => rs_nx_lt hT hL h e) 800 n hn
/-! strings of nodes -/
theorem rs_TX_W {T : rs_T} (hT : rs_TX T) : ∀ k t, t < k → t < 64 → rs_W 1 (T.2.2.2.1 t)
  | 0, _, h, _ => absurd h (by omega)
  | k + 1, t, h, h64 => by
    rcases (hT t h64).2 with ⟨_, _, e⟩ | ⟨_, _, e⟩ | ⟨_, h1, h2, e⟩
    · rw [e]; exact rs_W_one (by omega)
    · rw [e]; exact rs_W_one (by omega)
    · rw [e]; exact rs_W_pair (rs_TX_W hT k _ (by omega) (by omega)) (rs_TX_W hT k _ (by omega) (by omega))
theorem rs_ns_W {T : rs_T} (hT : rs_TX T) (n : Nat) : rs_W 1 (rs_ns T n) := by
  unfold rs_ns
  split
  · exact rs_sh_W _ _ _ (rs_TX_W hT 64 _ (by omega) (by omega))
  · exact rs_W_one (by omega)
theorem rs_ns_var {T : rs_T} (v : Nat) : rs_ns T (704 + v) = [100 + v] := by
  unfold rs_ns
  rw [if_neg (by omega), Nat.add_sub_cancel_left]
theorem rs_ns_sym {T : rs_T} (hT : rs_TX T) {n : Nat} (hn : n < 704) (hk : T.1 (n % 64) = 0) : rs_ns T n = [1 + T.2.1 (n % 64)] ∧ T.2.1 (n % 64) < 16 := by
  unfold rs_ns
  rw [if_pos hn]
  rcases (hT (n % 64) (by omega)).2 with ⟨_, h2, e⟩ | ⟨h1, _, e⟩ | ⟨h1, _, _, e⟩
  · rw [e, rs_sh_lo (by omega)]; exact ⟨rfl, h2⟩
  · omega
  · omega
theorem rs_ns_slot {T : rs_T} (hT : rs_TX T) {n : Nat} (hn : n < 704) (hk : T.1 (n % 64) = 1) : rs_ns T n = [100 + (6 * (n / 64) + T.2.1 (n % 64))] ∧ T.2.1 (n % 64) < 6 := by
  unfold rs_ns
  rw [if_pos hn]
  rcases (hT (n % 64) (by omega)).2 with ⟨h1, h2, e⟩ | ⟨h1, h2, e⟩ | ⟨h1, _, _, e⟩
  · omega
  · rw [e, rs_sh_hi]; exact ⟨rfl, h2⟩
  · omega
theorem rs_lf_in {T : rs_T} (hT : rs_TX T) {n : Nat} (hn : n < 704) (hk : T.1 (n % 64) = 2) : rs_lf T n < 704 ∧ rs_rg T n < 704 ∧ rs_lf T n / 64 = n / 64 ∧ rs_rg T n / 64 = n / 64 ∧ rs_lf T n % 64 = T.2.1 (n % 64) ∧ rs_rg T n % 64 = T.2.2.1 (n % 64) ∧ T.2.1 (n % 64) < n % 64 ∧ T.2.2.1 (n % 64) < n % 64 := by
  unfold rs_lf rs_rg
  rcases (hT (n % 64) (by omega)).2 with ⟨h1, h2, e⟩ | ⟨h1, h2, e⟩ | ⟨h1, h2, h3, e⟩
  · omega
  · omega
  · omega
theorem rs_ns_pair {T : rs_T} (hT : rs_TX T) {n : Nat} (hn : n < 704) (hk : T.1 (n % 64) = 2) : rs_ns T n = 0 :: (rs_ns T (rs_lf T n) ++ rs_ns T (rs_rg T n)) := by
  obtain ⟨h1, h2, h3, h4, h5, h6, _, _⟩ := rs_lf_in hT hn hk
  unfold rs_ns
  rw [if_pos hn, if_pos h1, if_pos h2, h3, h4, h5, h6]
  rcases (hT (n % 64) (by omega)).2 with ⟨h1, h2, e⟩ | ⟨h1, h2, e⟩ | ⟨h1, h2, h3, e⟩
  · omega
  · omega
  · rw [e, rs_sh_lo (by omega), rs_sh_app]
theorem rs_lf_op {T : rs_T} (hT : rs_TX T) {nf n : Nat} (hf : nf ≤ 11) (hn : n < 704) (hk : T.1 (n % 64) = 2) (h : rs_op T nf n) : rs_op T nf (rs_lf T n) ∧ rs_op T nf (rs_rg T n) := by
  obtain ⟨h1, h2, h3, h4, h5, h6, _, _⟩ := rs_lf_in hT hn hk
  rcases h with ⟨h, h'⟩ | h
  · have : n / 64 < nf := by omega
    exact ⟨Or.inl ⟨by omega, by omega⟩, Or.inl ⟨by omega, by omega⟩⟩
  · omega
/-- the string of a root by its token and parts -/
theorem rs_ns_root {T : rs_T} (hT : rs_TX T) {L : Nat → Option Nat} {r : Nat} (h : rs_nx T L r = none) : rs_ns T r = rs_tkn T r :: (rs_kd T r).flatMap (rs_ns T) := by
  unfold rs_tkn rs_kd
  by_cases h7 : 704 ≤ r
  · rw [if_pos h7, if_neg (by omega)]
    have := rs_ns_var (T := T) (r - 704)
    rw [show 704 + (r - 704) = r by omega] at this
    rw [this]; rfl
  · rw [if_neg h7]
    by_cases hk : T.1 (r % 64) = 2
    · rw [if_pos hk, if_pos ⟨by omega, hk⟩, rs_ns_pair hT (by omega) hk]
      rw [List.flatMap_cons, List.flatMap_cons, List.flatMap_nil, List.append_nil]
    · rw [if_neg hk, if_neg (by omega)]
      have := (rs_nx_inv h).2
      have h0 : T.1 (r % 64) = 0 := by
        rcases (hT (r % 64) (by omega)).2 with ⟨h1, _⟩ | ⟨h1, _⟩ | ⟨h1, _⟩ <;> omega
      rw [(rs_ns_sym hT (by omega) h0).1]; rfl
theorem rs_kd_lt {T : rs_T} (hT : rs_TX T) {r n : Nat} (h : n ∈ rs_kd T r) : n < 770 := by
  unfold rs_kd at h
  split at h
  · next hr =>
    obtain ⟨h1, h2, _⟩ := rs_lf_in hT hr.1 hr.2
    rcases List.mem_cons.mp h with h | h
    · omega
    · rw [List.mem_singleton] at h; omega
  · exact absurd h (List.not_mem_nil)
/-! models of the links -/
def rs_EQ (T : rs_T) (θ : Nat → List Nat) (a b : Nat) : Prop := rs_s θ (rs_ns T a) = rs_s θ (rs_ns T b)
def rs_M (T : rs_T) (L : Nat → Option Nat) (θ : Nat → List Nat) : Prop := ∀ n m, L n = some m → rs_EQ T θ n m
theorem rs_M_nx {T : rs_T} (hT : rs_TX T) {L : Nat → Option Nat} {θ : Nat → List Nat} (h : rs_M T L θ) {n m : Nat} (e : rs_nx T L n = some m) : rs_EQ T θ n m := by
  rcases rs_nx_some e with e | ⟨_, h1, h2, h3⟩
  · exact h n m e
  · unfold rs_EQ
    rw [h3, (rs_ns_slot hT h1 h2).1, Nat.add_assoc, rs_ns_var]
theorem rs_M_rt {T : rs_T} (hT : rs_TX T) {L : Nat → Option Nat} {θ : Nat → List Nat} (h : rs_M T L θ) (n : Nat) : rs_EQ T θ n (rs_rt T L n) :=
  rs_fd_ind (fun m => rs_EQ T θ n m) (fun _ _ h1 e => Eq.trans h1 (rs_M_nx hT h e)) 800 n rfl
/-! the preorder walk over the links -/
def rs_WK (T : rs_T) (L : Nat → Option Nat) : List Nat → List Nat → Prop
  | st, [] => st = []
  | st, a :: l => ∃ n st', st = n :: st' ∧ a = rs_tkn T (rs_rt T L n) ∧ rs_WK T L (rs_kd T (rs_rt T L n) ++ st') l
theorem rs_WK_det {T : rs_T} {L : Nat → Option Nat} : ∀ (l l' st : List Nat), rs_WK T L st l → rs_WK T L st l' → l = l'
  | [], [], _, _, _ => rfl
  | [], _ :: _, st, h, h' => by
    have h0 : st = [] := h
    obtain ⟨n, st', e, _⟩ := h'
    rw [h0] at e
    exact absurd e (by simp)
  | _ :: _, [], st, h', h => by
    have h0 : st = [] := h
    obtain ⟨n, st', e, _⟩ := h'
    rw [h0] at e
    exact absurd e (by simp)
  | a :: l, b :: l', st, h, h' => by
    obtain ⟨n, st1, e, e1, e2⟩ := h
    obtain ⟨n', st2, e', e1', e2'⟩ := h'
    rw [e] at e'
    injection e' with e3 e4
    subst e3 e4
    rw [e1, e1', rs_WK_det l l' _ e2 e2']
theorem rs_WK_app {T : rs_T} {L : Nat → Option Nat} {s2 l2 : List Nat} (h2 : rs_WK T L s2 l2) : ∀ (l1 s1 : List Nat), rs_WK T L s1 l1 → rs_WK T L (s1 ++ s2) (l1 ++ l2)
  | [], s1, h => by
    have h0 : s1 = [] := h
    rw [h0]; exact h2
  | a :: l1, s1, h => by
    obtain ⟨n, st1, e, e1, e2⟩ := h
    rw [e]
    refine ⟨n, st1 ++ s2, rfl, e1, ?_⟩
    rw [← List.append_assoc]
    exact rs_WK_app h2 l1 _ e2
theorem rs_WK_split {T : rs_T} {L : Nat → Option Nat} : ∀ (l s1 s2 : List Nat), rs_WK T L (s1 ++ s2) l → ∃ l1 l2, l = l1 ++ l2 ∧ rs_WK T L s1 l1 ∧ rs_WK T L s2 l2
  | l, [], s2, h => ⟨[], l, rfl, rfl, h⟩
  | [], n :: s1, s2, h => absurd (show (n :: s1) ++ s2 = [] from h) (by simp)
  | a :: l, n :: s1, s2, h => by
    obtain ⟨n', st1, e, e1, e2⟩ := h
    rw [List.cons_append] at e
    injection e with e3 e4
    subst e3 e4
    rw [← List.append_assoc] at e2
    obtain ⟨l1, l2, q1, q2, q3⟩ := rs_WK_split l _ s2 e2
    exact ⟨a :: l1, l2, by rw [q1]; rfl, ⟨n, s1, rfl, e1, q2⟩, q3⟩
theorem rs_tkn_kd (T : rs_T) (r : Nat) : (rs_tkn T r = 0 ∧ (rs_kd T r).length = 2) ∨ (rs_tkn T r ≠ 0 ∧ rs_kd T r = []) := by
  unfold rs_tkn rs_kd
  by_cases h7 : 704 ≤ r
  · rw [if_pos h7, if_neg (by omega)]
    exact Or.inr ⟨by omega, rfl⟩
  · rw [if_neg h7]
    by_cases hk : T.1 (r % 64) = 2
    · rw [if_pos hk, if_pos ⟨by omega, hk⟩]
      exact Or.inl ⟨rfl, rfl⟩
    · rw [if_neg hk, if_neg (by omega)]
      exact Or.inr ⟨by omega, rfl⟩
theorem rs_WK_W {T : rs_T} {L : Nat → Option Nat} : ∀ (l st : List Nat), rs_WK T L st l → rs_W st.length l
  | [], st, h => by
    have h0 : st = [] := h
    rw [h0]; rfl
  | a :: l, st, h => by
    obtain ⟨n, st1, e, e1, e2⟩ := h
    have ih := rs_WK_W l _ e2
    rw [List.length_append] at ih
    rw [e, List.length_cons]
    refine ⟨by omega, ?_⟩
    rcases rs_tkn_kd T (rs_rt T L n) with ⟨h1, h2⟩ | ⟨h1, h2⟩
    · rw [if_pos (by rw [e1, h1])]
      rw [h2] at ih
      rwa [show st1.length + 1 + 1 = 2 + st1.length by omega]
    · rw [if_neg (by rw [e1]; exact h1)]
      rw [h2] at ih
      rwa [show st1.length + 1 - 1 = ([] : List Nat).length + st1.length by rw [List.length_nil]; omega]
theorem rs_WK_M {T : rs_T} (hT : rs_TX T) {nf tt : Nat} {L : Nat → Option Nat} (hL : rs_LK T nf L tt) {θ : Nat → List Nat} (h : rs_M T L θ) : ∀ (l st : List Nat), (∀ n, n ∈ st → n < 770) → rs_WK T L st l → rs_s θ (st.flatMap (rs_ns T)) = rs_s θ l
  | [], st, _, hw => by
    have h0 : st = [] := hw
    rw [h0]; rfl
  | a :: l, st, hn, hw => by
    obtain ⟨n, st1, e, e1, e2⟩ := hw
    subst e
    have hn0 := hn n (List.mem_cons_self ..)
    have hr := rs_rt_root hT hL hn0
    have ih := rs_WK_M hT hL h l _ (by
      intro k hk
      rcases List.mem_append.mp hk with hk | hk
      · exact rs_kd_lt hT hk
      · exact hn k (List.mem_cons_of_mem _ hk)) e2
    rw [List.flatMap_cons, rs_s_app, show rs_s θ (rs_ns T n) = rs_s θ (rs_ns T (rs_rt T L n)) from rs_M_rt hT h n, ← rs_s_app, rs_ns_root hT hr, ← e1]
    rw [List.flatMap_append] at ih
    show (if a < 100 then [a] else θ (a - 100)) ++ rs_s θ (_ ++ _) = (if a < 100 then [a] else θ (a - 100)) ++ rs_s θ l
    rw [ih]
theorem rs_WK_ex {T : rs_T} (hT : rs_TX T) {nf tt : Nat} {L : Nat → Option Nat} (hL : rs_LK T nf L tt) {θ : Nat → List Nat} (hθ : rs_cp θ) (h : rs_M T L θ) : ∀ (k : Nat) (st : List Nat), (∀ n, n ∈ st → n < 770) → (rs_s θ (st.flatMap (rs_ns T))).length ≤ k → ∃ l, rs_WK T L st l ∧ l.length ≤ (rs_s θ (st.flatMap (rs_ns T))).length
  | k, [], _, _ => ⟨[], rfl, Nat.zero_le _⟩
  | k, n :: st, hn, hk => by
    have hn0 := hn n (List.mem_cons_self ..)
    have hr := rs_rt_root hT hL hn0
    have e : rs_s θ ((n :: st).flatMap (rs_ns T)) = rs_s θ (rs_tkn T (rs_rt T L n) :: ((rs_kd T (rs_rt T L n) ++ st).flatMap (rs_ns T))) := by
      rw [List.flatMap_cons, rs_s_app, show rs_s θ (rs_ns T n) = rs_s θ (rs_ns T (rs_rt T L n)) from rs_M_rt hT h n, ← rs_s_app, rs_ns_root hT hr, List.flatMap_append]
      rfl
    have e2 : (rs_s θ ((rs_kd T (rs_rt T L n) ++ st).flatMap (rs_ns T))).length + 1 ≤ (rs_s θ ((n :: st).flatMap (rs_ns T))).length := by
      rw [e]
      rcases rs_tok (rs_tkn T (rs_rt T L n)) with ht | ⟨v, hv⟩
      · rw [rs_s_lo ht, List.length_cons]; omega
      · rw [hv, rs_s_hi, List.length_append]
        have := rs_cp_pos hθ v
        omega
    cases k with
    | zero => omega
    | succ k =>
      obtain ⟨l, h1, h2⟩ := rs_WK_ex hT hL hθ h k (rs_kd T (rs_rt T L n) ++ st) (by
        intro j hj
        rcases List.mem_append.mp hj with hj | hj
        · exact rs_kd_lt hT hj
        · exact hn j (List.mem_cons_of_mem _ hj)) (by omega)
      exact ⟨rs_tkn T (rs_rt T L n) :: l, ⟨n, st, rfl, rfl, h1⟩, by rw [List.length_cons]; omega⟩
theorem rs_WK_rt {T : rs_T} {L : Nat → Option Nat} {n m : Nat} (e : rs_rt T L n = rs_rt T L m) {l : List Nat} (h : rs_WK T L [n] l) : rs_WK T L [m] l := by
  cases l with
  | nil => exact absurd (show [n] = [] from h) (by simp)
  | cons a l =>
    obtain ⟨n', st1, e0, e1, e2⟩ := h
    injection e0 with e3 e4
    subst e3 e4
    exact ⟨m, [], rfl, by rw [← e]; exact e1, by rw [← e]; exact e2⟩
end
section
/-! the closure of the links under parts, binding, the steps of merging -/
def rs_CC (T : rs_T) (L : Nat → Option Nat) (S : List (Nat × Nat)) : Prop := ∀ R : Nat → Nat → Prop, (∀ a, R a a) → (∀ a b, R a b → R b a) → (∀ a b c, R a b → R b c → R a c) → (∀ n m, n < 770 → rs_nx T L n = some m → R n m) →
  (∀ a b, a < 704 → b < 704 → a % 64 < T.2.2.2.2 → b % 64 < T.2.2.2.2 → T.1 (a % 64) = 0 → T.1 (b % 64) = 0 → T.2.1 (a % 64) = T.2.1 (b % 64) → R a b) → (∀ p, p ∈ S → R p.1 p.2) → ∀ n m, n < 704 → L n = some m → R (rs_lf T n) (rs_lf T m) ∧ R (rs_rg T n) (rs_rg T m)
theorem rs_R_rt {T : rs_T} {nf tt : Nat} {L : Nat → Option Nat} (hT : rs_TX T) (hL : rs_LK T nf L tt) {R : Nat → Nat → Prop} (h1 : ∀ a, R a a) (h3 : ∀ a b c, R a b → R b c → R a c) (h4 : ∀ n m, n < 770 → rs_nx T L n = some m → R n m) {n : Nat} (hn : n < 770) : R n (rs_rt T L n) :=
  (rs_fd_ind (fun m => m < 770 ∧ R n m) (fun a b h e => ⟨rs_nx_lt hT hL h.1 e, h3 _ _ _ h.2 (h4 a b h.1 e)⟩) 800 n ⟨hn, h1 n⟩).2
def rs_up (L : Nat → Option Nat) (a b : Nat) : Nat → Option Nat := fun n => if n = a then some b else L n
theorem rs_up_s {L : Nat → Option Nat} {a b : Nat} : rs_up L a b a = some b := if_pos rfl
theorem rs_up_n {L : Nat → Option Nat} {a b n : Nat} (h : n ≠ a) : rs_up L a b n = L n := if_neg h
theorem rs_nx_up_n {T : rs_T} {L : Nat → Option Nat} {a b n : Nat} (h : n ≠ a) : rs_nx T (rs_up L a b) n = rs_nx T L n := by
  unfold rs_nx
  rw [rs_up_n h]
theorem rs_nx_up_s {T : rs_T} {L : Nat → Option Nat} {a b : Nat} : rs_nx T (rs_up L a b) a = some b := rs_nx_link rs_up_s
theorem rs_cn_up {L : Nat → Option Nat} {a b : Nat} (ha : L a = none) : ∀ N, rs_cn (rs_up L a b) N = rs_cn L N + (if a < N then 1 else 0)
  | 0 => by rw [if_neg (by omega)]; rfl
  | N + 1 => by
    show rs_cn (rs_up L a b) N + (if rs_up L a b N = none then 0 else 1) = rs_cn L N + (if L N = none then 0 else 1) + (if a < N + 1 then 1 else 0)
    rw [rs_cn_up ha N]
    by_cases h : N = a
    · subst h
      rw [rs_up_s, ha, if_neg (by omega), if_neg (by simp), if_pos rfl, if_pos (by omega)]
    · rw [rs_up_n h]
      by_cases h2 : a < N
      · rw [if_pos h2, if_pos (show a < N + 1 by omega)]; omega
      · rw [if_neg h2, if_neg (show ¬ a < N + 1 by omega)]; omega
/-- one more step finds the root behind the new link -/
theorem rs_fd_up {T : rs_T} {L : Nat → Option Nat} {a b : Nat} (hab : a ≠ b) (ha : rs_nx T L a = none) (hb : rs_nx T L b = none) : ∀ k n, rs_nx T L (rs_fd T L k n) = none → rs_fd T (rs_up L a b) (k + 1) n = if rs_fd T L k n = a then b else rs_fd T L k n
  | k, n, h => by
    have hb' : rs_nx T (rs_up L a b) b = none := by rw [rs_nx_up_n (fun z => hab z.symm)]; exact hb
    cases e : rs_nx T L n with
    | none =>
      rw [rs_fd_stop e]
      by_cases hn : n = a
      · subst hn
        rw [rs_fd_s rs_nx_up_s, rs_fd_stop hb', if_pos rfl]
      · rw [if_neg hn, rs_fd_stop]
        rw [rs_nx_up_n hn]; exact e
    | some m =>
      have hn : n ≠ a := by
        intro z
        rw [z, ha] at e
        exact absurd e (by simp)
      cases k with
      | zero =>
        have : rs_fd T L 0 n = n := rfl
        rw [this] at h
        rw [h] at e
        exact absurd e (by simp)
      | succ k =>
        rw [rs_fd_s e] at h
        rw [rs_fd_s (show rs_nx T (rs_up L a b) n = some m by rw [rs_nx_up_n hn]; exact e), rs_fd_s e]
        exact rs_fd_up hab ha hb k m h
theorem rs_LK_up {T : rs_T} {nf tt : Nat} {L : Nat → Option Nat} (hL : rs_LK T nf L tt) {a b : Nat} (hab : a ≠ b) (ha : rs_nx T L a = none) (hb : rs_nx T L b = none) (oa : rs_op T nf a) (ob : rs_op T nf b) (hp : a < 704 → T.1 (a % 64) = 2 ∧ b < 704 ∧ T.1 (b % 64) = 2) : rs_LK T nf (rs_up L a b) (tt + 1) := by
  have hf := hL.1
  have h7 := rs_op_lt hf oa
  refine ⟨hf, ?_, ?_, ?_⟩
  · intro n m h
    by_cases e : n = a
    · subst e
      rw [rs_up_s] at h
      injection h with h
      subst h
      exact ⟨oa, ob, hp⟩
    · rw [rs_up_n e] at h
      exact hL.2.1 n m h
  · intro n hn hs
    have h := hL.2.2.1 n hn hs
    rw [rs_fd_up hab ha hb _ _ h]
    by_cases e : rs_fd T L tt n = a
    · rw [if_pos e, rs_nx_up_n (fun z => hab z.symm)]; exact hb
    · rw [if_neg e, rs_nx_up_n e]; exact h
  · rw [rs_cn_up (rs_nx_inv ha).1, if_pos h7, hL.2.2.2]
theorem rs_rt_up {T : rs_T} {nf tt : Nat} {L : Nat → Option Nat} (hT : rs_TX T) (hL : rs_LK T nf L tt) {a b : Nat} (hab : a ≠ b) (ha : rs_nx T L a = none) (hb : rs_nx T L b = none) (oa : rs_op T nf a) (ob : rs_op T nf b) (hp : a < 704 → T.1 (a % 64) = 2 ∧ b < 704 ∧ T.1 (b % 64) = 2) {n : Nat} (hn : n < 770) : rs_rt T (rs_up L a b) n = if rs_rt T L n = a then b else rs_rt T L n := by
  rw [rs_rt_eq hT (rs_LK_up hL hab ha hb oa ob hp) hn, rs_rt_eq hT hL hn]
  exact rs_fd_up hab ha hb _ _ (rs_LK_root hT hL hn)
theorem rs_M_up {T : rs_T} {L : Nat → Option Nat} {a b : Nat} (ha : L a = none) (θ : Nat → List Nat) : rs_M T (rs_up L a b) θ ↔ (rs_M T L θ ∧ rs_EQ T θ a b) := by
  constructor
  · intro h
    refine ⟨fun n m e => ?_, h a b rs_up_s⟩
    refine h n m ?_
    rw [rs_up_n]
    · exact e
    · intro z
      rw [z, ha] at e
      exact absurd e (by simp)
  · rintro ⟨h1, h2⟩ n m e
    by_cases z : n = a
    · subst z
      rw [rs_up_s] at e
      injection e with e
      subst e
      exact h2
    · rw [rs_up_n z] at e
      exact h1 n m e
/-- a relation that respects the longer links respects the shorter ones -/
theorem rs_nx_of_up {T : rs_T} {L : Nat → Option Nat} {a b : Nat} (ha : rs_nx T L a = none) {n m : Nat} (e : rs_nx T L n = some m) : rs_nx T (rs_up L a b) n = some m := by
  rw [rs_nx_up_n]
  · exact e
  · intro z
    rw [z, ha] at e
    exact absurd e (by simp)
/-! merging -/
def rs_MI (T : rs_T) (nf : Nat) (E : (Nat → List Nat) → Prop) (L : Nat → Option Nat) (tt : Nat) (S : List (Nat × Nat)) : Prop :=
  rs_LK T nf L tt ∧ rs_CC T L S ∧ (∀ p, p ∈ S → rs_op T nf p.1 ∧ rs_op T nf p.2) ∧ ∀ θ, rs_cp θ → ((rs_M T L θ ∧ ∀ p, p ∈ S → rs_EQ T θ p.1 p.2) ↔ E θ)
section
variable {T : rs_T} {nf tt : Nat} {E : (Nat → List Nat) → Prop} {L : Nat → Option Nat} {S : List (Nat × Nat)} {p q a b : Nat}
theorem rs_mem_c {α : Type} {P : α → Prop} {x : α} {S : List α} (hx : P x) (h : ∀ y, y ∈ S → P y) : ∀ y, y ∈ x :: S → P y := by
  intro y hy
  rcases List.mem_cons.mp hy with e | e
  · rw [e]; exact hx
  · exact h y e
/-- the popped pair's roots are already one -/
theorem rs_MI_skip (hT : rs_TX T) (h : rs_MI T nf E L tt ((p, q) :: S)) (hR : ∀ R : Nat → Nat → Prop, (∀ a, R a a) → (∀ a b, R a b → R b a) → (∀ a b c, R a b → R b c → R a c) → (∀ n m, n < 770 → rs_nx T L n = some m → R n m) →
  (∀ a b, a < 704 → b < 704 → a % 64 < T.2.2.2.2 → b % 64 < T.2.2.2.2 → T.1 (a % 64) = 0 → T.1 (b % 64) = 0 → T.2.1 (a % 64) = T.2.1 (b % 64) → R a b) → R p q) (hE : ∀ θ, rs_M T L θ → rs_EQ T θ p q) : rs_MI T nf E L tt S := by
  obtain ⟨h1, h2, h3, h4⟩ := h
  refine ⟨h1, ?_, fun y hy => h3 y (List.mem_cons_of_mem _ hy), ?_⟩
  · intro R r1 r2 r3 r4 r5 r6
    exact h2 R r1 r2 r3 r4 r5 (rs_mem_c (hR R r1 r2 r3 r4 r5) r6)
  · intro θ hθ
    rw [← h4 θ hθ]
    constructor
    · rintro ⟨m1, m2⟩
      exact ⟨m1, rs_mem_c (hE θ m1) m2⟩
    · rintro ⟨m1, m2⟩
      exact ⟨m1, fun y hy => m2 y (List.mem_cons_of_mem _ hy)⟩
theorem rs_MI_same (hT : rs_TX T) (h : rs_MI T nf E L tt ((p, q) :: S)) (e : rs_rt T L p = rs_rt T L q) : rs_MI T nf E L tt S := by
  have hL := h.1
  obtain ⟨op, oq⟩ := h.2.2.1 (p, q) (List.mem_cons_self ..)
  have lp := rs_op_lt hL.1 op
  have lq := rs_op_lt hL.1 oq
  refine rs_MI_skip hT h ?_ ?_
  · intro R r1 r2 r3 r4 _
    have e1 := rs_R_rt hT hL r1 r3 r4 lp
    have e2 := rs_R_rt hT hL r1 r3 r4 lq
    rw [← e] at e2
    exact r3 _ _ _ e1 (r2 _ _ e2)
  · intro θ m
    have e1 := rs_M_rt hT m p
    have e2 := rs_M_rt hT m q
    rw [← e] at e2
    exact Eq.trans e1 (Eq.symm e2)
theorem rs_MI_sym (hT : rs_TX T) (h : rs_MI T nf E L tt ((p, q) :: S)) (ea : rs_rt T L p = a) (eb : rs_rt T L q = b) (ha : a < 704) (hb : b < 704) (ka : T.1 (a % 64) = 0) (kb : T.1 (b % 64) = 0) (hs : T.2.1 (a % 64) = T.2.1 (b % 64)) : rs_MI T nf E L tt S := by
  have hL := h.1
  obtain ⟨op, oq⟩ := h.2.2.1 (p, q) (List.mem_cons_self ..)
  have lp := rs_op_lt hL.1 op
  have lq := rs_op_lt hL.1 oq
  refine rs_MI_skip hT h ?_ ?_
  · intro R r1 r2 r3 r4 r5
    have e1 := rs_R_rt hT hL r1 r3 r4 lp
    have e2 := rs_R_rt hT hL r1 r3 r4 lq
    rw [ea] at e1
    rw [eb] at e2
    have oa := rs_rt_op hT hL op
    have ob := rs_rt_op hT hL oq
    rw [ea] at oa
    rw [eb] at ob
    have ta : a % 64 < T.2.2.2.2 := by rcases oa with ⟨_, z⟩ | z <;> omega
    have tb : b % 64 < T.2.2.2.2 := by rcases ob with ⟨_, z⟩ | z <;> omega
    exact r3 _ _ _ e1 (r3 _ _ _ (r5 a b ha hb ta tb ka kb hs) (r2 _ _ e2))
  · intro θ m
    have e1 := rs_M_rt hT m p
    have e2 := rs_M_rt hT m q
    rw [ea] at e1
    rw [eb] at e2
    refine Eq.trans e1 (Eq.trans ?_ (Eq.symm e2))
    rw [(rs_ns_sym hT ha ka).1, (rs_ns_sym hT hb kb).1, hs]
/-- a bound root, with the parts that are then to be joined -/
theorem rs_MI_bind (hT : rs_TX T) (h : rs_MI T nf E L tt ((p, q) :: S)) (hpq : (rs_rt T L p = a ∧ rs_rt T L q = b) ∨ (rs_rt T L q = a ∧ rs_rt T L p = b)) (hab : a ≠ b) (hp : a < 704 → T.1 (a % 64) = 2 ∧ b < 704 ∧ T.1 (b % 64) = 2)
    {S' : List (Nat × Nat)} (hS : (704 ≤ a ∧ S' = S) ∨ (a < 704 ∧ S' = (rs_lf T a, rs_lf T b) :: (rs_rg T a, rs_rg T b) :: S)) : rs_MI T nf E (rs_up L a b) (tt + 1) S' := by
  obtain ⟨hL, h2, h3, h4⟩ := h
  obtain ⟨op, oq⟩ := h3 (p, q) (List.mem_cons_self ..)
  have lp := rs_op_lt hL.1 op
  have lq := rs_op_lt hL.1 oq
  have ra : rs_nx T L a = none := by
    rcases hpq with ⟨e, _⟩ | ⟨e, _⟩
    · rw [← e]; exact rs_rt_root hT hL lp
    · rw [← e]; exact rs_rt_root hT hL lq
  have rb : rs_nx T L b = none := by
    rcases hpq with ⟨_, e⟩ | ⟨_, e⟩
    · rw [← e]; exact rs_rt_root hT hL lq
    · rw [← e]; exact rs_rt_root hT hL lp
  have oa : rs_op T nf a := by
    rcases hpq with ⟨e, _⟩ | ⟨e, _⟩
    · rw [← e]; exact rs_rt_op hT hL op
    · rw [← e]; exact rs_rt_op hT hL oq
  have ob : rs_op T nf b := by
    rcases hpq with ⟨_, e⟩ | ⟨_, e⟩
    · rw [← e]; exact rs_rt_op hT hL oq
    · rw [← e]; exact rs_rt_op hT hL op
  have la := rs_op_lt hL.1 oa
  have hsub : ∀ y, y ∈ S → y ∈ S' := by
    rcases hS with ⟨_, e⟩ | ⟨_, e⟩
    · rw [e]; exact fun _ h => h
    · rw [e]; exact fun _ h => List.mem_cons_of_mem _ (List.mem_cons_of_mem _ h)
  refine ⟨rs_LK_up hL hab ra rb oa ob hp, ?_, ?_, ?_⟩
  · intro R r1 r2 r3 r4 r5 r6 n m hn e
    have r4' : ∀ n m, n < 770 → rs_nx T L n = some m → R n m := fun n m hn e => r4 n m hn (rs_nx_of_up ra e)
    have e1 := rs_R_rt hT hL r1 r3 r4' lp
    have e2 := rs_R_rt hT hL r1 r3 r4' lq
    have hRab : R a b := r4 a b la rs_nx_up_s
    have hRpq : R p q := by
      rcases hpq with ⟨ea, eb⟩ | ⟨ea, eb⟩
      · rw [ea] at e1; rw [eb] at e2
        exact r3 _ _ _ e1 (r3 _ _ _ hRab (r2 _ _ e2))
      · rw [eb] at e1; rw [ea] at e2
        exact r3 _ _ _ e1 (r3 _ _ _ (r2 _ _ hRab) (r2 _ _ e2))
    by_cases z : n = a
    · subst z
      rw [rs_up_s] at e
      injection e with e
      subst e
      rcases hS with ⟨h7, _⟩ | ⟨_, eS⟩
      · omega
      · rw [eS] at r6
        exact ⟨r6 _ (List.mem_cons_self ..), r6 _ (List.mem_cons_of_mem _ (List.mem_cons_self ..))⟩
    · rw [rs_up_n z] at e
      exact h2 R r1 r2 r3 r4' r5 (rs_mem_c hRpq (fun y hy => r6 y (hsub y hy))) n m hn e
  · intro y hy
    rcases hS with ⟨_, e⟩ | ⟨h7, e⟩
    · rw [e] at hy; exact h3 y (List.mem_cons_of_mem _ hy)
    · rw [e] at hy
      obtain ⟨k1, k2, k3⟩ := hp h7
      obtain ⟨o1, o2⟩ := rs_lf_op hT hL.1 h7 k1 oa
      obtain ⟨o3, o4⟩ := rs_lf_op hT hL.1 k2 k3 ob
      exact rs_mem_c (P := fun y => rs_op T nf y.1 ∧ rs_op T nf y.2) ⟨o1, o3⟩ (rs_mem_c ⟨o2, o4⟩ (fun y hy => h3 y (List.mem_cons_of_mem _ hy))) y hy
  · intro θ hθ
    rw [← h4 θ hθ, rs_M_up (rs_nx_inv ra).1]
    have hE : rs_M T L θ → (rs_EQ T θ p q ↔ rs_EQ T θ a b) := by
      intro m
      have e1 := rs_M_rt hT m p
      have e2 := rs_M_rt hT m q
      rcases hpq with ⟨ea, eb⟩ | ⟨ea, eb⟩
      · rw [ea] at e1; rw [eb] at e2
        exact ⟨fun z => Eq.trans (Eq.symm e1) (Eq.trans z e2), fun z => Eq.trans e1 (Eq.trans z (Eq.symm e2))⟩
      · rw [eb] at e1; rw [ea] at e2
        exact ⟨fun z => Eq.trans (Eq.symm e2) (Eq.trans (Eq.symm z) e1), fun z => Eq.trans e1 (Eq.trans (Eq.symm z) (Eq.symm e2))⟩
    constructor
    · rintro ⟨⟨m1, m2⟩, m3⟩
      exact ⟨m1, rs_mem_c ((hE m1).mpr m2) (fun y hy => m3 y (hsub y hy))⟩
    · rintro ⟨m1, m2⟩
      have mab := (hE m1).mp (m2 (p, q) (List.mem_cons_self ..))
      refine ⟨⟨m1, mab⟩, ?_⟩
      rcases hS with ⟨_, e⟩ | ⟨h7, e⟩
      · rw [e]; exact fun y hy => m2 y (List.mem_cons_of_mem _ hy)
      · rw [e]
        obtain ⟨k1, k2, k3⟩ := hp h7
        have mab' : rs_s θ (rs_ns T a) = rs_s θ (rs_ns T b) := mab
        rw [rs_ns_pair hT h7 k1, rs_ns_pair hT k2 k3, rs_s_lo (by omega), rs_s_lo (by omega), rs_s_app, rs_s_app] at mab'
        injection mab' with _ mab'
        obtain ⟨q1, q2⟩ := rs_W_eq (rs_s_W hθ _ 1 (rs_ns_W hT _)) (rs_s_W hθ _ 1 (rs_ns_W hT _)) mab'
        exact rs_mem_c q1 (rs_mem_c q2 (fun y hy => m2 y (List.mem_cons_of_mem _ hy)))
/-- tokens of different roots of terms clash -/
theorem rs_MI_clash (hT : rs_TX T) (h : rs_MI T nf E L tt ((p, q) :: S)) (ea : rs_rt T L p = a) (eb : rs_rt T L q = b) (ha : a < 704) (hb : b < 704) (ht : rs_tkn T a ≠ rs_tkn T b) : ∀ θ, rs_cp θ → ¬ E θ := by
  obtain ⟨hL, h2, h3, h4⟩ := h
  obtain ⟨op, oq⟩ := h3 (p, q) (List.mem_cons_self ..)
  have lp := rs_op_lt hL.1 op
  have lq := rs_op_lt hL.1 oq
  intro θ hθ hE
  obtain ⟨m1, m2⟩ := (h4 θ hθ).mpr hE
  have e := m2 (p, q) (List.mem_cons_self ..)
  have e1 := rs_M_rt hT m1 p
  have e2 := rs_M_rt hT m1 q
  have ra := rs_rt_root hT hL lp
  have rb := rs_rt_root hT hL lq
  rw [ea] at e1 ra
  rw [eb] at e2 rb
  have e3 : rs_s θ (rs_ns T a) = rs_s θ (rs_ns T b) := Eq.trans (Eq.symm e1) (Eq.trans e e2)
  have lo : ∀ r, r < 704 → rs_nx T L r = none → rs_tkn T r < 100 := by
    intro r hr hx
    unfold rs_tkn
    rw [if_neg (by omega)]
    split
    · omega
    · have := (rs_nx_inv hx).2
      rcases (hT (r % 64) (by omega)).2 with ⟨h1, h2, _⟩ | ⟨h1, _⟩ | ⟨h1, _⟩ <;> omega
  rw [rs_ns_root hT ra, rs_ns_root hT rb, rs_s_lo (lo a ha ra), rs_s_lo (lo b hb rb)] at e3
  injection e3 with e3 _
  exact ht e3
end
/-! the canonical strings -/
theorem rs_can_node {T : rs_T} {nf tt : Nat} {L : Nat → Option Nat} (hT : rs_TX T) (hL : rs_LK T nf L tt) (hC : rs_CC T L []) {s : Nat → List Nat} (hs : ∀ v, rs_WK T L [704 + v] (s v)) : ∀ k n, n % 64 < k → n < 704 → rs_WK T L [n] (rs_s s (rs_ns T n))
  | 0, _, h, _ => absurd h (by omega)
  | k + 1, n, hk, hn => by
    have hsym : ∀ m, m < 704 → T.1 (m % 64) ≠ 2 → L m = none := by
      intro m hm h2
      cases e : L m with
      | none => rfl
      | some j => exact absurd ((hL.2.1 m j e).2.2 hm).1 h2
    rcases (hT (n % 64) (by omega)).2 with ⟨h1, h2, _⟩ | ⟨h1, h2, _⟩ | ⟨h1, _, _, _⟩
    · have hx := rs_nx_none (T := T) (hsym n hn (by omega)) (Or.inr (by omega))
      rw [(rs_ns_sym hT hn h1).1, rs_s_lo (by omega)]
      refine ⟨n, [], rfl, ?_, ?_⟩
      · rw [rs_rt_stop hx]
        unfold rs_tkn
        rw [if_neg (by omega), if_neg (by omega)]
      · rw [rs_rt_stop hx]
        unfold rs_kd
        rw [if_neg (by omega)]
        rfl
    · have hx := rs_nx_slot (hsym n hn (by omega)) hn h1
      rw [(rs_ns_slot hT hn h1).1, rs_s_1]
      have := hs (6 * (n / 64) + T.2.1 (n % 64))
      rw [← Nat.add_assoc] at this
      exact rs_WK_rt (rs_rt_nx hT hL (by omega) hx).symm this
    · obtain ⟨l1, l2, _, _, l5, l6, l7, l8⟩ := rs_lf_in hT hn h1
      have hA := rs_can_node hT hL hC hs k (rs_lf T n) (by omega) l1
      have hB := rs_can_node hT hL hC hs k (rs_rg T n) (by omega) l2
      have key := hC (fun a b => ∀ l, rs_WK T L [a] l ↔ rs_WK T L [b] l) (fun _ _ => Iff.rfl) (fun _ _ h l => (h l).symm) (fun _ _ _ h h' l => (h l).trans (h' l))
        (fun a b ha e l => ⟨rs_WK_rt (rs_rt_nx hT hL ha e), rs_WK_rt (rs_rt_nx hT hL ha e).symm⟩)
        (by
          intro a b ha hb _ _ ka kb e
          have xa := rs_rt_stop (rs_nx_none (T := T) (hsym a ha (by omega)) (Or.inr (by omega)))
          have xb := rs_rt_stop (rs_nx_none (T := T) (hsym b hb (by omega)) (Or.inr (by omega)))
          have et : rs_tkn T a = rs_tkn T b := by
            unfold rs_tkn
            rw [if_neg (by omega), if_neg (by omega), if_neg (by omega), if_neg (by omega), e]
          have ek : rs_kd T a = rs_kd T b := by
            unfold rs_kd
            rw [if_neg (by omega), if_neg (by omega)]
          have go : ∀ a b, rs_rt T L a = a → rs_rt T L b = b → rs_tkn T a = rs_tkn T b → rs_kd T a = rs_kd T b → ∀ l, rs_WK T L [a] l → rs_WK T L [b] l := by
            intro a b xa xb et ek l h
            cases l with
            | nil => exact absurd (show [a] = [] from h) (by simp)
            | cons t l =>
              obtain ⟨n', st1, e0, e1, e2⟩ := h
              injection e0 with e3 e4
              subst e3 e4
              rw [xa] at e1 e2
              exact ⟨b, [], rfl, by rw [xb, ← et]; exact e1, by rw [xb, ← ek]; exact e2⟩
          exact fun l => ⟨go a b xa xb et ek l, go b a xb xa et.symm ek.symm l⟩)
        (fun p hp => absurd hp (List.not_mem_nil))
      have hr := rs_fd_ind (T := T) (L := L) (fun r => r < 704 ∧ T.1 (r % 64) = 2 ∧ (∀ l, rs_WK T L [rs_lf T n] l ↔ rs_WK T L [rs_lf T r] l) ∧ (∀ l, rs_WK T L [rs_rg T n] l ↔ rs_WK T L [rs_rg T r] l))
        (by
          rintro r m ⟨r1, r2, r3, r4⟩ e
          rcases rs_nx_some e with e | ⟨_, _, e, _⟩
          · obtain ⟨_, m2, m3⟩ := (hL.2.1 r m e).2.2 r1
            obtain ⟨k1, k2⟩ := key r m r1 e
            exact ⟨m2, m3, fun l => (r3 l).trans (k1 l), fun l => (r4 l).trans (k2 l)⟩
          · omega) 800 n ⟨hn, h1, fun _ => Iff.rfl, fun _ => Iff.rfl⟩
      obtain ⟨r1, r2, r3, r4⟩ := hr
      rw [rs_ns_pair hT hn h1, rs_s_lo (by omega), rs_s_app]
      refine ⟨n, [], rfl, ?_, ?_⟩
      · show 0 = rs_tkn T (rs_fd T L 800 n)
        unfold rs_tkn
        rw [if_neg (by omega), if_pos r2]
      · have : rs_kd T (rs_rt T L n) = [rs_lf T (rs_fd T L 800 n)] ++ [rs_rg T (rs_fd T L 800 n)] := by
          show rs_kd T (rs_fd T L 800 n) = _
          unfold rs_kd
          rw [if_pos ⟨r1, r2⟩]; rfl
        rw [this, List.append_nil]
        exact rs_WK_app ((r4 _).mp hB) _ _ ((r3 _).mp hA)
theorem rs_can_all {T : rs_T} {nf tt : Nat} {L : Nat → Option Nat} (hT : rs_TX T) (hL : rs_LK T nf L tt) (hC : rs_CC T L []) {s : Nat → List Nat} (hs : ∀ v, rs_WK T L [704 + v] (s v)) (n : Nat) : rs_WK T L [n] (rs_s s (rs_ns T n)) := by
  by_cases h : n < 704
  · exact rs_can_node hT hL hC hs 64 n (by omega) h
  · have e := rs_ns_var (T := T) (n - 704)
    have := hs (n - 704)
    rw [show 704 + (n - 704) = n by omega] at e this
    rw [e, rs_s_1]
    exact this
theorem rs_can_cp {T : rs_T} {L : Nat → Option Nat} {s : Nat → List Nat} (hs : ∀ v, rs_WK T L [704 + v] (s v)) : rs_cp s := fun v => rs_WK_W _ _ (hs v)
theorem rs_can_MG {T : rs_T} {nf tt : Nat} {L : Nat → Option Nat} (hT : rs_TX T) (hL : rs_LK T nf L tt) (hC : rs_CC T L []) {s : Nat → List Nat} (hs : ∀ v, rs_WK T L [704 + v] (s v)) {C : (Nat → List Nat) → Prop} (hM : ∀ θ, rs_cp θ → (C θ ↔ rs_M T L θ)) : rs_MG C s := by
  have hcp := rs_can_cp hs
  refine ⟨hcp, ?_, ?_⟩
  · rw [hM s hcp]
    intro n m e
    obtain ⟨o1, _, _⟩ := hL.2.1 n m e
    have h1 := rs_can_all hT hL hC hs n
    have h2 := rs_can_all hT hL hC hs m
    exact rs_WK_det _ _ _ (rs_WK_rt (rs_rt_nx hT hL (rs_op_lt hL.1 o1) (rs_nx_link e)) h1) h2
  · intro θ hθ hCθ v
    by_cases hv : v < 66
    · have := rs_WK_M hT hL ((hM θ hθ).mp hCθ) (s v) [704 + v] (by
        intro n hn
        rw [List.mem_singleton] at hn
        omega) (hs v)
      rw [List.flatMap_cons, List.flatMap_nil, List.append_nil, rs_ns_var, rs_s_1] at this
      exact this
    · have hLn : L (704 + v) = none := by
        cases e : L (704 + v) with
        | none => rfl
        | some j =>
          have := rs_op_lt hL.1 (hL.2.1 _ j e).1
          omega
      have hx := rs_rt_stop (rs_nx_none (T := T) hLn (Or.inl (by omega)))
      have hw : rs_WK T L [704 + v] [100 + v] := by
        refine ⟨704 + v, [], rfl, ?_, ?_⟩
        · rw [hx]
          unfold rs_tkn
          rw [if_pos (by omega), Nat.add_sub_cancel_left]
        · rw [hx]
          unfold rs_kd
          rw [if_neg (by omega)]
          rfl
      rw [rs_WK_det _ _ _ (hs v) hw, rs_s_1]
end
section
/-! the run of a path, purely: C the set of valuations, nf open frames, the disequalities, the stack, the choices left -/
noncomputable def rs_if {α : Type} (P : Prop) (a b : α) : α := @ite α P (Classical.propDecidable P) a b
theorem rs_if_t {α : Type} {P : Prop} {a b : α} (h : P) : rs_if P a b = a := @if_pos P (Classical.propDecidable P) h α a b
theorem rs_if_f {α : Type} {P : Prop} {a b : α} (h : ¬ P) : rs_if P a b = b := @if_neg P (Classical.propDecidable P) h α a b
abbrev rs_V : Type := (Nat → List Nat) → Prop
abbrev rs_St : Type := rs_V × Nat × List (List Nat × List Nat) × List (Nat × Nat) × Nat
/-- goals: kind, four parts, size; the relations; greatest calls, greatest size -/
abbrev rs_G : Type := (Nat → Nat) × (Nat → Nat) × (Nat → Nat) × (Nat → Nat) × (Nat → Nat) × (Nat → Nat) × (Nat → Option Nat) × Nat × Nat
def rs_eqC (C : rs_V) (A B : List Nat) : rs_V := fun θ => C θ ∧ rs_s θ A = rs_s θ B
def rs_callC (C : rs_V) (v : Nat) (A1 A2 A3 : List Nat) : rs_V := fun θ => C θ ∧ θ v = rs_s θ A1 ∧ θ (v + 1) = rs_s θ A2 ∧ θ (v + 2) = rs_s θ A3
noncomputable def rs_pEq (ms : Nat) (A B : List Nat) (C : rs_V) (nf : Nat) (ne : List (List Nat × List Nat)) (st : List (Nat × Nat)) (lf : Nat) : Nat × rs_St :=
  rs_if (¬ rs_Sat ms (6 * nf) (rs_eqC C A B) ∨ ∃ d, d ∈ ne ∧ rs_Same (rs_eqC C A B) d.1 d.2) (2, (C, nf, ne, st, lf)) (0, (rs_eqC C A B, nf, ne, st, lf))
noncomputable def rs_pNeq (A B : List Nat) (C : rs_V) (nf : Nat) (ne : List (List Nat × List Nat)) (st : List (Nat × Nat)) (lf : Nat) : Nat × rs_St :=
  if 24 ≤ ne.length then (3, (C, nf, ne, st, lf)) else rs_if (rs_Same C A B) (2, (C, nf, ne, st, lf)) (0, (C, nf, ne ++ [(A, B)], st, lf))
def rs_pEi (p a b f : Nat) (C : rs_V) (nf : Nat) (ne : List (List Nat × List Nat)) (st : List (Nat × Nat)) (lf : Nat) : Nat × rs_St :=
  if lf = 0 then (4, (C, nf, ne, st, lf)) else (0, (C, nf, ne, (if p / 2 ^ (lf - 1) % 2 = 0 then a else b, f) :: st, lf - 1))
noncomputable def rs_pCall (mc ms : Nat) (body : Option Nat) (A1 A2 A3 : List Nat) (C : rs_V) (nf : Nat) (ne : List (List Nat × List Nat)) (st : List (Nat × Nat)) (lf : Nat) : Nat × rs_St :=
  match body with
  | none => (2, (C, nf, ne, st, lf))
  | some b => if mc ≤ nf - 1 then (3, (C, nf, ne, st, lf)) else rs_if (rs_Sat ms (6 * (nf + 1)) (rs_callC C (6 * nf) A1 A2 A3)) (0, (rs_callC C (6 * nf) A1 A2 A3, nf + 1, ne, (b, nf) :: st, lf)) (2, (C, nf, ne, st, lf))
noncomputable def rs_perf (ts : Nat → List Nat) (G : rs_G) (p g f : Nat) (C : rs_V) (nf : Nat) (ne : List (List Nat × List Nat)) (st : List (Nat × Nat)) (lf : Nat) : Nat × rs_St :=
  if G.1 g = 0 then rs_pEq G.2.2.2.2.2.2.2.2 (rs_sh f (ts (G.2.1 g))) (rs_sh f (ts (G.2.2.1 g))) C nf ne st lf
  else if G.1 g = 1 then rs_pNeq (rs_sh f (ts (G.2.1 g))) (rs_sh f (ts (G.2.2.1 g))) C nf ne st lf
  else if G.1 g = 2 then (0, (C, nf, ne, (G.2.1 g, f) :: (G.2.2.1 g, f) :: st, lf))
  else if G.1 g = 3 then rs_pEi p (G.2.1 g) (G.2.2.1 g) f C nf ne st lf
  else rs_pCall G.2.2.2.2.2.2.2.1 G.2.2.2.2.2.2.2.2 (G.2.2.2.2.2.2.1 (G.2.1 g)) (rs_sh f (ts (G.2.2.1 g))) (rs_sh f (ts (G.2.2.2.1 g))) (rs_sh f (ts (G.2.2.2.2.1 g))) C nf ne st lf
noncomputable def rs_run (ts : Nat → List Nat) (G : rs_G) (p : Nat) : Nat → rs_V → Nat → List (List Nat × List Nat) → List (Nat × Nat) → Nat → Nat × rs_St
  | 0, C, nf, ne, st, lf => (1, (C, nf, ne, st, lf))
  | _ + 1, C, nf, ne, [], lf => (1, (C, nf, ne, [], lf))
  | n + 1, C, nf, ne, (g, f) :: st, lf =>
    if (rs_perf ts G p g f C nf ne st lf).1 = 0 then
      rs_run ts G p n (rs_perf ts G p g f C nf ne st lf).2.1 (rs_perf ts G p g f C nf ne st lf).2.2.1 (rs_perf ts G p g f C nf ne st lf).2.2.2.1 (rs_perf ts G p g f C nf ne st lf).2.2.2.2.1 (rs_perf ts G p g f C nf ne st lf).2.2.2.2.2
    else rs_perf ts G p g f C nf ne st lf
noncomputable def rs_path (ts : Nat → List Nat) (G : rs_G) (q p : Nat) : Nat × rs_St := rs_run ts G p 165 (fun _ => True) 1 [] [(q, 0)] p.log2
/-- what the goals' tables hold: tc terms, gc goals -/
def rs_GX (tc gc : Nat) (G : rs_G) : Prop :=
  (∀ g, g < gc → 1 ≤ G.2.2.2.2.2.1 g ∧ G.2.2.2.2.2.1 g ≤ 15 ∧
    ((G.1 g = 0 ∧ G.2.1 g < tc ∧ G.2.2.1 g < tc) ∨ (G.1 g = 1 ∧ G.2.1 g < tc ∧ G.2.2.1 g < tc) ∨
     (G.1 g = 2 ∧ G.2.1 g < gc ∧ G.2.2.1 g < gc ∧ G.2.2.2.2.2.1 g = 1 + G.2.2.2.2.2.1 (G.2.1 g) + G.2.2.2.2.2.1 (G.2.2.1 g)) ∨
     (G.1 g = 3 ∧ G.2.1 g < gc ∧ G.2.2.1 g < gc ∧ G.2.2.2.2.2.1 g = 1 + G.2.2.2.2.2.1 (G.2.1 g) + G.2.2.2.2.2.1 (G.2.2.1 g)) ∨
     (G.1 g = 4 ∧ G.2.1 g < 8 ∧ G.2.2.1 g < tc ∧ G.2.2.2.1 g < tc ∧ G.2.2.2.2.1 g < tc))) ∧
  (∀ r b, G.2.2.2.2.2.2.1 r = some b → b < gc) ∧ 1 ≤ G.2.2.2.2.2.2.2.1 ∧ G.2.2.2.2.2.2.2.1 ≤ 10 ∧ 3 ≤ G.2.2.2.2.2.2.2.2 ∧ G.2.2.2.2.2.2.2.2 ≤ 31
/-- the steps still to come -/
def rs_ms (G : rs_G) : List (Nat × Nat) → Nat
  | [] => 0
  | (g, _) :: st => G.2.2.2.2.2.1 g + rs_ms G st
/-- what holds of a stack: goals there are, frames are open -/
def rs_SO (gc nf : Nat) (st : List (Nat × Nat)) : Prop := ∀ x, x ∈ st → x.1 < gc ∧ x.2 < nf
def rs_RI (gc : Nat) (G : rs_G) (n nf : Nat) (st : List (Nat × Nat)) : Prop := 1 ≤ nf ∧ nf ≤ G.2.2.2.2.2.2.2.1 + 1 ∧ rs_SO gc nf st ∧ rs_ms G st + 15 * (G.2.2.2.2.2.2.2.1 + 1 - nf) ≤ n
theorem rs_ms_len {tc gc nf : Nat} {G : rs_G} (hG : rs_GX tc gc G) : ∀ {st : List (Nat × Nat)}, rs_SO gc nf st → st.length ≤ rs_ms G st
  | [], _ => Nat.le_refl _
  | (g, f) :: st, h => by
    have ih := rs_ms_len hG (fun x hx => h x (List.mem_cons_of_mem _ hx) : rs_SO gc nf st)
    have := (hG.1 g (h (g, f) (List.mem_cons_self ..)).1).1
    rw [List.length_cons]
    show st.length + 1 ≤ G.2.2.2.2.2.1 g + rs_ms G st
    omega
/-- the step keeps the invariant, one step less -/
theorem rs_perf_RI {tc gc : Nat} {ts : Nat → List Nat} {G : rs_G} (hG : rs_GX tc gc G) {p g f n : Nat} {C : rs_V} {nf : Nat} {ne : List (List Nat × List Nat)} {st : List (Nat × Nat)} {lf : Nat} (h : rs_RI gc G (n + 1) nf ((g, f) :: st)) (h0 : (rs_perf ts G p g f C nf ne st lf).1 = 0) :
    rs_RI gc G n (rs_perf ts G p g f C nf ne st lf).2.2.1 (rs_perf ts G p g f C nf ne st lf).2.2.2.2.1 := by
  obtain ⟨h1, h2, h3, h4⟩ := h
  obtain ⟨hg, hf⟩ := h3 (g, f) (List.mem_cons_self ..)
  have h3' : rs_SO gc nf st := fun x hx => h3 x (List.mem_cons_of_mem _ hx)
  have h4' : G.2.2.2.2.2.1 g + rs_ms G st + 15 * (G.2.2.2.2.2.2.2.1 + 1 - nf) ≤ n + 1 := h4
  obtain ⟨s1, s2, hk⟩ := hG.1 g hg
  have keep : rs_RI gc G n nf st := ⟨h1, h2, h3', by omega⟩
  have push1 : ∀ a, a < gc → G.2.2.2.2.2.1 a < G.2.2.2.2.2.1 g → rs_RI gc G n nf ((a, f) :: st) := by
    intro a ha hs
    refine ⟨h1, h2, ?_, ?_⟩
    · intro x hx
      rcases List.mem_cons.mp hx with e | e
      · rw [e]; exact ⟨ha, hf⟩
      · exact h3' x e
    · show G.2.2.2.2.2.1 a + rs_ms G st + _ ≤ n
      omega
  unfold rs_perf at h0 ⊢
  rcases hk with ⟨k, _⟩ | ⟨k, _⟩ | ⟨k, a1, a2, a3⟩ | ⟨k, a1, a2, a3⟩ | ⟨k, _⟩
  · rw [if_pos k] at h0 ⊢
    unfold rs_pEq at h0 ⊢
    by_cases z : ¬ rs_Sat G.2.2.2.2.2.2.2.2 (6 * nf) (rs_eqC C (rs_sh f (ts (G.2.1 g))) (rs_sh f (ts (G.2.2.1 g)))) ∨ ∃ d, d ∈ ne ∧ rs_Same (rs_eqC C (rs_sh f (ts (G.2.1 g))) (rs_sh f (ts (G.2.2.1 g)))) d.1 d.2
    · rw [rs_if_t z] at h0; simp at h0
    · rw [rs_if_f z]; exact keep
  · rw [if_neg (by omega), if_pos k] at h0 ⊢
    unfold rs_pNeq at h0 ⊢
    by_cases z : 24 ≤ ne.length
    · rw [if_pos z] at h0; simp at h0
    · rw [if_neg z] at h0 ⊢
      by_cases z : rs_Same C (rs_sh f (ts (G.2.1 g))) (rs_sh f (ts (G.2.2.1 g)))
      · rw [rs_if_t z] at h0; simp at h0
      · rw [rs_if_f z]; exact keep
  · rw [if_neg (by omega), if_neg (by omega), if_pos k]
    show rs_RI gc G n nf ((G.2.1 g, f) :: (G.2.2.1 g, f) :: st)
    refine ⟨h1, h2, ?_, ?_⟩
    · intro x hx
      rcases List.mem_cons.mp hx with e | e
      · rw [e]; exact ⟨a1, hf⟩
      · rcases List.mem_cons.mp e with e | e
        · rw [e]; exact ⟨a2, hf⟩
        · exact h3' x e
    · show G.2.2.2.2.2.1 _ + (G.2.2.2.2.2.1 _ + rs_ms G st) + _ ≤ n
      omega
  · rw [if_neg (by omega), if_neg (by omega), if_neg (by omega), if_pos k] at h0 ⊢
    unfold rs_pEi at h0 ⊢
    by_cases z : lf = 0
    · rw [if_pos z] at h0; simp at h0
    · rw [if_neg z]
      have b1 := (hG.1 _ a1).1
      have b2 := (hG.1 _ a2).1
      show rs_RI gc G n nf ((if p / 2 ^ (lf - 1) % 2 = 0 then G.2.1 g else G.2.2.1 g, f) :: st)
      split
      · exact push1 _ a1 (by omega)
      · exact push1 _ a2 (by omega)
  · rw [if_neg (by omega), if_neg (by omega), if_neg (by omega), if_neg (by omega)] at h0 ⊢
    unfold rs_pCall at h0 ⊢
    cases e : G.2.2.2.2.2.2.1 (G.2.1 g) with
    | none => rw [e] at h0; simp at h0
    | some b =>
      rw [e] at h0
      have hb := hG.2.1 _ b e
      have hb2 := (hG.1 b hb).2.1
      simp only at h0 ⊢
      by_cases z : G.2.2.2.2.2.2.2.1 ≤ nf - 1
      · rw [if_pos z] at h0; simp at h0
      · rw [if_neg z] at h0 ⊢
        by_cases z2 : rs_Sat G.2.2.2.2.2.2.2.2 (6 * (nf + 1)) (rs_callC C (6 * nf) (rs_sh f (ts (G.2.2.1 g))) (rs_sh f (ts (G.2.2.2.1 g))) (rs_sh f (ts (G.2.2.2.2.1 g))))
        · rw [rs_if_t z2]
          show rs_RI gc G n (nf + 1) ((b, nf) :: st)
          refine ⟨by omega, by omega, ?_, ?_⟩
          · intro x hx
            rcases List.mem_cons.mp hx with e | e
            · rw [e]; exact ⟨hb, Nat.lt_succ_self nf⟩
            · have := h3' x e
              exact ⟨this.1, by omega⟩
          · show G.2.2.2.2.2.1 b + rs_ms G st + _ ≤ n
            omega
        · rw [rs_if_f z2] at h0; simp at h0
/-- the tables of a later time agree with the earlier ones below the earlier counts -/
def rs_Ext (tc gc : Nat) (ts ts' : Nat → List Nat) (G G' : rs_G) : Prop :=
  (∀ t, t < tc → ts' t = ts t) ∧ (∀ g, g < gc → G'.1 g = G.1 g ∧ G'.2.1 g = G.2.1 g ∧ G'.2.2.1 g = G.2.2.1 g ∧ G'.2.2.2.1 g = G.2.2.2.1 g ∧ G'.2.2.2.2.1 g = G.2.2.2.2.1 g) ∧
  G'.2.2.2.2.2.2.1 = G.2.2.2.2.2.2.1 ∧ G'.2.2.2.2.2.2.2.1 = G.2.2.2.2.2.2.2.1 ∧ G'.2.2.2.2.2.2.2.2 = G.2.2.2.2.2.2.2.2
theorem rs_perf_ext {tc gc : Nat} {ts ts' : Nat → List Nat} {G G' : rs_G} (hG : rs_GX tc gc G) (hE : rs_Ext tc gc ts ts' G G') {p g f : Nat} {C : rs_V} {nf : Nat} {ne : List (List Nat × List Nat)} {st : List (Nat × Nat)} {lf : Nat} (hg : g < gc) :
    rs_perf ts' G' p g f C nf ne st lf = rs_perf ts G p g f C nf ne st lf := by
  obtain ⟨e1, e2, e3, e4, e5⟩ := hE
  obtain ⟨q1, q2, q3, q4, q5⟩ := e2 g hg
  obtain ⟨_, _, hk⟩ := hG.1 g hg
  unfold rs_perf
  rw [q1, q2, q3, q4, q5, e3, e4, e5]
  rcases hk with ⟨k, k1, k2⟩ | ⟨k, k1, k2⟩ | ⟨k, a1, a2, a3⟩ | ⟨k, a1, a2, a3⟩ | ⟨k, _, k1, k2, k3⟩
  · rw [if_pos k, if_pos k, e1 _ k1, e1 _ k2]
  · rw [if_neg (by omega), if_pos k, if_neg (by omega), if_pos k, e1 _ k1, e1 _ k2]
  · rw [if_neg (by omega), if_neg (by omega), if_pos k, if_neg (by omega), if_neg (by omega), if_pos k]
  · rw [if_neg (by omega), if_neg (by omega), if_neg (by omega), if_pos k, if_neg (by omega), if_neg (by omega), if_neg (by omega), if_pos k]
  · rw [if_neg (by omega), if_neg (by omega), if_neg (by omega), if_neg (by omega), if_neg (by omega), if_neg (by omega), if_neg (by omega), if_neg (by omega), e1 _ k1, e1 _ k2, e1 _ k3]
theorem rs_run_ext {tc gc : Nat} {ts ts' : Nat → List Nat} {G G' : rs_G} (hG : rs_GX tc gc G) (hE : rs_Ext tc gc ts ts' G G') {p : Nat} : ∀ (n : Nat) (C : rs_V) (nf : Nat) (ne : List (List Nat × List Nat)) (st : List (Nat × Nat)) (lf : Nat), rs_RI gc G n nf st →
    rs_run ts' G' p n C nf ne st lf = rs_run ts G p n C nf ne st lf
  | 0, _, _, _, _, _, _ => rfl
  | _ + 1, _, _, _, [], _, _ => rfl
  | n + 1, C, nf, ne, (g, f) :: st, lf, h => by
    have e := rs_perf_ext (p := p) (f := f) (C := C) (nf := nf) (ne := ne) (st := st) (lf := lf) hG hE (h.2.2.1 (g, f) (List.mem_cons_self ..)).1
    unfold rs_run
    rw [e]
    by_cases z : (rs_perf ts G p g f C nf ne st lf).1 = 0
    · rw [if_pos z, if_pos z]
      exact rs_run_ext hG hE n _ _ _ _ _ (rs_perf_RI hG h z)
    · rw [if_neg z, if_neg z]
theorem rs_RI_0 {tc gc q : Nat} {G : rs_G} (hG : rs_GX tc gc G) (hq : q < gc) : rs_RI gc G 165 1 [(q, 0)] := by
  obtain ⟨h1, h2, h3, h4, _, _⟩ := hG
  refine ⟨by omega, by omega, ?_, ?_⟩
  · intro x hx
    rw [List.mem_singleton] at hx
    rw [hx]
    exact ⟨hq, by omega⟩
  · have := (h1 q hq).2.1
    show G.2.2.2.2.2.1 q + 0 + _ ≤ 165
    omega
theorem rs_path_ext {tc gc q : Nat} {ts ts' : Nat → List Nat} {G G' : rs_G} (hG : rs_GX tc gc G) (hE : rs_Ext tc gc ts ts' G G') (hq : q < gc) (p : Nat) : rs_path ts' G' q p = rs_path ts G q p :=
  rs_run_ext hG hE 165 _ _ _ _ _ (rs_RI_0 hG hq)
end
section
/-! the reference's values: idempotent, most general -/
def rs_Y (ms nf : Nat) (C : rs_V) (σ : Nat → List Nat) : Prop :=
  rs_cp σ ∧ (∀ v, 6 * nf ≤ v → σ v = [100 + v]) ∧ (∀ v, v < 6 * nf → (σ v).length ≤ ms) ∧
  (∀ v t, v < 6 * nf → t ∈ σ v → t < 17 ∨ ∃ w, w < 6 * nf ∧ t = 100 + w ∧ σ w = [100 + w]) ∧ (∀ θ, rs_cp θ → (C θ ↔ ∀ v, θ v = rs_s θ (σ v)))
theorem rs_Y_tok {ms nf : Nat} {C : rs_V} {σ : Nat → List Nat} (h : rs_Y ms nf C σ) {v w : Nat} (hw : 100 + w ∈ σ v) : σ w = [100 + w] := by
  by_cases hv : v < 6 * nf
  · rcases h.2.2.2.1 v _ hv hw with z | ⟨u, _, e, e2⟩
    · omega
    · have : w = u := by omega
      rw [this]; exact e2
  · rw [h.2.1 v (by omega), List.mem_singleton] at hw
    have : w = v := by omega
    rw [this]; exact h.2.1 v (by omega)
theorem rs_Y_idem {ms nf : Nat} {C : rs_V} {σ : Nat → List Nat} (h : rs_Y ms nf C σ) (v : Nat) : rs_s σ (σ v) = σ v := by
  rw [rs_s_congr (η := fun v => [100 + v]) (σ v) (fun w hw => rs_Y_tok h hw), rs_s_id]
theorem rs_Y_MG {ms nf : Nat} {C : rs_V} {σ : Nat → List Nat} (h : rs_Y ms nf C σ) : rs_MG C σ :=
  ⟨h.1, (h.2.2.2.2 σ h.1).mpr (fun v => (rs_Y_idem h v).symm), fun θ hθ hC => (h.2.2.2.2 θ hθ).mp hC⟩
theorem rs_Y_C {ms nf : Nat} {C C' : rs_V} {σ : Nat → List Nat} (h : rs_Y ms nf C σ) (e : ∀ θ, rs_cp θ → (C' θ ↔ C θ)) : rs_Y ms nf C' σ :=
  ⟨h.1, h.2.1, h.2.2.1, h.2.2.2.1, fun θ hθ => (e θ hθ).trans (h.2.2.2.2 θ hθ)⟩
/-- one unknown is replaced -/
def rs_dl (w : Nat) (sub : List Nat) : Nat → List Nat := fun u => if u = w then sub else [100 + u]
theorem rs_dl_s {w : Nat} {sub : List Nat} : rs_dl w sub w = sub := if_pos rfl
theorem rs_dl_n {w u : Nat} {sub : List Nat} (h : u ≠ w) : rs_dl w sub u = [100 + u] := if_neg h
theorem rs_dl_cp {w : Nat} {sub : List Nat} (h : rs_W 1 sub) : rs_cp (rs_dl w sub) := by
  intro u
  by_cases e : u = w
  · rw [e, rs_dl_s]; exact h
  · rw [rs_dl_n e]; exact rs_W_one (by omega)
theorem rs_dl_th {w : Nat} {sub : List Nat} {θ : Nat → List Nat} (e : θ w = rs_s θ sub) (l : List Nat) : rs_s θ (rs_s (rs_dl w sub) l) = rs_s θ l := by
  rw [rs_s_s]
  refine rs_s_congr l (fun v _ => ?_)
  by_cases h : v = w
  · rw [h]
    show rs_s θ (rs_dl w sub w) = θ w
    rw [rs_dl_s, e]
  · show rs_s θ (rs_dl w sub v) = θ v
    rw [rs_dl_n h, rs_s_1]
theorem rs_Y_rep {ms nf : Nat} {C : rs_V} {σ : Nat → List Nat} (h : rs_Y ms nf C σ) {w : Nat} {sub : List Nat} (hw : σ w = [100 + w]) (hwn : w < 6 * nf) (hsub : rs_W 1 sub)
    (htok : ∀ t, t ∈ sub → t < 17 ∨ ∃ u, u < 6 * nf ∧ t = 100 + u ∧ σ u = [100 + u]) (hx : 100 + w ∉ sub) (hsz : ∀ v, v < 6 * nf → (rs_s (rs_dl w sub) (σ v)).length ≤ ms) :
    rs_Y ms nf (fun θ => C θ ∧ θ w = rs_s θ sub) (fun v => rs_s (rs_dl w sub) (σ v)) := by
  have self : ∀ u, u ≠ w → σ u = [100 + u] → rs_s (rs_dl w sub) (σ u) = [100 + u] := by
    intro u hu e
    rw [e, rs_s_1, rs_dl_n hu]
  refine ⟨fun v => rs_s_W (rs_dl_cp hsub) _ 1 (h.1 v), ?_, hsz, ?_, ?_⟩
  · intro v hv
    exact self v (by omega) (h.2.1 v hv)
  · intro v t hv ht
    rcases rs_s_mem ht with ⟨h1, h2⟩ | ⟨u, h1, h2⟩
    · rcases h.2.2.2.1 v t hv h2 with z | ⟨u, _, e, _⟩
      · exact Or.inl z
      · omega
    · have su := rs_Y_tok h h1
      by_cases e : u = w
      · rw [e, rs_dl_s] at h2
        rcases htok t h2 with z | ⟨u', e1, e2, e3⟩
        · exact Or.inl z
        · refine Or.inr ⟨u', e1, e2, self u' ?_ e3⟩
          intro z
          rw [e2, z] at h2
          exact hx h2
      · rw [rs_dl_n e, List.mem_singleton] at h2
        refine Or.inr ⟨u, ?_, h2, self u e su⟩
        rcases h.2.2.2.1 v _ hv h1 with z | ⟨u', e1, e2, _⟩
        · omega
        · omega
  · intro θ hθ
    constructor
    · rintro ⟨hC, e⟩ v
      show θ v = rs_s θ (rs_s (rs_dl w sub) (σ v))
      rw [rs_dl_th e]
      exact (h.2.2.2.2 θ hθ).mp hC v
    · intro hv
      have e : θ w = rs_s θ sub := by
        have : θ w = rs_s θ (rs_s (rs_dl w sub) (σ w)) := hv w
        rw [hw, rs_s_1, rs_dl_s] at this
        exact this
      refine ⟨(h.2.2.2.2 θ hθ).mpr (fun v => ?_), e⟩
      rw [← rs_dl_th e (σ v)]
      exact hv v
/-- how many of the first N variables are unknowns -/
def rs_uk (σ : Nat → List Nat) : Nat → Nat
  | 0 => 0
  | n + 1 => rs_uk σ n + (if σ n = [100 + n] then 1 else 0)
theorem rs_uk_le (σ : Nat → List Nat) : ∀ n, rs_uk σ n ≤ n
  | 0 => Nat.le_refl _
  | n + 1 => by
    have := rs_uk_le σ n
    show rs_uk σ n + (if σ n = [100 + n] then 1 else 0) ≤ n + 1
    split <;> omega
theorem rs_uk_mono {σ σ' : Nat → List Nat} (h : ∀ v, σ' v = [100 + v] → σ v = [100 + v]) : ∀ n, rs_uk σ' n ≤ rs_uk σ n
  | 0 => Nat.le_refl _
  | n + 1 => by
    have := rs_uk_mono h n
    show rs_uk σ' n + (if σ' n = [100 + n] then 1 else 0) ≤ rs_uk σ n + (if σ n = [100 + n] then 1 else 0)
    by_cases e : σ' n = [100 + n]
    · rw [if_pos e, if_pos (h n e)]; omega
    · rw [if_neg e]; omega
theorem rs_uk_lt {σ σ' : Nat → List Nat} {w : Nat} (h : ∀ v, σ' v = [100 + v] → σ v = [100 + v]) (h1 : σ w = [100 + w]) (h2 : σ' w ≠ [100 + w]) : ∀ n, w < n → rs_uk σ' n < rs_uk σ n
  | 0, z => absurd z (by omega)
  | n + 1, z => by
    show rs_uk σ' n + (if σ' n = [100 + n] then 1 else 0) < rs_uk σ n + (if σ n = [100 + n] then 1 else 0)
    by_cases e : w = n
    · subst e
      have := rs_uk_mono h w
      rw [if_neg h2, if_pos h1]; omega
    · have := rs_uk_lt h h1 h2 n (by omega)
      by_cases e : σ' n = [100 + n]
      · rw [if_pos e, if_pos (h n e)]; omega
      · rw [if_neg e]; omega
theorem rs_Y_rep_uk {ms nf : Nat} {C : rs_V} {σ : Nat → List Nat} (h : rs_Y ms nf C σ) {w : Nat} {sub : List Nat} (hw : σ w = [100 + w]) (hsub : rs_W 1 sub)
    (htok : ∀ t, t ∈ sub → t < 17 ∨ ∃ u, u < 6 * nf ∧ t = 100 + u ∧ σ u = [100 + u]) (hx : 100 + w ∉ sub) {N : Nat} (hN : w < N) : rs_uk (fun v => rs_s (rs_dl w sub) (σ v)) N < rs_uk σ N := by
  refine rs_uk_lt (w := w) ?_ hw ?_ N hN
  · intro v hv
    have hl := rs_s_len (rs_dl_cp (w := w) hsub) (σ v)
    have hv' : rs_s (rs_dl w sub) (σ v) = [100 + v] := hv
    rw [hv'] at hl
    have hp := rs_cp_pos h.1 v
    cases e : σ v with
    | nil => rw [e] at hp; exact absurd hp (by simp)
    | cons t l =>
      rw [e] at hl hv'
      have : l = [] := by
        cases l with
        | nil => rfl
        | cons a l => simp at hl
      subst this
      rcases rs_tok t with ht | ⟨u, rfl⟩
      · rw [rs_s_lo ht] at hv'
        injection hv' with hv' _
        omega
      · rw [rs_s_1] at hv'
        by_cases eu : u = w
        · rw [eu, rs_dl_s] at hv'
          have hm : 100 + v ∈ sub := by rw [hv']; exact List.mem_cons_self ..
          rcases htok _ hm with z | ⟨u', _, e2, e3⟩
          · omega
          · have : u' = v := by omega
            rw [this, e] at e3
            exact e3
        · rw [rs_dl_n eu] at hv'
          exact hv'
  · intro hv
    have hv' : rs_s (rs_dl w sub) (σ w) = [100 + w] := hv
    rw [hw, rs_s_1, rs_dl_s] at hv'
    exact hx (by rw [hv']; exact List.mem_cons_self ..)
/-! a round of unifying -/
def rs_YU (ms nf : Nat) (A0 B0 : List Nat) (E C : rs_V) (σ : Nat → List Nat) : Prop :=
  rs_Y ms nf C σ ∧ ∀ θ, rs_cp θ → ((C θ ∧ rs_s θ A0 = rs_s θ B0) ↔ E θ)
section
variable {ms nf : Nat} {A0 B0 : List Nat} {E C : rs_V} {σ : Nat → List Nat}
theorem rs_YU_0 (h : rs_Y ms nf C σ) : rs_YU ms nf A0 B0 (rs_eqC C A0 B0) C σ := ⟨h, fun _ _ => Iff.rfl⟩
theorem rs_YU_done (h : rs_YU ms nf A0 B0 E C σ) (e : rs_s σ A0 = rs_s σ B0) : rs_Y ms nf E σ := by
  refine rs_Y_C h.1 (fun θ hθ => ?_)
  rw [← h.2 θ hθ]
  exact ⟨fun z => z.1, fun z => ⟨z, (rs_MG_same (rs_Y_MG h.1) A0 B0).mpr e θ hθ z⟩⟩
theorem rs_YU_eq (h : rs_YU ms nf A0 B0 E C σ) {θ : Nat → List Nat} (hθ : rs_cp θ) (hE : E θ) : C θ ∧ rs_s θ (rs_s σ A0) = rs_s θ (rs_s σ B0) := by
  obtain ⟨hC, e⟩ := (h.2 θ hθ).mpr hE
  refine ⟨hC, ?_⟩
  rw [rs_MG_s (rs_Y_MG h.1) hθ hC, rs_MG_s (rs_Y_MG h.1) hθ hC, e]
theorem rs_YU_clash (h : rs_YU ms nf A0 B0 E C σ) {P A' B' : List Nat} {a b : Nat} (eA : rs_s σ A0 = P ++ a :: A') (eB : rs_s σ B0 = P ++ b :: B') (hab : a ≠ b) (ha : a < 100) (hb : b < 100) : ∀ θ, rs_cp θ → ¬ E θ := by
  intro θ hθ hE
  have e := (rs_YU_eq h hθ hE).2
  rw [eA, eB, rs_s_app, rs_s_app, rs_s_lo ha, rs_s_lo hb] at e
  have := List.append_cancel_left e
  injection this with e1 _
  exact hab e1
/-- x = 100 + w on one side against sub on the other -/
theorem rs_YU_x (h : rs_YU ms nf A0 B0 E C σ) {P A' B' sub : List Nat} {w : Nat} (hs : rs_W 1 sub) (hAB : (rs_s σ A0 = P ++ (100 + w) :: A' ∧ rs_s σ B0 = P ++ (sub ++ B')) ∨ (rs_s σ B0 = P ++ (100 + w) :: A' ∧ rs_s σ A0 = P ++ (sub ++ B'))) {θ : Nat → List Nat} (hθ : rs_cp θ) (hE : E θ) : C θ ∧ θ w = rs_s θ sub := by
  obtain ⟨hC, e⟩ := rs_YU_eq h hθ hE
  refine ⟨hC, ?_⟩
  have key : ∀ X Y : List Nat, X = P ++ (100 + w) :: A' → Y = P ++ (sub ++ B') → rs_s θ X = rs_s θ Y → θ w = rs_s θ sub := by
    intro X Y e1 e2 e
    rw [e1, e2, rs_s_app, rs_s_app, rs_s_hi, rs_s_app] at e
    exact (rs_W_eq (hθ w) (rs_s_W hθ _ 1 hs) (List.append_cancel_left e)).1
  rcases hAB with ⟨e1, e2⟩ | ⟨e1, e2⟩
  · exact key _ _ e1 e2 e
  · exact key _ _ e1 e2 e.symm
theorem rs_YU_occ (h : rs_YU ms nf A0 B0 E C σ) {sub : List Nat} {w : Nat} (hx : ∀ θ, rs_cp θ → E θ → C θ ∧ θ w = rs_s θ sub) (ho : 100 + w ∈ sub) (hne : sub ≠ [100 + w]) : ∀ θ, rs_cp θ → ¬ E θ := by
  intro θ hθ hE
  have e := (hx θ hθ hE).2
  have h1 := rs_s_occ hθ sub ho
  rw [← e] at h1
  cases sub with
  | nil => exact absurd ho List.not_mem_nil
  | cons a l =>
    cases l with
    | nil =>
      rw [List.mem_singleton] at ho
      exact hne (by rw [ho])
    | cons b l => simp only [List.length_cons] at h1; omega
theorem rs_YU_big (h : rs_YU ms nf A0 B0 E C σ) {sub : List Nat} {w : Nat} (hw : w < 6 * nf) (hx : ∀ θ, rs_cp θ → E θ → C θ ∧ θ w = rs_s θ sub) (hb : ms < sub.length) : ¬ rs_Sat ms (6 * nf) E := by
  rintro ⟨θ, hθ, hE, hl⟩
  have e := (hx θ hθ hE).2
  have h1 := rs_s_len hθ sub
  rw [← e] at h1
  have := hl w hw
  omega
theorem rs_YU_big2 (h : rs_YU ms nf A0 B0 E C σ) {sub : List Nat} {w v : Nat} (hv : v < 6 * nf) (hx : ∀ θ, rs_cp θ → E θ → C θ ∧ θ w = rs_s θ sub) (hb : ms < (rs_s (rs_dl w sub) (σ v)).length) : ¬ rs_Sat ms (6 * nf) E := by
  rintro ⟨θ, hθ, hE, hl⟩
  obtain ⟨hC, e⟩ := hx θ hθ hE
  have h1 := rs_s_len hθ (rs_s (rs_dl w sub) (σ v))
  rw [rs_dl_th e, ← (h.1.2.2.2.2 θ hθ).mp hC v] at h1
  have := hl v hv
  omega
theorem rs_YU_rep (h : rs_YU ms nf A0 B0 E C σ) {sub : List Nat} {w : Nat} (hw : σ w = [100 + w]) (hwn : w < 6 * nf) (hsub : rs_W 1 sub)
    (htok : ∀ t, t ∈ sub → t < 17 ∨ ∃ u, u < 6 * nf ∧ t = 100 + u ∧ σ u = [100 + u]) (hx : 100 + w ∉ sub) (hsz : ∀ v, v < 6 * nf → (rs_s (rs_dl w sub) (σ v)).length ≤ ms) (hq : ∀ θ, rs_cp θ → E θ → C θ ∧ θ w = rs_s θ sub) :
    rs_YU ms nf A0 B0 E (fun θ => C θ ∧ θ w = rs_s θ sub) (fun v => rs_s (rs_dl w sub) (σ v)) := by
  refine ⟨rs_Y_rep h.1 hw hwn hsub htok hx hsz, fun θ hθ => ?_⟩
  rw [← h.2 θ hθ]
  constructor
  · rintro ⟨⟨z1, _⟩, z3⟩
    exact ⟨z1, z3⟩
  · rintro ⟨z1, z2⟩
    exact ⟨⟨z1, (hq θ hθ ((h.2 θ hθ).mp ⟨z1, z2⟩)).2⟩, z2⟩
end
/-- the tokens of a value -/
theorem rs_Y_val {ms nf f : Nat} {C : rs_V} {σ : Nat → List Nat} (h : rs_Y ms nf C σ) {l : List Nat} (hf : f < nf) (hl : ∀ t, t ∈ l → t < 17 ∨ (100 ≤ t ∧ t < 106)) : ∀ t, t ∈ rs_s σ (rs_sh f l) → t < 17 ∨ ∃ u, u < 6 * nf ∧ t = 100 + u ∧ σ u = [100 + u] := by
  intro t ht
  rcases rs_s_mem ht with ⟨h1, h2⟩ | ⟨v, h1, h2⟩
  · rcases rs_sh_mem h2 with ⟨_, h3⟩ | ⟨v, _, h3⟩
    · rcases hl t h3 with z | z
      · exact Or.inl z
      · omega
    · omega
  · have hv : v < 6 * nf := by
      rcases rs_sh_mem h1 with ⟨z, _⟩ | ⟨u, h3, h4⟩
      · omega
      · rcases hl _ h3 with z | z
        · omega
        · omega
    exact h.2.2.2.1 v t hv h2
theorem rs_s_max {σ : Nat → List Nat} (h : ∀ v, (σ v).length ≤ 31) : ∀ (l : List Nat) (k : Nat), rs_W k l → 2 * (rs_s σ l).length ≤ 32 * l.length + 30 * k
  | [], k, _ => by simp [rs_s]
  | t :: l, k, hw => by
    obtain ⟨hk, hw⟩ := hw
    have ih := rs_s_max h l _ hw
    rcases rs_tok t with ht | ⟨v, rfl⟩
    · rw [rs_s_lo ht, List.length_cons, List.length_cons]
      split at ih <;> omega
    · rw [rs_s_hi, List.length_append, List.length_cons]
      rw [if_neg (by omega)] at ih
      have := h v
      omega
theorem rs_Y_31 {ms nf : Nat} {C : rs_V} {σ : Nat → List Nat} (h : rs_Y ms nf C σ) (hm : ms ≤ 31) (v : Nat) : (σ v).length ≤ 31 := by
  by_cases hv : v < 6 * nf
  · have := h.2.2.1 v hv; omega
  · rw [h.2.1 v (by omega)]; simp
theorem rs_val_len {σ : Nat → List Nat} (h : ∀ v, (σ v).length ≤ 31) {l : List Nat} {f : Nat} (hl : l.length ≤ 15) (hw : rs_W 1 l) : (rs_s σ (rs_sh f l)).length ≤ 255 := by
  have := rs_s_max h _ _ (rs_sh_W f l 1 hw)
  rw [rs_sh_len] at this
  omega
/-- of two different complete strings there is a first difference -/
theorem rs_diff : ∀ (A B : List Nat) (k : Nat), rs_W k A → rs_W k B → A ≠ B → ∃ P a b A' B', A = P ++ a :: A' ∧ B = P ++ b :: B' ∧ a ≠ b
  | [], [], _, _, _, h => absurd rfl h
  | [], _ :: _, k, h1, h2, _ => by
    have z1 : k = 0 := h1
    have z2 : 0 < k := h2.1
    omega
  | _ :: _, [], k, h1, h2, _ => by
    have z1 : k = 0 := h2
    have z2 : 0 < k := h1.1
    omega
  | a :: A, b :: B, k, h1, h2, h => by
    by_cases e : a = b
    · subst e
      obtain ⟨P, x, y, A', B', e1, e2, e3⟩ := rs_diff A B _ h1.2 h2.2 (fun z => h (by rw [z]))
      exact ⟨a :: P, x, y, A', B', by rw [e1]; rfl, by rw [e2]; rfl, e3⟩
    · exact ⟨[], a, b, A, B, rfl, rfl, e⟩
/-- behind any head a whole tree begins -/
theorem rs_W_rest : ∀ (P : List Nat) (k : Nat) (r : List Nat), rs_W k (P ++ r) → ∃ j, rs_W j r
  | [], k, _, h => ⟨k, h⟩
  | _ :: P, _, r, h => rs_W_rest P _ r h.2
theorem rs_W_tree {P r : List Nat} {k b : Nat} (h : rs_W k (P ++ b :: r)) : ∃ sub rest, b :: r = sub ++ rest ∧ rs_W 1 sub := by
  obtain ⟨j, hj⟩ := rs_W_rest P k _ h
  have h0 : 0 < j := hj.1
  rw [show j = 1 + (j - 1) by omega] at hj
  obtain ⟨a, b, e, e1, _⟩ := rs_W_split _ 1 (j - 1) hj
  exact ⟨a, b, e, e1⟩
/-! two most general members are renamings of each other -/
def rs_rn (s : Nat → List Nat) (x : Nat) : Nat := if x < 100 then x else (s (x - 100)).headD 0
theorem rs_rn_lo {s : Nat → List Nat} {x : Nat} (h : x < 100) : rs_rn s x = x := if_pos h
theorem rs_rn_hi {s : Nat → List Nat} {v : Nat} : rs_rn s (100 + v) = (s v).headD 0 := by
  unfold rs_rn
  rw [if_neg (by omega), Nat.add_sub_cancel_left]
theorem rs_s_map {s : Nat → List Nat} : ∀ l : List Nat, (∀ v, 100 + v ∈ l → (s v).length = 1) → rs_s s l = l.map (rs_rn s)
  | [], _ => rfl
  | t :: l, h => by
    have ih := rs_s_map l (fun v hv => h v (List.mem_cons_of_mem _ hv))
    rcases rs_tok t with ht | ⟨v, rfl⟩
    · rw [rs_s_lo ht, ih, List.map_cons, rs_rn_lo ht]
    · have h1 := h v (List.mem_cons_self ..)
      rw [rs_s_hi, ih, List.map_cons, rs_rn_hi]
      cases e : s v with
      | nil => rw [e] at h1; exact absurd h1 (by simp)
      | cons a k =>
        rw [e] at h1
        cases k with
        | nil => rfl
        | cons b k => simp at h1
section
variable {C : rs_V} {s t : Nat → List Nat}
theorem rs_MG_len (hs : rs_MG C s) (ht : rs_MG C t) (v : Nat) : (s v).length = (t v).length := by
  have h1 := rs_s_len hs.1 (t v)
  rw [← ht.2.2 s hs.1 hs.2.1 v] at h1
  have h2 := rs_s_len ht.1 (s v)
  rw [← hs.2.2 t ht.1 ht.2.1 v] at h2
  omega
theorem rs_MG_one (hs : rs_MG C s) (ht : rs_MG C t) {v w : Nat} (h : 100 + w ∈ t v) : (s w).length = 1 := by
  have h1 := rs_s_occ hs.1 (t v) h
  rw [← ht.2.2 s hs.1 hs.2.1 v] at h1
  have := rs_MG_len hs ht v
  have := rs_cp_pos hs.1 w
  omega
theorem rs_MG_map (hs : rs_MG C s) (ht : rs_MG C t) (v : Nat) : s v = (t v).map (rs_rn s) := by
  have h := ht.2.2 s hs.1 hs.2.1 v
  rw [rs_s_map (t v) (fun w hw => rs_MG_one hs ht hw)] at h
  exact h
theorem rs_map_id {α : Type} {f : α → α} : ∀ {l : List α}, l = l.map f → ∀ x, x ∈ l → f x = x
  | [], _, _, h => absurd h List.not_mem_nil
  | a :: l, e, x, h => by
    rw [List.map_cons] at e
    injection e with e1 e2
    rcases List.mem_cons.mp h with z | z
    · rw [z, ← e1]
    · exact rs_map_id e2 x z
theorem rs_MG_inv (hs : rs_MG C s) (ht : rs_MG C t) {v x : Nat} (hx : x ∈ t v) : rs_rn t (rs_rn s x) = x := by
  have h1 := rs_MG_map hs ht v
  have h2 := rs_MG_map ht hs v
  rw [h1, List.map_map] at h2
  exact rs_map_id h2 x hx
theorem rs_MG_hi (hs : rs_MG C s) (ht : rs_MG C t) {v x : Nat} (hx : x ∈ t v) : x < 100 ↔ rs_rn s x < 100 := by
  have h := rs_MG_inv hs ht hx
  constructor
  · intro z; rw [rs_rn_lo z]; exact z
  · intro z
    rw [rs_rn_lo z] at h
    omega
theorem rs_MG_inj (hs : rs_MG C s) (ht : rs_MG C t) {v w x y : Nat} (hx : x ∈ t v) (hy : y ∈ t w) (e : rs_rn s x = rs_rn s y) : x = y := by
  rw [← rs_MG_inv hs ht hx, ← rs_MG_inv hs ht hy, e]
end
end
section
/-! passing values to a new frame -/
def rs_cl (T : rs_T) (nf : Nat) (L : Nat → Option Nat) : Prop := ∀ n m, rs_op T nf n → rs_nx T L n = some m → rs_op T nf m
theorem rs_cl_0 {T : rs_T} {nf tt : Nat} {L : Nat → Option Nat} (hT : rs_TX T) (hL : rs_LK T nf L tt) : rs_cl T nf L := fun _ _ h e => rs_nx_op hT hL h e
theorem rs_cl_up {T : rs_T} {nf a b : Nat} {L : Nat → Option Nat} (h : rs_cl T nf L) (ha : ¬ rs_op T nf a) : rs_cl T nf (rs_up L a b) := by
  intro n m hn e
  have hna : n ≠ a := by
    intro z
    rw [z] at hn
    exact ha hn
  rw [rs_nx_up_n hna] at e
  exact h n m hn e
theorem rs_op_mono {T : rs_T} {nf nf' n : Nat} (h : nf ≤ nf') (hn : rs_op T nf n) : rs_op T nf' n := by
  rcases hn with z | z
  · exact Or.inl ⟨by omega, z.2⟩
  · exact Or.inr (by omega)
theorem rs_LK_mono {T : rs_T} {nf nf' tt : Nat} {L : Nat → Option Nat} (hL : rs_LK T nf L tt) (h : nf ≤ nf') (h11 : nf' ≤ 11) : rs_LK T nf' L tt :=
  ⟨h11, fun n m e => ⟨rs_op_mono h (hL.2.1 n m e).1, rs_op_mono h (hL.2.1 n m e).2.1, (hL.2.1 n m e).2.2⟩, hL.2.2.1, hL.2.2.2⟩
theorem rs_pass {T : rs_T} {nf nf' tt : Nat} {L : Nat → Option Nat} {n a : Nat} (hT : rs_TX T) (hL : rs_LK T nf' L tt) (hC : rs_CC T L []) (hc : rs_cl T nf L) (hn : rs_op T nf n) (hnf : nf ≤ nf') (ha : 704 ≤ a) (oa : rs_op T nf' a) (na : ¬ rs_op T nf a) (La : L a = none) :
    rs_LK T nf' (rs_up L a (rs_rt T L n)) (tt + 1) ∧ rs_CC T (rs_up L a (rs_rt T L n)) [] ∧ rs_cl T nf (rs_up L a (rs_rt T L n)) ∧ ∀ θ, (rs_M T (rs_up L a (rs_rt T L n)) θ ↔ (rs_M T L θ ∧ θ (a - 704) = rs_s θ (rs_ns T n))) := by
  have on := rs_op_mono hnf hn
  have ln := rs_op_lt hL.1 on
  have rb := rs_rt_root hT hL ln
  have ob : rs_op T nf (rs_rt T L n) := rs_fd_ind (rs_op T nf) (fun x y h e => hc x y h e) 800 n hn
  have hab : a ≠ rs_rt T L n := fun z => na (z ▸ ob)
  have ra : rs_nx T L a = none := rs_nx_none La (Or.inl ha)
  refine ⟨rs_LK_up hL hab ra rb oa (rs_op_mono hnf ob) (fun z => absurd z (by omega)), ?_, rs_cl_up hc na, ?_⟩
  · intro R r1 r2 r3 r4 r5 r6 x y hx e
    have hxa : x ≠ a := by omega
    rw [rs_up_n hxa] at e
    exact hC R r1 r2 r3 (fun p q hp z => r4 p q hp (rs_nx_of_up ra z)) r5 r6 x y hx e
  · intro θ
    rw [rs_M_up La]
    have ev : rs_ns T a = [100 + (a - 704)] := by
      have := rs_ns_var (T := T) (a - 704)
      rwa [show 704 + (a - 704) = a by omega] at this
    constructor
    · rintro ⟨h1, h2⟩
      refine ⟨h1, ?_⟩
      have h2' : rs_s θ (rs_ns T a) = rs_s θ (rs_ns T (rs_rt T L n)) := h2
      rw [ev, rs_s_1] at h2'
      exact Eq.trans h2' (Eq.symm (rs_M_rt hT h1 n))
    · rintro ⟨h1, h2⟩
      refine ⟨h1, ?_⟩
      show rs_s θ (rs_ns T a) = rs_s θ (rs_ns T (rs_rt T L n))
      rw [ev, rs_s_1, h2]
      exact rs_M_rt hT h1 n
/-- links of new nodes don't touch the old values -/
theorem rs_fd_old {T : rs_T} {nf : Nat} {L L' : Nat → Option Nat} (hc : rs_cl T nf L) (e : ∀ n, rs_op T nf n → L' n = L n) : ∀ k n, rs_op T nf n → rs_fd T L' k n = rs_fd T L k n
  | 0, _, _ => rfl
  | k + 1, n, hn => by
    have en : rs_nx T L' n = rs_nx T L n := by
      unfold rs_nx
      rw [e n hn]
    cases z : rs_nx T L n with
    | none => rw [rs_fd_stop z, rs_fd_stop (en.trans z)]
    | some m => rw [rs_fd_s z, rs_fd_s (en.trans z)]; exact rs_fd_old hc e k m (hc n m hn z)
theorem rs_kd_op {T : rs_T} (hT : rs_TX T) {nf r n : Nat} (hf : nf ≤ 11) (hr : rs_op T nf r) (h : n ∈ rs_kd T r) : rs_op T nf n := by
  unfold rs_kd at h
  split at h
  · next hp =>
    obtain ⟨h1, h2⟩ := rs_lf_op hT hf hp.1 hp.2 hr
    rcases List.mem_cons.mp h with h | h
    · rw [h]; exact h1
    · rw [List.mem_singleton] at h; rw [h]; exact h2
  · exact absurd h (List.not_mem_nil)
theorem rs_WK_old {T : rs_T} (hT : rs_TX T) {nf : Nat} {L L' : Nat → Option Nat} (hf : nf ≤ 11) (hc : rs_cl T nf L) (e : ∀ n, rs_op T nf n → L' n = L n) : ∀ (l st : List Nat), (∀ n, n ∈ st → rs_op T nf n) → rs_WK T L st l → rs_WK T L' st l
  | [], _, _, h => h
  | a :: l, st, hs, h => by
    obtain ⟨n, st1, e0, e1, e2⟩ := h
    subst e0
    have hn := hs n (List.mem_cons_self ..)
    have er : rs_rt T L' n = rs_rt T L n := rs_fd_old hc e 800 n hn
    have ob : rs_op T nf (rs_rt T L n) := rs_fd_ind (rs_op T nf) (fun x y h e => hc x y h e) 800 n hn
    refine ⟨n, st1, rfl, by rw [er]; exact e1, ?_⟩
    rw [er]
    refine rs_WK_old hT hf hc e l _ ?_ e2
    intro x hx
    rcases List.mem_append.mp hx with z | z
    · exact rs_kd_op hT hf ob z
    · exact hs x (List.mem_cons_of_mem _ z)
/-! tokens of terms -/
theorem rs_TX_tok {T : rs_T} (hT : rs_TX T) : ∀ k t, t < k → t < 64 → ∀ x, x ∈ T.2.2.2.1 t → x < 17 ∨ (100 ≤ x ∧ x < 106)
  | 0, _, h, _ => absurd h (by omega)
  | k + 1, t, h, h64 => by
    intro x hx
    rcases (hT t h64).2 with ⟨_, h2, e⟩ | ⟨_, h2, e⟩ | ⟨_, h1, h2, e⟩
    · rw [e, List.mem_singleton] at hx; omega
    · rw [e, List.mem_singleton] at hx; omega
    · rw [e] at hx
      rcases List.mem_cons.mp hx with z | z
      · omega
      · rcases List.mem_append.mp z with z | z
        · exact rs_TX_tok hT k _ (by omega) (by omega) x z
        · exact rs_TX_tok hT k _ (by omega) (by omega) x z
theorem rs_sh_var {f nf v : Nat} {l : List Nat} (hf : f < nf) (hl : ∀ x, x ∈ l → x < 17 ∨ (100 ≤ x ∧ x < 106)) (h : 100 + v ∈ rs_sh f l) : v < 6 * nf := by
  rcases rs_sh_mem h with ⟨z, _⟩ | ⟨u, h1, h2⟩
  · omega
  · rcases hl _ h1 with z | z <;> omega
theorem rs_ns_vars {T : rs_T} (hT : rs_TX T) {nf n v : Nat} (hf : nf ≤ 11) (hn : rs_op T nf n) (h : 100 + v ∈ rs_ns T n) : v < 6 * nf := by
  unfold rs_ns at h
  split at h
  · next h7 =>
    refine rs_sh_var (f := n / 64) ?_ (rs_TX_tok hT 64 _ (by omega) (by omega)) h
    rcases hn with z | z <;> omega
  · rw [List.mem_singleton] at h
    rcases hn with z | z <;> omega
theorem rs_ns_term {T : rs_T} {f t : Nat} (hf : f < 11) (ht : t < 64) : rs_ns T (64 * f + t) = rs_sh f (T.2.2.2.1 t) := by
  unfold rs_ns
  rw [if_pos (by omega), show (64 * f + t) / 64 = f by omega, show (64 * f + t) % 64 = t by omega]
/-- C looks at the first n variables alone -/
def rs_lo (n : Nat) (C : rs_V) : Prop := ∀ θ θ', (∀ v, v < n → θ v = θ' v) → C θ → C θ'
theorem rs_lo_M {T : rs_T} (hT : rs_TX T) {nf tt : Nat} {L : Nat → Option Nat} (hL : rs_LK T nf L tt) : rs_lo (6 * nf) (rs_M T L) := by
  intro θ θ' e h n m he
  obtain ⟨o1, o2, _⟩ := hL.2.1 n m he
  have h1 := h n m he
  unfold rs_EQ at h1 ⊢
  rw [← rs_s_congr (θ := θ) _ (fun v hv => e v (rs_ns_vars hT hL.1 o1 hv)), ← rs_s_congr (θ := θ) _ (fun v hv => e v (rs_ns_vars hT hL.1 o2 hv))]
  exact h1
/-- what was not the same stays so when new variables get values -/
theorem rs_call_same {n : Nat} {C C' : rs_V} (hM : ∀ θ, rs_cp θ → (C θ ↔ C' θ)) (hC : rs_lo n C') {A B A1 A2 A3 : List Nat} (hA : ∀ v, 100 + v ∈ A → v < n) (hB : ∀ v, 100 + v ∈ B → v < n) (h1 : ∀ v, 100 + v ∈ A1 → v < n) (h2 : ∀ v, 100 + v ∈ A2 → v < n) (h3 : ∀ v, 100 + v ∈ A3 → v < n)
    (w1 : rs_W 1 A1) (w2 : rs_W 1 A2) (w3 : rs_W 1 A3) (h : ¬ rs_Same C A B) : ¬ rs_Same (rs_callC C n A1 A2 A3) A B := by
  intro hs
  refine h (fun θ hθ hc => ?_)
  have key : ∃ θ' : Nat → List Nat, rs_cp θ' ∧ (∀ v, v < n → θ v = θ' v) ∧ θ' n = rs_s θ A1 ∧ θ' (n + 1) = rs_s θ A2 ∧ θ' (n + 2) = rs_s θ A3 := by
    refine ⟨fun v => if v < n then θ v else if v = n then rs_s θ A1 else if v = n + 1 then rs_s θ A2 else rs_s θ A3, ?_, ?_, ?_, ?_, ?_⟩
    · intro v
      dsimp only
      split
      · exact hθ v
      · split
        · exact rs_s_W hθ _ 1 w1
        · split
          · exact rs_s_W hθ _ 1 w2
          · exact rs_s_W hθ _ 1 w3
    · intro v hv
      dsimp only
      rw [if_pos hv]
    · dsimp only
      rw [if_neg (by omega), if_pos rfl]
    · dsimp only
      rw [if_neg (by omega), if_neg (by omega), if_pos rfl]
    · dsimp only
      rw [if_neg (by omega), if_neg (by omega), if_neg (by omega)]
  obtain ⟨θ', c1, c2, c3, c4, c5⟩ := key
  have e := hs θ' c1 ⟨(hM θ' c1).mpr (hC θ θ' c2 ((hM θ hθ).mp hc)), ?_, ?_, ?_⟩
  · rw [← rs_s_congr (θ := θ) A (fun v hv => c2 v (hA v hv)), ← rs_s_congr (θ := θ) B (fun v hv => c2 v (hB v hv))] at e
    exact e
  · rw [c3]; exact rs_s_congr A1 (fun v hv => c2 v (h1 v hv))
  · rw [c4]; exact rs_s_congr A2 (fun v hv => c2 v (h2 v hv))
  · rw [c5]; exact rs_s_congr A3 (fun v hv => c2 v (h3 v hv))
end
section
/-! the component's small methods -/
def rs_lk (a : Nat → Int32) (n : Nat) : Option Nat := if n < 770 ∧ ¬ a n < 0 then some (a n).toNatClampNeg else none
def rs_LR (a : Nat → Int32) : Prop := ∀ n, n < 770 → a n = -1 ∨ ∃ m, m < 770 ∧ a n = nI m
def rs_TA (T : rs_T) (k l r : Nat → Int32) : Prop := rs_TX T ∧ ∀ t, t < 64 → k t = nI (T.1 t) ∧ l t = nI (T.2.1 t) ∧ r t = nI (T.2.2.1 t)
theorem rs_lk_n {a : Nat → Int32} {n : Nat} (h : a n = -1) : rs_lk a n = none := by
  unfold rs_lk
  rw [if_neg]
  rintro ⟨_, z⟩
  exact z (by rw [h]; decide)
theorem rs_lk_s {a : Nat → Int32} {n m : Nat} (hn : n < 770) (hm : m < 770) (h : a n = nI m) : rs_lk a n = some m := by
  unfold rs_lk
  rw [if_pos, h, nI_clamp (by omega)]
  exact ⟨hn, by rw [h]; exact nI_pos (by omega)⟩
theorem rs_lk_o {a : Nat → Int32} {n : Nat} (hn : 770 ≤ n) : rs_lk a n = none := by
  unfold rs_lk
  rw [if_neg]
  rintro ⟨z, _⟩
  omega
theorem rs_lk_up {a : Nat → Int32} {i m : Nat} (hi : i < 770) (hm : m < 770) : rs_lk (upd a i (nI m)) = rs_up (rs_lk a) i m := by
  funext n
  by_cases e : n = i
  · subst e
    rw [rs_up_s, rs_lk_s hi hm]
    exact if_pos rfl
  · rw [rs_up_n e]
    unfold rs_lk
    rw [show upd a i (nI m) n = a n from if_neg e]
theorem rs_LR_up {a : Nat → Int32} {i m : Nat} (h : rs_LR a) (hm : m < 770) : rs_LR (upd a i (nI m)) := by
  intro n hn
  by_cases e : n = i
  · exact Or.inr ⟨m, hm, if_pos e⟩
  · rw [show upd a i (nI m) n = a n from if_neg e]
    exact h n hn
theorem rs_nx_lt' {T : rs_T} {a : Nat → Int32} {n m : Nat} (hT : rs_TX T) (hR : rs_LR a) (hn : n < 770) (h : rs_nx T (rs_lk a) n = some m) : m < 770 := by
  rcases rs_nx_some h with h | ⟨_, h1, h2, h3⟩
  · rcases hR n hn with e | ⟨k, hk, e⟩
    · rw [rs_lk_n e] at h; exact absurd h (by simp)
    · rw [rs_lk_s hn hk e] at h
      injection h with h
      omega
  · rcases (hT (n % 64) (by omega)).2 with ⟨h4, _⟩ | ⟨_, h5, _⟩ | ⟨h4, _⟩
    · omega
    · have : n / 64 < 11 := by omega
      omega
    · omega
theorem rs_TX_k {T : rs_T} (hT : rs_TX T) {t : Nat} (ht : t < 64) : T.1 t ≤ 2 ∧ T.2.1 t < 64 := by
  rcases (hT t ht).2 with ⟨h1, h2, _⟩ | ⟨h1, h2, _⟩ | ⟨h1, h2, _⟩ <;> omega
theorem rs_and63 {n : Nat} (h : n < 2 ^ 31) : nI n &&& 63 = nI (n % 64) := pk_andN (by omega) 6 (by decide)
theorem rs_shr6 {n : Nat} (h : n < 2 ^ 31) : nI n >>> ((6 : Int32) &&& 31) = nI (n / 64) := pk_shrN h _ 6 (by decide)
theorem rs_in63 {n : Nat} (h : n < 2 ^ 31) : vp_in (nI n &&& 63) 64 := by
  rw [rs_and63 h]
  exact vp_in_nI (by omega) (by decide)
theorem rs_at63 {n : Nat} (h : n < 2 ^ 31) : (nI n &&& 63).toNatClampNeg = n % 64 := by
  rw [rs_and63 h, nI_clamp (by omega)]
section
variable {f_kindSymbol f_kindSlot f_kindPair f_goalEq f_goalNeq f_goalBoth f_goalEither f_goalCall f_goOn f_outAnswer f_outFailure f_outCut f_outPending f_firstVariable f_maxLevel f_maxCalls f_maxSize f_termCount f_goalCount f_searching f_queryGoal f_queryWidth f_levelNow f_pendingCount f_nextCount f_answerCount f_failureCount f_cutCount f_trailTop f_callsDone f_choicesLeft f_neqCount f_workTop f_walkTop f_loaded f_numberedCount f_endUnknownCount f_constraintsReady f_relevantMask f_keptCount : Int32} {a_termKind a_termLeft a_termRight a_termSize a_goalKind a_goalFirst a_goalSecond a_goalThird a_goalFourth a_goalSize a_relationGoal a_pendingPath a_nextPath a_answerPath a_link a_trail a_neqLeft a_neqRight a_workGoal a_workFrame a_stackA a_stackB a_walk a_numberOf a_numbered a_endUnknown a_implied a_kept a_sightings a_lastSeen : Nat → Int32}
variable {T : rs_T}
theorem xw_termNode {post : Int32 → Prop} {f t : Nat} (h : post (nI (64 * f + t))) : wpX_termNode post (f_kindSymbol, f_kindSlot, f_kindPair, f_goalEq, f_goalNeq, f_goalBoth, f_goalEither, f_goalCall, f_goOn, f_outAnswer, f_outFailure, f_outCut, f_outPending, f_firstVariable, f_maxLevel, f_maxCalls, f_maxSize, f_termCount, f_goalCount, f_searching, f_queryGoal, f_queryWidth, f_levelNow, f_pendingCount, f_nextCount, f_answerCount, f_failureCount, f_cutCount, f_trailTop, f_callsDone, f_choicesLeft, f_neqCount, f_workTop, f_walkTop, f_loaded, f_numberedCount, f_endUnknownCount, f_constraintsReady, f_relevantMask, f_keptCount, a_termKind, a_termLeft, a_termRight, a_termSize, a_goalKind, a_goalFirst, a_goalSecond, a_goalThird, a_goalFourth, a_goalSize, a_relationGoal, a_pendingPath, a_nextPath, a_answerPath, a_link, a_trail, a_neqLeft, a_neqRight, a_workGoal, a_workFrame, a_stackA, a_stackB, a_walk, a_numberOf, a_numbered, a_endUnknown, a_implied, a_kept, a_sightings, a_lastSeen) (nI f) (nI t) := by
  have e : nI f * 64 + nI t = nI (64 * f + t) := by
    rw [show (64 : Int32) = nI 64 from rfl, pk_mul, nI_add, Nat.mul_comm]
  show post (nI f * 64 + nI t)
  rw [e]; exact h
theorem xw_variableNode {post : Int32 → Prop} {f t : Nat} (h : post (nI (704 + 6 * f + t))) : wpX_variableNode post (f_kindSymbol, f_kindSlot, f_kindPair, f_goalEq, f_goalNeq, f_goalBoth, f_goalEither, f_goalCall, f_goOn, f_outAnswer, f_outFailure, f_outCut, f_outPending, f_firstVariable, f_maxLevel, f_maxCalls, f_maxSize, f_termCount, f_goalCount, f_searching, f_queryGoal, f_queryWidth, f_levelNow, f_pendingCount, f_nextCount, f_answerCount, f_failureCount, f_cutCount, f_trailTop, f_callsDone, f_choicesLeft, f_neqCount, f_workTop, f_walkTop, f_loaded, f_numberedCount, f_endUnknownCount, f_constraintsReady, f_relevantMask, f_keptCount, a_termKind, a_termLeft, a_termRight, a_termSize, a_goalKind, a_goalFirst, a_goalSecond, a_goalThird, a_goalFourth, a_goalSize, a_relationGoal, a_pendingPath, a_nextPath, a_answerPath, a_link, a_trail, a_neqLeft, a_neqRight, a_workGoal, a_workFrame, a_stackA, a_stackB, a_walk, a_numberOf, a_numbered, a_endUnknown, a_implied, a_kept, a_sightings, a_lastSeen) (nI f) (nI t) := by
  have e : 704 + nI f * 6 + nI t = nI (704 + 6 * f + t) := by
    rw [show (704 : Int32) = nI 704 from rfl, show (6 : Int32) = nI 6 from rfl, pk_mul, nI_add, nI_add, Nat.mul_comm f 6]
  show post (704 + nI f * 6 + nI t)
  rw [e]; exact h
theorem xw_find_4 {post : Int32 → Prop} (hT : rs_TA T a_termKind a_termLeft a_termRight) (hR : rs_LR a_link) : ∀ (d m i n : Nat), m < 770 → rs_nx T (rs_lk a_link) (rs_fd T (rs_lk a_link) d m) = none → i + d < 1600 → d < n → post (nI (rs_fd T (rs_lk a_link) d m)) → wX_find_4 post f_kindSymbol f_kindSlot f_kindPair f_goalEq f_goalNeq f_goalBoth f_goalEither f_goalCall f_goOn f_outAnswer f_outFailure f_outCut f_outPending f_firstVariable f_maxLevel f_maxCalls f_maxSize f_termCount f_goalCount f_searching f_queryGoal f_queryWidth f_levelNow f_pendingCount f_nextCount f_answerCount f_failureCount f_cutCount f_trailTop f_callsDone f_choicesLeft f_neqCount f_workTop f_walkTop f_loaded f_numberedCount f_endUnknownCount f_constraintsReady f_relevantMask f_keptCount a_termKind a_termLeft a_termRight a_termSize a_goalKind a_goalFirst a_goalSecond a_goalThird a_goalFourth a_goalSize a_relationGoal a_pendingPath a_nextPath a_answerPath a_link a_trail a_neqLeft a_neqRight a_workGoal a_workFrame a_stackA a_stackB a_walk a_numberOf a_numbered a_endUnknown a_implied a_kept a_sightings a_lastSeen n (nI m) (nI i) := by
  intro d
  induction d with
  | zero =>
    intro m i n hm hx hi hn hp
    obtain ⟨n, rfl⟩ : ∃ k, n = k + 1 := ⟨n - 1, by omega⟩
    obtain ⟨h1, h2⟩ := rs_nx_inv hx
    have h1' : rs_lk a_link m = none := h1
    have hl : a_link m = -1 := by
      rcases hR m hm with e | ⟨k, hk, e⟩
      · exact e
      · rw [rs_lk_s hm hk e] at h1'; exact absurd h1' (by simp)
    refine br_f (nI_ge (a := i) (b := 1600) (by omega) (by decide)) ⟨vp_in_nI hm (by decide), nm_r (e' := (-1 : Int32)) (by rw [nI_clamp (by omega)]; exact hl) (br_f (by decide) ?_)⟩
    by_cases h7 : 704 ≤ m
    · exact br_t (nI_le (a := 704) h7 (by omega)) hp
    · refine br_f (nI_ge (b := 704) (by omega) (by decide)) ⟨rs_in63 (by omega), br_f ?_ hp⟩
      rw [rs_at63 (by omega), (hT.2 (m % 64) (by omega)).1]
      have := rs_TX_k hT.1 (t := m % 64) (by omega)
      intro z
      have z' := (nI_eq (b := 1) (by omega) (by decide)).mp z
      have h2' : 704 ≤ m ∨ T.1 (m % 64) ≠ 1 := h2
      omega
  | succ d ih =>
    intro m i n hm hx hi hn hp
    cases e : rs_nx T (rs_lk a_link) m with
    | none =>
      rw [rs_fd_stop e] at hx hp
      obtain ⟨n, rfl⟩ : ∃ k, n = k + 1 := ⟨n - 1, by omega⟩
      obtain ⟨h1, h2⟩ := rs_nx_inv hx
      have hl : a_link m = -1 := by
        rcases hR m hm with e | ⟨k, hk, e⟩
        · exact e
        · rw [rs_lk_s hm hk e] at h1; exact absurd h1 (by simp)
      refine br_f (nI_ge (a := i) (b := 1600) (by omega) (by decide)) ⟨vp_in_nI hm (by decide), nm_r (e' := (-1 : Int32)) (by rw [nI_clamp (by omega)]; exact hl) (br_f (by decide) ?_)⟩
      by_cases h7 : 704 ≤ m
      · exact br_t (nI_le (a := 704) h7 (by omega)) hp
      · refine br_f (nI_ge (b := 704) (by omega) (by decide)) ⟨rs_in63 (by omega), br_f ?_ hp⟩
        rw [rs_at63 (by omega), (hT.2 (m % 64) (by omega)).1]
        have := rs_TX_k hT.1 (t := m % 64) (by omega)
        intro z
        have z' := (nI_eq (b := 1) (by omega) (by decide)).mp z
        omega
    | some k =>
      rw [rs_fd_s e] at hx hp
      have hk := rs_nx_lt' hT.1 hR hm e
      obtain ⟨n, rfl⟩ : ∃ k, n = k + 1 := ⟨n - 1, by omega⟩
      have key := ih k (i + 1) n hk hx (by omega) (by omega) hp
      rcases rs_nx_some e with e | ⟨e, h1, h2, h3⟩
      · have hl : a_link m = nI k := by
          rcases hR m hm with e2 | ⟨k', hk', e2⟩
          · rw [rs_lk_n e2] at e; exact absurd e (by simp)
          · rw [rs_lk_s hm hk' e2] at e
            injection e with e
            rw [← e]; exact e2
        exact br_f (nI_ge (a := i) (b := 1600) (by omega) (by decide)) ⟨vp_in_nI hm (by decide), nm_r (e' := nI k) (by rw [nI_clamp (by omega)]; exact hl) (br_t (nI_pos' (by omega)) (nm_r (nI_1 i) key))⟩
      · have hl : a_link m = -1 := by
          rcases hR m hm with e2 | ⟨k', hk', e2⟩
          · exact e2
          · rw [rs_lk_s hm hk' e2] at e; exact absurd e (by simp)
        refine br_f (nI_ge (a := i) (b := 1600) (by omega) (by decide)) ⟨vp_in_nI hm (by decide), nm_r (e' := (-1 : Int32)) (by rw [nI_clamp (by omega)]; exact hl) (br_f (by decide) (br_f (nI_ge (b := 704) (by omega) (by decide)) ⟨rs_in63 (by omega), br_t ?_ ⟨rs_in63 (by omega), ?_⟩⟩))⟩
        · rw [rs_at63 (by omega), (hT.2 (m % 64) (by omega)).1, h2]; rfl
        · rw [rs_at63 (by omega), (hT.2 (m % 64) (by omega)).2.1, rs_shr6 (by omega)]
          refine xw_variableNode (nm_r (nI_1 i) ?_)
          rw [← h3]; exact key
theorem xw_find {post : Int32 → Prop} {nf tt n : Nat} (hT : rs_TA T a_termKind a_termLeft a_termRight) (hR : rs_LR a_link) (hL : rs_LK T nf (rs_lk a_link) tt) (hn : n < 770) (h : post (nI (rs_rt T (rs_lk a_link) n))) : wpX_find post (f_kindSymbol, f_kindSlot, f_kindPair, f_goalEq, f_goalNeq, f_goalBoth, f_goalEither, f_goalCall, f_goOn, f_outAnswer, f_outFailure, f_outCut, f_outPending, f_firstVariable, f_maxLevel, f_maxCalls, f_maxSize, f_termCount, f_goalCount, f_searching, f_queryGoal, f_queryWidth, f_levelNow, f_pendingCount, f_nextCount, f_answerCount, f_failureCount, f_cutCount, f_trailTop, f_callsDone, f_choicesLeft, f_neqCount, f_workTop, f_walkTop, f_loaded, f_numberedCount, f_endUnknownCount, f_constraintsReady, f_relevantMask, f_keptCount, a_termKind, a_termLeft, a_termRight, a_termSize, a_goalKind, a_goalFirst, a_goalSecond, a_goalThird, a_goalFourth, a_goalSize, a_relationGoal, a_pendingPath, a_nextPath, a_answerPath, a_link, a_trail, a_neqLeft, a_neqRight, a_workGoal, a_workFrame, a_stackA, a_stackB, a_walk, a_numberOf, a_numbered, a_endUnknown, a_implied, a_kept, a_sightings, a_lastSeen) (nI n) := by
  refine ⟨801, ?_⟩
  exact xw_find_4 hT hR 800 n 0 801 hn (rs_rt_root hT.1 hL hn) (by omega) (by omega) h
theorem xw_bind {post : SX → Prop} {a tt : Nat} {b : Int32} (ha : a < 770) (ht : tt < 770) (h : post (f_kindSymbol, f_kindSlot, f_kindPair, f_goalEq, f_goalNeq, f_goalBoth, f_goalEither, f_goalCall, f_goOn, f_outAnswer, f_outFailure, f_outCut, f_outPending, f_firstVariable, f_maxLevel, f_maxCalls, f_maxSize, f_termCount, f_goalCount, f_searching, f_queryGoal, f_queryWidth, f_levelNow, f_pendingCount, f_nextCount, f_answerCount, f_failureCount, f_cutCount, nI (tt + 1), f_callsDone, f_choicesLeft, f_neqCount, f_workTop, f_walkTop, f_loaded, f_numberedCount, f_endUnknownCount, f_constraintsReady, f_relevantMask, f_keptCount, a_termKind, a_termLeft, a_termRight, a_termSize, a_goalKind, a_goalFirst, a_goalSecond, a_goalThird, a_goalFourth, a_goalSize, a_relationGoal, a_pendingPath, a_nextPath, a_answerPath, upd a_link a b, upd a_trail tt (nI a), a_neqLeft, a_neqRight, a_workGoal, a_workFrame, a_stackA, a_stackB, a_walk, a_numberOf, a_numbered, a_endUnknown, a_implied, a_kept, a_sightings, a_lastSeen)) : wpX_bind post (f_kindSymbol, f_kindSlot, f_kindPair, f_goalEq, f_goalNeq, f_goalBoth, f_goalEither, f_goalCall, f_goOn, f_outAnswer, f_outFailure, f_outCut, f_outPending, f_firstVariable, f_maxLevel, f_maxCalls, f_maxSize, f_termCount, f_goalCount, f_searching, f_queryGoal, f_queryWidth, f_levelNow, f_pendingCount, f_nextCount, f_answerCount, f_failureCount, f_cutCount, nI tt, f_callsDone, f_choicesLeft, f_neqCount, f_workTop, f_walkTop, f_loaded, f_numberedCount, f_endUnknownCount, f_constraintsReady, f_relevantMask, f_keptCount, a_termKind, a_termLeft, a_termRight, a_termSize, a_goalKind, a_goalFirst, a_goalSecond, a_goalThird, a_goalFourth, a_goalSize, a_relationGoal, a_pendingPath, a_nextPath, a_answerPath, a_link, a_trail, a_neqLeft, a_neqRight, a_workGoal, a_workFrame, a_stackA, a_stackB, a_walk, a_numberOf, a_numbered, a_endUnknown, a_implied, a_kept, a_sightings, a_lastSeen) (nI a) b := by
  refine ⟨vp_in_nI ha (by decide), nm_r (e' := upd a_link a b) (by rw [nI_clamp (by omega)]) (br_f (nI_ge (b := 770) ht (by decide)) ⟨vp_in_nI ht (by decide), nm_r (e' := upd a_trail tt (nI a)) (by rw [nI_clamp (by omega)]) (nm_r (nI_1 tt) h)⟩)⟩
theorem xw_isPair {post : Int32 → Prop} {n : Nat} (hT : rs_TA T a_termKind a_termLeft a_termRight) (hn : n < 770) (h1 : n < 704 ∧ T.1 (n % 64) = 2 → post 1) (h0 : ¬ (n < 704 ∧ T.1 (n % 64) = 2) → post 0) : wpX_isPair post (f_kindSymbol, f_kindSlot, f_kindPair, f_goalEq, f_goalNeq, f_goalBoth, f_goalEither, f_goalCall, f_goOn, f_outAnswer, f_outFailure, f_outCut, f_outPending, f_firstVariable, f_maxLevel, f_maxCalls, f_maxSize, f_termCount, f_goalCount, f_searching, f_queryGoal, f_queryWidth, f_levelNow, f_pendingCount, f_nextCount, f_answerCount, f_failureCount, f_cutCount, f_trailTop, f_callsDone, f_choicesLeft, f_neqCount, f_workTop, f_walkTop, f_loaded, f_numberedCount, f_endUnknownCount, f_constraintsReady, f_relevantMask, f_keptCount, a_termKind, a_termLeft, a_termRight, a_termSize, a_goalKind, a_goalFirst, a_goalSecond, a_goalThird, a_goalFourth, a_goalSize, a_relationGoal, a_pendingPath, a_nextPath, a_answerPath, a_link, a_trail, a_neqLeft, a_neqRight, a_workGoal, a_workFrame, a_stackA, a_stackB, a_walk, a_numberOf, a_numbered, a_endUnknown, a_implied, a_kept, a_sightings, a_lastSeen) (nI n) := by
  by_cases h7 : 704 ≤ n
  · exact br_t (nI_le (a := 704) h7 (by omega)) (h0 (by omega))
  · refine br_f (nI_ge (b := 704) (by omega) (by decide)) ⟨rs_in63 (by omega), ?_⟩
    rw [rs_at63 (by omega), (hT.2 (n % 64) (by omega)).1]
    have := rs_TX_k hT.1 (t := n % 64) (by omega)
    by_cases hk : T.1 (n % 64) = 2
    · exact br_t (by rw [hk]; rfl) (h1 ⟨by omega, hk⟩)
    · exact br_f (fun z => hk ((nI_eq (b := 2) (by omega) (by decide)).mp z)) (h0 (by omega))
theorem xw_sameSymbol {post : Int32 → Prop} {a b : Nat} (hT : rs_TA T a_termKind a_termLeft a_termRight) (ha : a < 770) (hb : b < 770) (h1 : T.1 (a % 64) = 0 → T.1 (b % 64) = 0 → T.2.1 (a % 64) = T.2.1 (b % 64) → post 1) (h0 : ¬ (T.1 (a % 64) = 0 ∧ T.1 (b % 64) = 0 ∧ T.2.1 (a % 64) = T.2.1 (b % 64)) → post 0) : wpX_sameSymbol post (f_kindSymbol, f_kindSlot, f_kindPair, f_goalEq, f_goalNeq, f_goalBoth, f_goalEither, f_goalCall, f_goOn, f_outAnswer, f_outFailure, f_outCut, f_outPending, f_firstVariable, f_maxLevel, f_maxCalls, f_maxSize, f_termCount, f_goalCount, f_searching, f_queryGoal, f_queryWidth, f_levelNow, f_pendingCount, f_nextCount, f_answerCount, f_failureCount, f_cutCount, f_trailTop, f_callsDone, f_choicesLeft, f_neqCount, f_workTop, f_walkTop, f_loaded, f_numberedCount, f_endUnknownCount, f_constraintsReady, f_relevantMask, f_keptCount, a_termKind, a_termLeft, a_termRight, a_termSize, a_goalKind, a_goalFirst, a_goalSecond, a_goalThird, a_goalFourth, a_goalSize, a_relationGoal, a_pendingPath, a_nextPath, a_answerPath, a_link, a_trail, a_neqLeft, a_neqRight, a_workGoal, a_workFrame, a_stackA, a_stackB, a_walk, a_numberOf, a_numbered, a_endUnknown, a_implied, a_kept, a_sightings, a_lastSeen) (nI a) (nI b) := by
  have ka := rs_TX_k hT.1 (t := a % 64) (by omega)
  have kb := rs_TX_k hT.1 (t := b % 64) (by omega)
  refine nm_r (rs_and63 (by omega)) (nm_r (rs_and63 (by omega)) ⟨vp_in_nI (by omega) (by decide), ?_⟩)
  rw [nI_clamp (n := a % 64) (by omega), nI_clamp (n := b % 64) (by omega), (hT.2 (a % 64) (by omega)).1, (hT.2 (b % 64) (by omega)).1, (hT.2 (a % 64) (by omega)).2.1, (hT.2 (b % 64) (by omega)).2.1]
  by_cases e1 : T.1 (a % 64) = 0
  · refine br_t (by rw [e1]; rfl) ⟨vp_in_nI (by omega) (by decide), ?_⟩
    by_cases e2 : T.1 (b % 64) = 0
    · refine br_t (by rw [e2]; rfl) ⟨vp_in_nI (by omega) (by decide), vp_in_nI (by omega) (by decide), ?_⟩
      by_cases e3 : T.2.1 (a % 64) = T.2.1 (b % 64)
      · exact br_t (by rw [e3]) (h1 e1 e2 e3)
      · exact br_f (fun z => e3 ((nI_eq (by omega) (by omega)).mp z)) (h0 (by omega))
    · exact br_f (fun z => e2 ((nI_eq (b := 0) (by omega) (by decide)).mp z)) (h0 (by omega))
  · exact br_f (fun z => e1 ((nI_eq (b := 0) (by omega) (by decide)).mp z)) (h0 (by omega))
theorem xw_rightOf {post : Int32 → Prop} {n : Nat} (hT : rs_TA T a_termKind a_termLeft a_termRight) (hn : n < 770) (h : post (nI (rs_rg T n))) : wpX_rightOf post (f_kindSymbol, f_kindSlot, f_kindPair, f_goalEq, f_goalNeq, f_goalBoth, f_goalEither, f_goalCall, f_goOn, f_outAnswer, f_outFailure, f_outCut, f_outPending, f_firstVariable, f_maxLevel, f_maxCalls, f_maxSize, f_termCount, f_goalCount, f_searching, f_queryGoal, f_queryWidth, f_levelNow, f_pendingCount, f_nextCount, f_answerCount, f_failureCount, f_cutCount, f_trailTop, f_callsDone, f_choicesLeft, f_neqCount, f_workTop, f_walkTop, f_loaded, f_numberedCount, f_endUnknownCount, f_constraintsReady, f_relevantMask, f_keptCount, a_termKind, a_termLeft, a_termRight, a_termSize, a_goalKind, a_goalFirst, a_goalSecond, a_goalThird, a_goalFourth, a_goalSize, a_relationGoal, a_pendingPath, a_nextPath, a_answerPath, a_link, a_trail, a_neqLeft, a_neqRight, a_workGoal, a_workFrame, a_stackA, a_stackB, a_walk, a_numberOf, a_numbered, a_endUnknown, a_implied, a_kept, a_sightings, a_lastSeen) (nI n) := by
  refine nm_r (rs_and63 (by omega)) ⟨vp_in_nI (by omega) (by decide), ?_⟩
  rw [nI_clamp (n := n % 64) (by omega), (hT.2 (n % 64) (by omega)).2.2, pk_sub (by omega), nI_add]
  exact h
theorem xw_leftOf {post : Int32 → Prop} {n : Nat} (hT : rs_TA T a_termKind a_termLeft a_termRight) (hn : n < 770) (h : post (nI (rs_lf T n))) : wpX_leftOf post (f_kindSymbol, f_kindSlot, f_kindPair, f_goalEq, f_goalNeq, f_goalBoth, f_goalEither, f_goalCall, f_goOn, f_outAnswer, f_outFailure, f_outCut, f_outPending, f_firstVariable, f_maxLevel, f_maxCalls, f_maxSize, f_termCount, f_goalCount, f_searching, f_queryGoal, f_queryWidth, f_levelNow, f_pendingCount, f_nextCount, f_answerCount, f_failureCount, f_cutCount, f_trailTop, f_callsDone, f_choicesLeft, f_neqCount, f_workTop, f_walkTop, f_loaded, f_numberedCount, f_endUnknownCount, f_constraintsReady, f_relevantMask, f_keptCount, a_termKind, a_termLeft, a_termRight, a_termSize, a_goalKind, a_goalFirst, a_goalSecond, a_goalThird, a_goalFourth, a_goalSize, a_relationGoal, a_pendingPath, a_nextPath, a_answerPath, a_link, a_trail, a_neqLeft, a_neqRight, a_workGoal, a_workFrame, a_stackA, a_stackB, a_walk, a_numberOf, a_numbered, a_endUnknown, a_implied, a_kept, a_sightings, a_lastSeen) (nI n) := by
  refine nm_r (rs_and63 (by omega)) ⟨vp_in_nI (by omega) (by decide), ?_⟩
  rw [nI_clamp (n := n % 64) (by omega), (hT.2 (n % 64) (by omega)).2.1, pk_sub (by omega), nI_add]
  exact h
theorem xw_pushParts {post : Int32 → SX → Prop} {a b k : Nat} (hT : rs_TA T a_termKind a_termLeft a_termRight) (ha : a < 770) (hb : b < 770) (hk : k + 2 ≤ 1600) (h : post (nI (k + 2)) (f_kindSymbol, f_kindSlot, f_kindPair, f_goalEq, f_goalNeq, f_goalBoth, f_goalEither, f_goalCall, f_goOn, f_outAnswer, f_outFailure, f_outCut, f_outPending, f_firstVariable, f_maxLevel, f_maxCalls, f_maxSize, f_termCount, f_goalCount, f_searching, f_queryGoal, f_queryWidth, f_levelNow, f_pendingCount, f_nextCount, f_answerCount, f_failureCount, f_cutCount, f_trailTop, f_callsDone, f_choicesLeft, f_neqCount, f_workTop, f_walkTop, f_loaded, f_numberedCount, f_endUnknownCount, f_constraintsReady, f_relevantMask, f_keptCount, a_termKind, a_termLeft, a_termRight, a_termSize, a_goalKind, a_goalFirst, a_goalSecond, a_goalThird, a_goalFourth, a_goalSize, a_relationGoal, a_pendingPath, a_nextPath, a_answerPath, a_link, a_trail, a_neqLeft, a_neqRight, a_workGoal, a_workFrame, upd (upd a_stackA k (nI (rs_rg T a))) (k + 1) (nI (rs_lf T a)), upd (upd a_stackB k (nI (rs_rg T b))) (k + 1) (nI (rs_lf T b)), a_walk, a_numberOf, a_numbered, a_endUnknown, a_implied, a_kept, a_sightings, a_lastSeen)) : wpX_pushParts post (f_kindSymbol, f_kindSlot, f_kindPair, f_goalEq, f_goalNeq, f_goalBoth, f_goalEither, f_goalCall, f_goOn, f_outAnswer, f_outFailure, f_outCut, f_outPending, f_firstVariable, f_maxLevel, f_maxCalls, f_maxSize, f_termCount, f_goalCount, f_searching, f_queryGoal, f_queryWidth, f_levelNow, f_pendingCount, f_nextCount, f_answerCount, f_failureCount, f_cutCount, f_trailTop, f_callsDone, f_choicesLeft, f_neqCount, f_workTop, f_walkTop, f_loaded, f_numberedCount, f_endUnknownCount, f_constraintsReady, f_relevantMask, f_keptCount, a_termKind, a_termLeft, a_termRight, a_termSize, a_goalKind, a_goalFirst, a_goalSecond, a_goalThird, a_goalFourth, a_goalSize, a_relationGoal, a_pendingPath, a_nextPath, a_answerPath, a_link, a_trail, a_neqLeft, a_neqRight, a_workGoal, a_workFrame, a_stackA, a_stackB, a_walk, a_numberOf, a_numbered, a_endUnknown, a_implied, a_kept, a_sightings, a_lastSeen) (nI a) (nI b) (nI k) := by
  have e2 : nI k + 2 = nI (k + 2) := nI_add k 2
  have e1 : nI k + 1 = nI (k + 1) := nI_1 k
  unfold wpX_pushParts
  dsimp only
  rw [e2, e1]
  refine br_t (nI_le (b := 1600) hk (by decide)) ?_
  refine xw_rightOf hT ha ⟨vp_in_nI (by omega) (by decide), nm_r (e' := upd a_stackA k (nI (rs_rg T a))) (by rw [nI_clamp (by omega)]) ?_⟩
  refine xw_rightOf hT hb ⟨vp_in_nI (by omega) (by decide), nm_r (e' := upd a_stackB k (nI (rs_rg T b))) (by rw [nI_clamp (by omega)]) ?_⟩
  refine xw_leftOf hT ha ⟨vp_in_nI (by omega) (by decide), nm_r (e' := upd (upd a_stackA k (nI (rs_rg T a))) (k + 1) (nI (rs_lf T a))) (by rw [nI_clamp (by omega)]) ?_⟩
  refine xw_leftOf hT hb ⟨vp_in_nI (by omega) (by decide), nm_r (e' := upd (upd a_stackB k (nI (rs_rg T b))) (k + 1) (nI (rs_lf T b))) (by rw [nI_clamp (by omega)]) ?_⟩
  exact h
end
end
section
/-! merging over the arrays -/
def rs_SK (A B : Nat → Int32) : List (Nat × Nat) → Prop
  | [] => True
  | (p, q) :: S => A S.length = nI p ∧ B S.length = nI q ∧ rs_SK A B S
theorem rs_SK_up {A B A' B' : Nat → Int32} : ∀ {S : List (Nat × Nat)}, rs_SK A B S → (∀ i, i < S.length → A' i = A i ∧ B' i = B i) → rs_SK A' B' S
  | [], _, _ => trivial
  | (p, q) :: S, h, e => by
    obtain ⟨h1, h2, h3⟩ := h
    obtain ⟨e1, e2⟩ := e S.length (by rw [List.length_cons]; omega)
    exact ⟨e1.trans h1, e2.trans h2, rs_SK_up h3 (fun i hi => e i (by rw [List.length_cons]; omega))⟩
/-- what is written on the trail since m -/
def rs_TR (L0 : Nat → Int32) (m : Nat) (L tr : Nat → Int32) (tt : Nat) : Prop :=
  m ≤ tt ∧ tt ≤ 770 ∧ (∀ i, m ≤ i → i < tt → ∃ n, n < 770 ∧ tr i = nI n ∧ L0 n = -1) ∧ ∀ n, L n = L0 n ∨ ∃ i, m ≤ i ∧ i < tt ∧ tr i = nI n
theorem rs_TR_0 {L tr : Nat → Int32} {tt : Nat} (h : tt ≤ 770) : rs_TR L tt L tr tt :=
  ⟨Nat.le_refl _, h, fun i h1 h2 => absurd h1 (by omega), fun _ => Or.inl rfl⟩
theorem rs_TR_up {L0 L tr : Nat → Int32} {m tt a : Nat} {b : Int32} (h : rs_TR L0 m L tr tt) (ha : a < 770) (hL : L a = -1) (ht : tt < 770) : rs_TR L0 m (upd L a b) (upd tr tt (nI a)) (tt + 1) := by
  obtain ⟨h1, h2, h3, h4⟩ := h
  refine ⟨by omega, by omega, ?_, ?_⟩
  · intro i i1 i2
    by_cases e : i = tt
    · subst e
      refine ⟨a, ha, if_pos rfl, ?_⟩
      rcases h4 a with z | ⟨j, j1, j2, j3⟩
      · rw [← z]; exact hL
      · obtain ⟨n, n1, n2, n3⟩ := h3 j j1 j2
        rw [n2] at j3
        have := (nI_eq (by omega) (by omega)).mp j3
        rw [← this]; exact n3
    · obtain ⟨n, n1, n2, n3⟩ := h3 i i1 (by omega)
      exact ⟨n, n1, by rw [show upd tr tt (nI a) i = tr i from if_neg e]; exact n2, n3⟩
  · intro n
    by_cases e : n = a
    · subst e
      exact Or.inr ⟨tt, h1, by omega, if_pos rfl⟩
    · rw [show upd L a b n = L n from if_neg e]
      rcases h4 n with z | ⟨j, j1, j2, j3⟩
      · exact Or.inl z
      · exact Or.inr ⟨j, j1, by omega, by rw [show upd tr tt (nI a) j = tr j from if_neg (by omega)]; exact j3⟩
theorem rs_tkn_ne {T : rs_T} (hT : rs_TX T) {L : Nat → Option Nat} {a b : Nat} (ha : a < 704) (hb : b < 704) (ra : rs_nx T L a = none) (rb : rs_nx T L b = none) (h : ¬ (T.1 (a % 64) = 2 ∧ T.1 (b % 64) = 2)) (h0 : ¬ (T.1 (a % 64) = 0 ∧ T.1 (b % 64) = 0 ∧ T.2.1 (a % 64) = T.2.1 (b % 64))) : rs_tkn T a ≠ rs_tkn T b := by
  have xa := (rs_nx_inv ra).2
  have xb := (rs_nx_inv rb).2
  have ka := rs_TX_k hT (t := a % 64) (by omega)
  have kb := rs_TX_k hT (t := b % 64) (by omega)
  unfold rs_tkn
  rw [if_neg (show ¬ 704 ≤ a by omega), if_neg (show ¬ 704 ≤ b by omega)]
  by_cases e1 : T.1 (a % 64) = 2
  · rw [if_pos e1, if_neg (by omega)]; omega
  · rw [if_neg e1]
    by_cases e2 : T.1 (b % 64) = 2
    · rw [if_pos e2]; omega
    · rw [if_neg e2]; omega
section
variable {f_kindSymbol f_kindSlot f_kindPair f_goalEq f_goalNeq f_goalBoth f_goalEither f_goalCall f_goOn f_outAnswer f_outFailure f_outCut f_outPending f_firstVariable f_maxLevel f_maxCalls f_maxSize f_termCount f_goalCount f_searching f_queryGoal f_queryWidth f_levelNow f_pendingCount f_nextCount f_answerCount f_failureCount f_cutCount f_trailTop f_callsDone f_choicesLeft f_neqCount f_workTop f_walkTop f_loaded f_numberedCount f_endUnknownCount f_constraintsReady f_relevantMask f_keptCount : Int32} {a_termKind a_termLeft a_termRight a_termSize a_goalKind a_goalFirst a_goalSecond a_goalThird a_goalFourth a_goalSize a_relationGoal a_pendingPath a_nextPath a_answerPath a_link a_trail a_neqLeft a_neqRight a_workGoal a_workFrame a_stackA a_stackB a_walk a_numberOf a_numbered a_endUnknown a_implied a_kept a_sightings a_lastSeen : Nat → Int32}
variable {T : rs_T} {nf m : Nat} {E : rs_V} {L0 : Nat → Int32}
theorem xw_merge_158_0 {post : Int32 → SX → Prop} (h : post 1 (f_kindSymbol, f_kindSlot, f_kindPair, f_goalEq, f_goalNeq, f_goalBoth, f_goalEither, f_goalCall, f_goOn, f_outAnswer, f_outFailure, f_outCut, f_outPending, f_firstVariable, f_maxLevel, f_maxCalls, f_maxSize, f_termCount, f_goalCount, f_searching, f_queryGoal, f_queryWidth, f_levelNow, f_pendingCount, f_nextCount, f_answerCount, f_failureCount, f_cutCount, f_trailTop, f_callsDone, f_choicesLeft, f_neqCount, f_workTop, f_walkTop, f_loaded, f_numberedCount, f_endUnknownCount, f_constraintsReady, f_relevantMask, f_keptCount, a_termKind, a_termLeft, a_termRight, a_termSize, a_goalKind, a_goalFirst, a_goalSecond, a_goalThird, a_goalFourth, a_goalSize, a_relationGoal, a_pendingPath, a_nextPath, a_answerPath, a_link, a_trail, a_neqLeft, a_neqRight, a_workGoal, a_workFrame, a_stackA, a_stackB, a_walk, a_numberOf, a_numbered, a_endUnknown, a_implied, a_kept, a_sightings, a_lastSeen)) : wX_merge_158 post 0 f_kindSymbol f_kindSlot f_kindPair f_goalEq f_goalNeq f_goalBoth f_goalEither f_goalCall f_goOn f_outAnswer f_outFailure f_outCut f_outPending f_firstVariable f_maxLevel f_maxCalls f_maxSize f_termCount f_goalCount f_searching f_queryGoal f_queryWidth f_levelNow f_pendingCount f_nextCount f_answerCount f_failureCount f_cutCount f_trailTop f_callsDone f_choicesLeft f_neqCount f_workTop f_walkTop f_loaded f_numberedCount f_endUnknownCount f_constraintsReady f_relevantMask f_keptCount a_termKind a_termLeft a_termRight a_termSize a_goalKind a_goalFirst a_goalSecond a_goalThird a_goalFourth a_goalSize a_relationGoal a_pendingPath a_nextPath a_answerPath a_link a_trail a_neqLeft a_neqRight a_workGoal a_workFrame a_stackA a_stackB a_walk a_numberOf a_numbered a_endUnknown a_implied a_kept a_sightings a_lastSeen := br_t rfl h
theorem xw_merge_19 {post : Int32 → SX → Prop} (hT : rs_TA T a_termKind a_termLeft a_termRight)
    (k1 : ∀ (a_link a_trail a_stackA a_stackB : Nat → Int32) (tt : Nat), rs_LR a_link → rs_MI T nf E (rs_lk a_link) tt [] → rs_TR L0 m a_link a_trail tt → post 1 (f_kindSymbol, f_kindSlot, f_kindPair, f_goalEq, f_goalNeq, f_goalBoth, f_goalEither, f_goalCall, f_goOn, f_outAnswer, f_outFailure, f_outCut, f_outPending, f_firstVariable, f_maxLevel, f_maxCalls, f_maxSize, f_termCount, f_goalCount, f_searching, f_queryGoal, f_queryWidth, f_levelNow, f_pendingCount, f_nextCount, f_answerCount, f_failureCount, f_cutCount, nI tt, f_callsDone, f_choicesLeft, f_neqCount, f_workTop, f_walkTop, f_loaded, f_numberedCount, f_endUnknownCount, f_constraintsReady, f_relevantMask, f_keptCount, a_termKind, a_termLeft, a_termRight, a_termSize, a_goalKind, a_goalFirst, a_goalSecond, a_goalThird, a_goalFourth, a_goalSize, a_relationGoal, a_pendingPath, a_nextPath, a_answerPath, a_link, a_trail, a_neqLeft, a_neqRight, a_workGoal, a_workFrame, a_stackA, a_stackB, a_walk, a_numberOf, a_numbered, a_endUnknown, a_implied, a_kept, a_sightings, a_lastSeen))
    (k0 : (∀ θ, rs_cp θ → ¬ E θ) → ∀ (a_link a_trail a_stackA a_stackB : Nat → Int32) (tt : Nat), rs_TR L0 m a_link a_trail tt → post 0 (f_kindSymbol, f_kindSlot, f_kindPair, f_goalEq, f_goalNeq, f_goalBoth, f_goalEither, f_goalCall, f_goOn, f_outAnswer, f_outFailure, f_outCut, f_outPending, f_firstVariable, f_maxLevel, f_maxCalls, f_maxSize, f_termCount, f_goalCount, f_searching, f_queryGoal, f_queryWidth, f_levelNow, f_pendingCount, f_nextCount, f_answerCount, f_failureCount, f_cutCount, nI tt, f_callsDone, f_choicesLeft, f_neqCount, f_workTop, f_walkTop, f_loaded, f_numberedCount, f_endUnknownCount, f_constraintsReady, f_relevantMask, f_keptCount, a_termKind, a_termLeft, a_termRight, a_termSize, a_goalKind, a_goalFirst, a_goalSecond, a_goalThird, a_goalFourth, a_goalSize, a_relationGoal, a_pendingPath, a_nextPath, a_answerPath, a_link, a_trail, a_neqLeft, a_neqRight, a_workGoal, a_workFrame, a_stackA, a_stackB, a_walk, a_numberOf, a_numbered, a_endUnknown, a_implied, a_kept, a_sightings, a_lastSeen)) :
    ∀ (n i : Nat) (S : List (Nat × Nat)) (tt : Nat) (a_link a_trail a_stackA a_stackB : Nat → Int32), rs_LR a_link → rs_MI T nf E (rs_lk a_link) tt S → rs_SK a_stackA a_stackB S → S.length + 2 * (704 - rs_cn (rs_lk a_link) 704) + i ≤ 1600 → 1600 < n + i → rs_TR L0 m a_link a_trail tt →
      wX_merge_19 post n (nI S.length) (nI i) f_kindSymbol f_kindSlot f_kindPair f_goalEq f_goalNeq f_goalBoth f_goalEither f_goalCall f_goOn f_outAnswer f_outFailure f_outCut f_outPending f_firstVariable f_maxLevel f_maxCalls f_maxSize f_termCount f_goalCount f_searching f_queryGoal f_queryWidth f_levelNow f_pendingCount f_nextCount f_answerCount f_failureCount f_cutCount (nI tt) f_callsDone f_choicesLeft f_neqCount f_workTop f_walkTop f_loaded f_numberedCount f_endUnknownCount f_constraintsReady f_relevantMask f_keptCount a_termKind a_termLeft a_termRight a_termSize a_goalKind a_goalFirst a_goalSecond a_goalThird a_goalFourth a_goalSize a_relationGoal a_pendingPath a_nextPath a_answerPath a_link a_trail a_neqLeft a_neqRight a_workGoal a_workFrame a_stackA a_stackB a_walk a_numberOf a_numbered a_endUnknown a_implied a_kept a_sightings a_lastSeen := by
  intro n
  induction n with
  | zero => intro i S tt a_link a_trail a_stackA a_stackB _ _ _ h1 h2; omega
  | succ n ih =>
    intro i S tt a_link a_trail a_stackA a_stackB hR hM hS h1 h2 hTR
    have hL := hM.1
    have hX := hT.1
    cases S with
    | nil =>
      by_cases hi : 1600 ≤ i
      · exact br_t (nI_le (a := 1600) hi (by omega)) (xw_merge_158_0 (k1 _ _ _ _ _ hR hM hTR))
      · exact br_f (nI_ge (b := 1600) (by omega) (by decide)) (br_t (by decide) (xw_merge_158_0 (k1 _ _ _ _ _ hR hM hTR)))
    | cons pq S =>
      obtain ⟨p, q⟩ := pq
      obtain ⟨sA, sB, hS⟩ := hS
      rw [List.length_cons] at h1 ⊢
      have hcn := rs_cn_le (rs_lk a_link) 704
      obtain ⟨op, oq⟩ := hM.2.2.1 (p, q) (List.mem_cons_self ..)
      have lp : p < 770 := rs_op_lt hL.1 op
      have lq : q < 770 := rs_op_lt hL.1 oq
      have ra := rs_rt_root hX hL lp
      have rb := rs_rt_root hX hL lq
      have la := rs_rt_lt hX hL lp
      have lb := rs_rt_lt hX hL lq
      have oa := rs_rt_op hX hL op
      have ob := rs_rt_op hX hL oq
      have hlk : ∀ r, r < 770 → rs_nx T (rs_lk a_link) r = none → a_link r = -1 := by
        intro r hr hx
        rcases hR r hr with e | ⟨k, hk, e⟩
        · exact e
        · have := (rs_nx_inv hx).1
          rw [rs_lk_s hr hk e] at this
          exact absurd this (by simp)
      have htt : tt < 770 := by
        have e1 := hL.2.2.2
        have e2 := rs_cn_up (b := 0) (rs_nx_inv ra).1 770
        rw [if_pos la] at e2
        have e3 := rs_cn_le (rs_up (rs_lk a_link) (rs_rt T (rs_lk a_link) p) 0) 770
        omega
      generalize ea : rs_rt T (rs_lk a_link) p = a at *
      generalize eb : rs_rt T (rs_lk a_link) q = b at *
      refine br_f (nI_ge (b := 1600) (by omega) (by decide)) (br_f (nI_nle (by omega) (by omega)) (nm_r (pk_m1 S.length) ⟨vp_in_nI (by omega) (by decide), ?_⟩))
      rw [nI_clamp (n := S.length) (by omega), sA, sB]
      refine xw_find hT hR hL lp ?_
      rw [ea]
      refine ⟨vp_in_nI (by omega) (by decide), xw_find hT hR hL lq ?_⟩
      rw [eb]
      by_cases hab : a = b
      · refine br_t (by rw [hab]) (nm_r (nI_1 i) ?_)
        exact ih (i + 1) S tt a_link a_trail a_stackA a_stackB hR (rs_MI_same hX hM (by rw [ea, eb, hab])) hS (by omega) (by omega) hTR
      · refine br_f (fun z => hab ((nI_eq (by omega) (by omega)).mp z)) ?_
        by_cases h7 : a < 704
        · refine br_t (nI_lt (b := 704) h7 (by decide)) ?_
          by_cases h8 : b < 704
          · refine br_t (nI_lt (b := 704) h8 (by decide)) ?_
            have hsym : ¬ (T.1 (a % 64) = 2 ∧ T.1 (b % 64) = 2) → wX_merge_121 post (wX_merge_19 post n) (nI S.length) (nI i) (nI a) (nI b) f_kindSymbol f_kindSlot f_kindPair f_goalEq f_goalNeq f_goalBoth f_goalEither f_goalCall f_goOn f_outAnswer f_outFailure f_outCut f_outPending f_firstVariable f_maxLevel f_maxCalls f_maxSize f_termCount f_goalCount f_searching f_queryGoal f_queryWidth f_levelNow f_pendingCount f_nextCount f_answerCount f_failureCount f_cutCount (nI tt) f_callsDone f_choicesLeft f_neqCount f_workTop f_walkTop f_loaded f_numberedCount f_endUnknownCount f_constraintsReady f_relevantMask f_keptCount a_termKind a_termLeft a_termRight a_termSize a_goalKind a_goalFirst a_goalSecond a_goalThird a_goalFourth a_goalSize a_relationGoal a_pendingPath a_nextPath a_answerPath a_link a_trail a_neqLeft a_neqRight a_workGoal a_workFrame a_stackA a_stackB a_walk a_numberOf a_numbered a_endUnknown a_implied a_kept a_sightings a_lastSeen := by
              intro hnp
              refine xw_sameSymbol hT la lb (fun e1 e2 e3 => br_f (by decide) (nm_r (nI_1 i) ?_)) (fun e => br_t rfl ?_)
              · exact ih (i + 1) S tt a_link a_trail a_stackA a_stackB hR (rs_MI_sym hX hM ea eb h7 h8 e1 e2 e3) hS (by omega) (by omega) hTR
              · exact k0 (rs_MI_clash hX hM ea eb h7 h8 (rs_tkn_ne hX h7 h8 ra rb hnp e)) _ _ _ _ _ hTR
            refine xw_isPair hT la (fun hpa => br_f (by decide) ?_) (fun hpa => br_t rfl (hsym (by omega)))
            refine xw_isPair hT lb (fun hpb => br_f (by decide) ?_) (fun hpb => br_t rfl (hsym (by omega)))
            have hM' := rs_MI_bind hX hM (Or.inl ⟨ea, eb⟩) hab (fun _ => ⟨hpa.2, h8, hpb.2⟩) (Or.inr ⟨h7, rfl⟩)
            rw [← rs_lk_up la lb] at hM'
            have ec : rs_cn (rs_lk (upd a_link a (nI b))) 704 = rs_cn (rs_lk a_link) 704 + 1 := by
              rw [rs_lk_up la lb, rs_cn_up (rs_nx_inv ra).1, if_pos h7]
            have hc2 := rs_cn_le (rs_lk (upd a_link a (nI b))) 704
            refine xw_bind la htt ?_
            refine xw_pushParts hT la lb (by omega) (nm_r (nI_1 i) ?_)
            refine ih (i + 1) _ (tt + 1) _ _ _ _ (rs_LR_up hR lb) hM' ?_ ?_ (by omega) (rs_TR_up hTR la (hlk a la ra) htt)
            · refine ⟨if_pos rfl, if_pos rfl, ?_, ?_, ?_⟩
              · rw [show ∀ x : Nat → Int32, ∀ y, upd x (S.length + 1) y S.length = x S.length from fun x y => if_neg (by omega)]
                exact if_pos rfl
              · rw [show ∀ x : Nat → Int32, ∀ y, upd x (S.length + 1) y S.length = x S.length from fun x y => if_neg (by omega)]
                exact if_pos rfl
              · refine rs_SK_up hS (fun j hj => ⟨?_, ?_⟩)
                · exact (if_neg (by omega)).trans (if_neg (by omega))
                · exact (if_neg (by omega)).trans (if_neg (by omega))
            · simp only [List.length_cons]
              omega
          · refine br_f (nI_nlt (b := 704) (by omega) (by omega)) ?_
            refine xw_bind lb htt (nm_r (nI_1 i) ?_)
            have hM' := rs_MI_bind hX hM (Or.inr ⟨eb, ea⟩) (fun z => hab z.symm) (fun z => absurd z h8) (Or.inl ⟨by omega, rfl⟩)
            rw [← rs_lk_up lb la] at hM'
            have ec : rs_cn (rs_lk (upd a_link b (nI a))) 704 = rs_cn (rs_lk a_link) 704 := by
              rw [rs_lk_up lb la, rs_cn_up (rs_nx_inv rb).1, if_neg h8]; rfl
            exact ih (i + 1) S (tt + 1) _ _ _ _ (rs_LR_up hR la) hM' hS (by omega) (by omega) (rs_TR_up hTR lb (hlk b lb rb) htt)
        · refine br_f (nI_nlt (b := 704) (by omega) (by omega)) ?_
          refine xw_bind la htt (nm_r (nI_1 i) ?_)
          have hM' := rs_MI_bind hX hM (Or.inl ⟨ea, eb⟩) hab (fun z => absurd z h7) (Or.inl ⟨by omega, rfl⟩)
          rw [← rs_lk_up la lb] at hM'
          have ec : rs_cn (rs_lk (upd a_link a (nI b))) 704 = rs_cn (rs_lk a_link) 704 := by
            rw [rs_lk_up la lb, rs_cn_up (rs_nx_inv ra).1, if_neg h7]; rfl
          exact ih (i + 1) S (tt + 1) _ _ _ _ (rs_LR_up hR lb) hM' hS (by omega) (by omega) (rs_TR_up hTR la (hlk a la ra) htt)
theorem xw_merge {post : Int32 → SX → Prop} {tt p q : Nat} {C : rs_V} (hT : rs_TA T a_termKind a_termLeft a_termRight) (hR : rs_LR a_link) (hL : rs_LK T nf (rs_lk a_link) tt) (hC : rs_CC T (rs_lk a_link) []) (hM : ∀ θ, rs_cp θ → (C θ ↔ rs_M T (rs_lk a_link) θ)) (op : rs_op T nf p) (oq : rs_op T nf q)
    (k1 : ∀ (a_link' a_trail a_stackA a_stackB : Nat → Int32) (tt' : Nat), rs_LR a_link' → rs_MI T nf (rs_eqC C (rs_ns T p) (rs_ns T q)) (rs_lk a_link') tt' [] → rs_TR a_link tt a_link' a_trail tt' → post 1 (f_kindSymbol, f_kindSlot, f_kindPair, f_goalEq, f_goalNeq, f_goalBoth, f_goalEither, f_goalCall, f_goOn, f_outAnswer, f_outFailure, f_outCut, f_outPending, f_firstVariable, f_maxLevel, f_maxCalls, f_maxSize, f_termCount, f_goalCount, f_searching, f_queryGoal, f_queryWidth, f_levelNow, f_pendingCount, f_nextCount, f_answerCount, f_failureCount, f_cutCount, nI tt', f_callsDone, f_choicesLeft, f_neqCount, f_workTop, f_walkTop, f_loaded, f_numberedCount, f_endUnknownCount, f_constraintsReady, f_relevantMask, f_keptCount, a_termKind, a_termLeft, a_termRight, a_termSize, a_goalKind, a_goalFirst, a_goalSecond, a_goalThird, a_goalFourth, a_goalSize, a_relationGoal, a_pendingPath, a_nextPath, a_answerPath, a_link', a_trail, a_neqLeft, a_neqRight, a_workGoal, a_workFrame, a_stackA, a_stackB, a_walk, a_numberOf, a_numbered, a_endUnknown, a_implied, a_kept, a_sightings, a_lastSeen))
    (k0 : (∀ θ, rs_cp θ → ¬ rs_eqC C (rs_ns T p) (rs_ns T q) θ) → ∀ (a_link' a_trail a_stackA a_stackB : Nat → Int32) (tt' : Nat), rs_TR a_link tt a_link' a_trail tt' → post 0 (f_kindSymbol, f_kindSlot, f_kindPair, f_goalEq, f_goalNeq, f_goalBoth, f_goalEither, f_goalCall, f_goOn, f_outAnswer, f_outFailure, f_outCut, f_outPending, f_firstVariable, f_maxLevel, f_maxCalls, f_maxSize, f_termCount, f_goalCount, f_searching, f_queryGoal, f_queryWidth, f_levelNow, f_pendingCount, f_nextCount, f_answerCount, f_failureCount, f_cutCount, nI tt', f_callsDone, f_choicesLeft, f_neqCount, f_workTop, f_walkTop, f_loaded, f_numberedCount, f_endUnknownCount, f_constraintsReady, f_relevantMask, f_keptCount, a_termKind, a_termLeft, a_termRight, a_termSize, a_goalKind, a_goalFirst, a_goalSecond, a_goalThird, a_goalFourth, a_goalSize, a_relationGoal, a_pendingPath, a_nextPath, a_answerPath, a_link', a_trail, a_neqLeft, a_neqRight, a_workGoal, a_workFrame, a_stackA, a_stackB, a_walk, a_numberOf, a_numbered, a_endUnknown, a_implied, a_kept, a_sightings, a_lastSeen)) :
    wpX_merge post (f_kindSymbol, f_kindSlot, f_kindPair, f_goalEq, f_goalNeq, f_goalBoth, f_goalEither, f_goalCall, f_goOn, f_outAnswer, f_outFailure, f_outCut, f_outPending, f_firstVariable, f_maxLevel, f_maxCalls, f_maxSize, f_termCount, f_goalCount, f_searching, f_queryGoal, f_queryWidth, f_levelNow, f_pendingCount, f_nextCount, f_answerCount, f_failureCount, f_cutCount, nI tt, f_callsDone, f_choicesLeft, f_neqCount, f_workTop, f_walkTop, f_loaded, f_numberedCount, f_endUnknownCount, f_constraintsReady, f_relevantMask, f_keptCount, a_termKind, a_termLeft, a_termRight, a_termSize, a_goalKind, a_goalFirst, a_goalSecond, a_goalThird, a_goalFourth, a_goalSize, a_relationGoal, a_pendingPath, a_nextPath, a_answerPath, a_link, a_trail, a_neqLeft, a_neqRight, a_workGoal, a_workFrame, a_stackA, a_stackB, a_walk, a_numberOf, a_numbered, a_endUnknown, a_implied, a_kept, a_sightings, a_lastSeen) (nI p) (nI q) := by
  refine nm_e (nm_e ⟨1601, ?_⟩)
  refine xw_merge_19 (L0 := a_link) (m := tt) (E := rs_eqC C (rs_ns T p) (rs_ns T q)) (nf := nf) hT k1 k0 1601 0 [(p, q)] tt a_link a_trail _ _ hR ?_ ⟨if_pos rfl, if_pos rfl, trivial⟩ ?_ (by omega) (rs_TR_0 (rs_LK_tt hL))
  · refine ⟨hL, ?_, ?_, ?_⟩
    · intro R r1 r2 r3 r4 r5 r6
      exact hC R r1 r2 r3 r4 r5 (fun p hp => absurd hp List.not_mem_nil)
    · intro y hy
      rw [List.mem_singleton] at hy
      rw [hy]; exact ⟨op, oq⟩
    · intro θ hθ
      constructor
      · rintro ⟨h1, h2⟩
        exact ⟨(hM θ hθ).mpr h1, h2 (p, q) (List.mem_cons_self ..)⟩
      · rintro ⟨h1, h2⟩
        refine ⟨(hM θ hθ).mp h1, fun y hy => ?_⟩
        rw [List.mem_singleton] at hy
        rw [hy]; exact h2
  · have := rs_cn_le (rs_lk a_link) 704
    simp only [List.length_cons, List.length_nil]
    omega
end
end
section
/-! walking, fitting, unifying, comparing -/
def rs_WA (w : Nat → Int32) : List Nat → Prop
  | [] => True
  | n :: st => w st.length = nI n ∧ rs_WA w st
theorem rs_WA_up {w w' : Nat → Int32} : ∀ {st : List Nat}, rs_WA w st → (∀ i, i < st.length → w' i = w i) → rs_WA w' st
  | [], _, _ => trivial
  | n :: st, h, e => ⟨(e st.length (by rw [List.length_cons]; omega)).trans h.1, rs_WA_up h.2 (fun i hi => e i (by rw [List.length_cons]; omega))⟩
section
variable {f_kindSymbol f_kindSlot f_kindPair f_goalEq f_goalNeq f_goalBoth f_goalEither f_goalCall f_goOn f_outAnswer f_outFailure f_outCut f_outPending f_firstVariable f_maxLevel f_maxCalls f_maxSize f_termCount f_goalCount f_searching f_queryGoal f_queryWidth f_levelNow f_pendingCount f_nextCount f_answerCount f_failureCount f_cutCount f_trailTop f_callsDone f_choicesLeft f_neqCount f_workTop f_walkTop f_loaded f_numberedCount f_endUnknownCount f_constraintsReady f_relevantMask f_keptCount : Int32} {a_termKind a_termLeft a_termRight a_termSize a_goalKind a_goalFirst a_goalSecond a_goalThird a_goalFourth a_goalSize a_relationGoal a_pendingPath a_nextPath a_answerPath a_link a_trail a_neqLeft a_neqRight a_workGoal a_workFrame a_stackA a_stackB a_walk a_numberOf a_numbered a_endUnknown a_implied a_kept a_sightings a_lastSeen : Nat → Int32}
variable {T : rs_T} {nf tt : Nat}
theorem xw_startWalk {post : SX → Prop} {p : Int32} (h : post (f_kindSymbol, f_kindSlot, f_kindPair, f_goalEq, f_goalNeq, f_goalBoth, f_goalEither, f_goalCall, f_goOn, f_outAnswer, f_outFailure, f_outCut, f_outPending, f_firstVariable, f_maxLevel, f_maxCalls, f_maxSize, f_termCount, f_goalCount, f_searching, f_queryGoal, f_queryWidth, f_levelNow, f_pendingCount, f_nextCount, f_answerCount, f_failureCount, f_cutCount, f_trailTop, f_callsDone, f_choicesLeft, f_neqCount, f_workTop, 1, f_loaded, f_numberedCount, f_endUnknownCount, f_constraintsReady, f_relevantMask, f_keptCount, a_termKind, a_termLeft, a_termRight, a_termSize, a_goalKind, a_goalFirst, a_goalSecond, a_goalThird, a_goalFourth, a_goalSize, a_relationGoal, a_pendingPath, a_nextPath, a_answerPath, a_link, a_trail, a_neqLeft, a_neqRight, a_workGoal, a_workFrame, a_stackA, a_stackB, upd a_walk 0 p, a_numberOf, a_numbered, a_endUnknown, a_implied, a_kept, a_sightings, a_lastSeen)) : wpX_startWalk post (f_kindSymbol, f_kindSlot, f_kindPair, f_goalEq, f_goalNeq, f_goalBoth, f_goalEither, f_goalCall, f_goOn, f_outAnswer, f_outFailure, f_outCut, f_outPending, f_firstVariable, f_maxLevel, f_maxCalls, f_maxSize, f_termCount, f_goalCount, f_searching, f_queryGoal, f_queryWidth, f_levelNow, f_pendingCount, f_nextCount, f_answerCount, f_failureCount, f_cutCount, f_trailTop, f_callsDone, f_choicesLeft, f_neqCount, f_workTop, f_walkTop, f_loaded, f_numberedCount, f_endUnknownCount, f_constraintsReady, f_relevantMask, f_keptCount, a_termKind, a_termLeft, a_termRight, a_termSize, a_goalKind, a_goalFirst, a_goalSecond, a_goalThird, a_goalFourth, a_goalSize, a_relationGoal, a_pendingPath, a_nextPath, a_answerPath, a_link, a_trail, a_neqLeft, a_neqRight, a_workGoal, a_workFrame, a_stackA, a_stackB, a_walk, a_numberOf, a_numbered, a_endUnknown, a_implied, a_kept, a_sightings, a_lastSeen) p := nm_e h
/-- one step of the walk -/
theorem xw_nextNode {post : Int32 → SX → Prop} {n : Nat} {st : List Nat} (hT : rs_TA T a_termKind a_termLeft a_termRight) (hR : rs_LR a_link) (hL : rs_LK T nf (rs_lk a_link) tt) (hn : n < 770) (hw : rs_WA a_walk (n :: st)) (hs : st.length + 2 ≤ 64)
    (h : ∀ a_walk, rs_WA a_walk (rs_kd T (rs_rt T (rs_lk a_link) n) ++ st) → post (nI (rs_rt T (rs_lk a_link) n)) (f_kindSymbol, f_kindSlot, f_kindPair, f_goalEq, f_goalNeq, f_goalBoth, f_goalEither, f_goalCall, f_goOn, f_outAnswer, f_outFailure, f_outCut, f_outPending, f_firstVariable, f_maxLevel, f_maxCalls, f_maxSize, f_termCount, f_goalCount, f_searching, f_queryGoal, f_queryWidth, f_levelNow, f_pendingCount, f_nextCount, f_answerCount, f_failureCount, f_cutCount, f_trailTop, f_callsDone, f_choicesLeft, f_neqCount, f_workTop, nI (rs_kd T (rs_rt T (rs_lk a_link) n) ++ st).length, f_loaded, f_numberedCount, f_endUnknownCount, f_constraintsReady, f_relevantMask, f_keptCount, a_termKind, a_termLeft, a_termRight, a_termSize, a_goalKind, a_goalFirst, a_goalSecond, a_goalThird, a_goalFourth, a_goalSize, a_relationGoal, a_pendingPath, a_nextPath, a_answerPath, a_link, a_trail, a_neqLeft, a_neqRight, a_workGoal, a_workFrame, a_stackA, a_stackB, a_walk, a_numberOf, a_numbered, a_endUnknown, a_implied, a_kept, a_sightings, a_lastSeen)) :
    wpX_nextNode post (f_kindSymbol, f_kindSlot, f_kindPair, f_goalEq, f_goalNeq, f_goalBoth, f_goalEither, f_goalCall, f_goOn, f_outAnswer, f_outFailure, f_outCut, f_outPending, f_firstVariable, f_maxLevel, f_maxCalls, f_maxSize, f_termCount, f_goalCount, f_searching, f_queryGoal, f_queryWidth, f_levelNow, f_pendingCount, f_nextCount, f_answerCount, f_failureCount, f_cutCount, f_trailTop, f_callsDone, f_choicesLeft, f_neqCount, f_workTop, nI (n :: st).length, f_loaded, f_numberedCount, f_endUnknownCount, f_constraintsReady, f_relevantMask, f_keptCount, a_termKind, a_termLeft, a_termRight, a_termSize, a_goalKind, a_goalFirst, a_goalSecond, a_goalThird, a_goalFourth, a_goalSize, a_relationGoal, a_pendingPath, a_nextPath, a_answerPath, a_link, a_trail, a_neqLeft, a_neqRight, a_workGoal, a_workFrame, a_stackA, a_stackB, a_walk, a_numberOf, a_numbered, a_endUnknown, a_implied, a_kept, a_sightings, a_lastSeen) := by
  obtain ⟨w1, w2⟩ := hw
  have lr := rs_rt_lt hT.1 hL hn
  rw [List.length_cons]
  unfold wpX_nextNode
  dsimp only
  refine br_t (nI_lt (a := 0) (by omega) (by omega)) (nm_r (nI_pred st.length) ⟨vp_in_nI (by omega) (by decide), ?_⟩)
  rw [nI_clamp (n := st.length) (by omega), w1]
  refine xw_find hT hR hL hn ?_
  generalize rs_rt T (rs_lk a_link) n = r at *
  refine xw_isPair hT lr (fun hp => br_f (by decide) ?_) (fun hp => br_t rfl ?_)
  · have hk : rs_kd T r = [rs_lf T r, rs_rg T r] := if_pos hp
    rw [hk] at h
    have e2 : nI st.length + 2 = nI (st.length + 2) := nI_add st.length 2
    have e1 : nI st.length + 1 = nI (st.length + 1) := nI_1 st.length
    rw [e2, e1]
    refine br_f (nI_nlt (a := 64) hs (by decide)) ?_
    refine xw_rightOf hT lr ⟨vp_in_nI (by omega) (by decide), nm_e ?_⟩
    refine xw_leftOf hT lr ⟨vp_in_nI (by omega) (by decide), nm_r (e' := upd (upd a_walk st.length (nI (rs_rg T r))) (st.length + 1) (nI (rs_lf T r))) (by rw [nI_clamp (by omega)]) (nm_e ?_)⟩
    refine h _ ⟨if_pos rfl, ?_, ?_⟩
    · exact (if_neg (show st.length ≠ st.length + 1 by omega)).trans (if_pos rfl)
    · exact rs_WA_up w2 (fun i (hi : i < st.length) => (if_neg (show i ≠ st.length + 1 by omega)).trans (if_neg (show i ≠ st.length by omega)))
  · have hk : rs_kd T r = [] := if_neg hp
    rw [hk] at h
    exact h a_walk w2
theorem xw_nextNode_0 {post : Int32 → SX → Prop} (h : post (-1) (f_kindSymbol, f_kindSlot, f_kindPair, f_goalEq, f_goalNeq, f_goalBoth, f_goalEither, f_goalCall, f_goOn, f_outAnswer, f_outFailure, f_outCut, f_outPending, f_firstVariable, f_maxLevel, f_maxCalls, f_maxSize, f_termCount, f_goalCount, f_searching, f_queryGoal, f_queryWidth, f_levelNow, f_pendingCount, f_nextCount, f_answerCount, f_failureCount, f_cutCount, f_trailTop, f_callsDone, f_choicesLeft, f_neqCount, f_workTop, 0, f_loaded, f_numberedCount, f_endUnknownCount, f_constraintsReady, f_relevantMask, f_keptCount, a_termKind, a_termLeft, a_termRight, a_termSize, a_goalKind, a_goalFirst, a_goalSecond, a_goalThird, a_goalFourth, a_goalSize, a_relationGoal, a_pendingPath, a_nextPath, a_answerPath, a_link, a_trail, a_neqLeft, a_neqRight, a_workGoal, a_workFrame, a_stackA, a_stackB, a_walk, a_numberOf, a_numbered, a_endUnknown, a_implied, a_kept, a_sightings, a_lastSeen)) : wpX_nextNode post (f_kindSymbol, f_kindSlot, f_kindPair, f_goalEq, f_goalNeq, f_goalBoth, f_goalEither, f_goalCall, f_goOn, f_outAnswer, f_outFailure, f_outCut, f_outPending, f_firstVariable, f_maxLevel, f_maxCalls, f_maxSize, f_termCount, f_goalCount, f_searching, f_queryGoal, f_queryWidth, f_levelNow, f_pendingCount, f_nextCount, f_answerCount, f_failureCount, f_cutCount, f_trailTop, f_callsDone, f_choicesLeft, f_neqCount, f_workTop, 0, f_loaded, f_numberedCount, f_endUnknownCount, f_constraintsReady, f_relevantMask, f_keptCount, a_termKind, a_termLeft, a_termRight, a_termSize, a_goalKind, a_goalFirst, a_goalSecond, a_goalThird, a_goalFourth, a_goalSize, a_relationGoal, a_pendingPath, a_nextPath, a_answerPath, a_link, a_trail, a_neqLeft, a_neqRight, a_workGoal, a_workFrame, a_stackA, a_stackB, a_walk, a_numberOf, a_numbered, a_endUnknown, a_implied, a_kept, a_sightings, a_lastSeen) := br_f (by decide) h
/-- the node's string ends within k tokens -/
def rs_Fit (T : rs_T) (L : Nat → Option Nat) (st : List Nat) (k : Nat) : Prop := ∃ l, rs_WK T L st l ∧ l.length ≤ k
theorem rs_Fit_s {T : rs_T} {L : Nat → Option Nat} {n : Nat} {st : List Nat} {k : Nat} : rs_Fit T L (n :: st) (k + 1) ↔ rs_Fit T L (rs_kd T (rs_rt T L n) ++ st) k := by
  constructor
  · rintro ⟨l, h1, h2⟩
    cases l with
    | nil => exact absurd (show n :: st = [] from h1) (by simp)
    | cons a l =>
      obtain ⟨n', st', e, e1, e2⟩ := h1
      injection e with e3 e4
      subst e3 e4
      exact ⟨l, e2, by rw [List.length_cons] at h2; omega⟩
  · rintro ⟨l, h1, h2⟩
    exact ⟨rs_tkn T (rs_rt T L n) :: l, ⟨n, st, rfl, rfl, h1⟩, by rw [List.length_cons]; omega⟩
theorem rs_Fit_0 {T : rs_T} {L : Nat → Option Nat} {n : Nat} {st : List Nat} : ¬ rs_Fit T L (n :: st) 0 := by
  rintro ⟨l, h1, h2⟩
  cases l with
  | nil => exact absurd (show n :: st = [] from h1) (by simp)
  | cons a l => simp at h2
theorem xw_fits_7 {post : Int32 → SX → Prop} {ms : Nat} (hT : rs_TA T a_termKind a_termLeft a_termRight) (hR : rs_LR a_link) (hL : rs_LK T nf (rs_lk a_link) tt) (hms : ms ≤ 31) (P : Prop)
    (k1 : P → ∀ (a_walk : Nat → Int32) (f_walkTop : Int32), post 1 (f_kindSymbol, f_kindSlot, f_kindPair, f_goalEq, f_goalNeq, f_goalBoth, f_goalEither, f_goalCall, f_goOn, f_outAnswer, f_outFailure, f_outCut, f_outPending, f_firstVariable, f_maxLevel, f_maxCalls, nI ms, f_termCount, f_goalCount, f_searching, f_queryGoal, f_queryWidth, f_levelNow, f_pendingCount, f_nextCount, f_answerCount, f_failureCount, f_cutCount, f_trailTop, f_callsDone, f_choicesLeft, f_neqCount, f_workTop, f_walkTop, f_loaded, f_numberedCount, f_endUnknownCount, f_constraintsReady, f_relevantMask, f_keptCount, a_termKind, a_termLeft, a_termRight, a_termSize, a_goalKind, a_goalFirst, a_goalSecond, a_goalThird, a_goalFourth, a_goalSize, a_relationGoal, a_pendingPath, a_nextPath, a_answerPath, a_link, a_trail, a_neqLeft, a_neqRight, a_workGoal, a_workFrame, a_stackA, a_stackB, a_walk, a_numberOf, a_numbered, a_endUnknown, a_implied, a_kept, a_sightings, a_lastSeen)) (k0 : ¬ P → ∀ (a_walk : Nat → Int32) (f_walkTop : Int32), post 0 (f_kindSymbol, f_kindSlot, f_kindPair, f_goalEq, f_goalNeq, f_goalBoth, f_goalEither, f_goalCall, f_goOn, f_outAnswer, f_outFailure, f_outCut, f_outPending, f_firstVariable, f_maxLevel, f_maxCalls, nI ms, f_termCount, f_goalCount, f_searching, f_queryGoal, f_queryWidth, f_levelNow, f_pendingCount, f_nextCount, f_answerCount, f_failureCount, f_cutCount, f_trailTop, f_callsDone, f_choicesLeft, f_neqCount, f_workTop, f_walkTop, f_loaded, f_numberedCount, f_endUnknownCount, f_constraintsReady, f_relevantMask, f_keptCount, a_termKind, a_termLeft, a_termRight, a_termSize, a_goalKind, a_goalFirst, a_goalSecond, a_goalThird, a_goalFourth, a_goalSize, a_relationGoal, a_pendingPath, a_nextPath, a_answerPath, a_link, a_trail, a_neqLeft, a_neqRight, a_workGoal, a_workFrame, a_stackA, a_stackB, a_walk, a_numberOf, a_numbered, a_endUnknown, a_implied, a_kept, a_sightings, a_lastSeen)) :
    ∀ (k c j : Nat) (n : Nat) (st : List Nat) (a_walk : Nat → Int32), (∀ x, x ∈ n :: st → x < 770) → rs_WA a_walk (n :: st) → c + k = ms + 1 → k < j → (n :: st).length ≤ c → (P ↔ rs_Fit T (rs_lk a_link) (n :: st) k) → wX_fits_7 post j (nI c) f_kindSymbol f_kindSlot f_kindPair f_goalEq f_goalNeq f_goalBoth f_goalEither f_goalCall f_goOn f_outAnswer f_outFailure f_outCut f_outPending f_firstVariable f_maxLevel f_maxCalls (nI ms) f_termCount f_goalCount f_searching f_queryGoal f_queryWidth f_levelNow f_pendingCount f_nextCount f_answerCount f_failureCount f_cutCount f_trailTop f_callsDone f_choicesLeft f_neqCount f_workTop (nI (n :: st).length) f_loaded f_numberedCount f_endUnknownCount f_constraintsReady f_relevantMask f_keptCount a_termKind a_termLeft a_termRight a_termSize a_goalKind a_goalFirst a_goalSecond a_goalThird a_goalFourth a_goalSize a_relationGoal a_pendingPath a_nextPath a_answerPath a_link a_trail a_neqLeft a_neqRight a_workGoal a_workFrame a_stackA a_stackB a_walk a_numberOf a_numbered a_endUnknown a_implied a_kept a_sightings a_lastSeen := by
  intro k
  induction k with
  | zero =>
    intro c j n st a_walk hx hw hc hj hl hP
    obtain ⟨j, rfl⟩ : ∃ i, j = i + 1 := ⟨j - 1, by omega⟩
    exact br_t (nI_lt (by omega) (by omega)) (k0 (fun z => rs_Fit_0 (hP.mp z)) _ _)
  | succ k ih =>
    intro c j n st a_walk hx hw hc hj hl hP
    obtain ⟨j, rfl⟩ : ∃ i, j = i + 1 := ⟨j - 1, by omega⟩
    have hl' := hl
    rw [List.length_cons] at hl'
    refine br_f (nI_nlt (by omega) (by omega)) ?_
    refine xw_nextNode hT hR hL (hx n (List.mem_cons_self ..)) hw (by omega) (fun a_walk hw' => ?_)
    rw [rs_Fit_s] at hP
    have hx' : ∀ x, x ∈ rs_kd T (rs_rt T (rs_lk a_link) n) ++ st → x < 770 := by
      intro x hx1
      rcases List.mem_append.mp hx1 with z | z
      · exact rs_kd_lt hT.1 z
      · exact hx x (List.mem_cons_of_mem _ z)
    have hl2 : (rs_kd T (rs_rt T (rs_lk a_link) n) ++ st).length ≤ c + 1 := by
      rw [List.length_append]
      rcases rs_tkn_kd T (rs_rt T (rs_lk a_link) n) with ⟨_, z⟩ | ⟨_, z⟩
      · omega
      · rw [z, List.length_nil]; omega
    generalize rs_kd T (rs_rt T (rs_lk a_link) n) ++ st = st' at *
    cases st' with
    | nil =>
      exact br_t rfl (k1 (hP.mpr ⟨[], rfl, Nat.zero_le _⟩) _ _)
    | cons n' st' =>
      refine br_f (nI_ne0 (by rw [List.length_cons]; omega) (by omega)) (nm_r (nI_1 c) ?_)
      exact ih (c + 1) j n' st' a_walk hx' hw' (by omega) (by omega) hl2 hP
theorem xw_fits {post : Int32 → SX → Prop} {ms n : Nat} (hT : rs_TA T a_termKind a_termLeft a_termRight) (hR : rs_LR a_link) (hL : rs_LK T nf (rs_lk a_link) tt) (hms : ms ≤ 31) (h1 : 1 ≤ ms) (hn : n < 770)
    (k1 : rs_Fit T (rs_lk a_link) [n] ms → ∀ (a_walk : Nat → Int32) (f_walkTop : Int32), post 1 (f_kindSymbol, f_kindSlot, f_kindPair, f_goalEq, f_goalNeq, f_goalBoth, f_goalEither, f_goalCall, f_goOn, f_outAnswer, f_outFailure, f_outCut, f_outPending, f_firstVariable, f_maxLevel, f_maxCalls, nI ms, f_termCount, f_goalCount, f_searching, f_queryGoal, f_queryWidth, f_levelNow, f_pendingCount, f_nextCount, f_answerCount, f_failureCount, f_cutCount, f_trailTop, f_callsDone, f_choicesLeft, f_neqCount, f_workTop, f_walkTop, f_loaded, f_numberedCount, f_endUnknownCount, f_constraintsReady, f_relevantMask, f_keptCount, a_termKind, a_termLeft, a_termRight, a_termSize, a_goalKind, a_goalFirst, a_goalSecond, a_goalThird, a_goalFourth, a_goalSize, a_relationGoal, a_pendingPath, a_nextPath, a_answerPath, a_link, a_trail, a_neqLeft, a_neqRight, a_workGoal, a_workFrame, a_stackA, a_stackB, a_walk, a_numberOf, a_numbered, a_endUnknown, a_implied, a_kept, a_sightings, a_lastSeen)) (k0 : ¬ rs_Fit T (rs_lk a_link) [n] ms → ∀ (a_walk : Nat → Int32) (f_walkTop : Int32), post 0 (f_kindSymbol, f_kindSlot, f_kindPair, f_goalEq, f_goalNeq, f_goalBoth, f_goalEither, f_goalCall, f_goOn, f_outAnswer, f_outFailure, f_outCut, f_outPending, f_firstVariable, f_maxLevel, f_maxCalls, nI ms, f_termCount, f_goalCount, f_searching, f_queryGoal, f_queryWidth, f_levelNow, f_pendingCount, f_nextCount, f_answerCount, f_failureCount, f_cutCount, f_trailTop, f_callsDone, f_choicesLeft, f_neqCount, f_workTop, f_walkTop, f_loaded, f_numberedCount, f_endUnknownCount, f_constraintsReady, f_relevantMask, f_keptCount, a_termKind, a_termLeft, a_termRight, a_termSize, a_goalKind, a_goalFirst, a_goalSecond, a_goalThird, a_goalFourth, a_goalSize, a_relationGoal, a_pendingPath, a_nextPath, a_answerPath, a_link, a_trail, a_neqLeft, a_neqRight, a_workGoal, a_workFrame, a_stackA, a_stackB, a_walk, a_numberOf, a_numbered, a_endUnknown, a_implied, a_kept, a_sightings, a_lastSeen)) :
    wpX_fits post (f_kindSymbol, f_kindSlot, f_kindPair, f_goalEq, f_goalNeq, f_goalBoth, f_goalEither, f_goalCall, f_goOn, f_outAnswer, f_outFailure, f_outCut, f_outPending, f_firstVariable, f_maxLevel, f_maxCalls, nI ms, f_termCount, f_goalCount, f_searching, f_queryGoal, f_queryWidth, f_levelNow, f_pendingCount, f_nextCount, f_answerCount, f_failureCount, f_cutCount, f_trailTop, f_callsDone, f_choicesLeft, f_neqCount, f_workTop, f_walkTop, f_loaded, f_numberedCount, f_endUnknownCount, f_constraintsReady, f_relevantMask, f_keptCount, a_termKind, a_termLeft, a_termRight, a_termSize, a_goalKind, a_goalFirst, a_goalSecond, a_goalThird, a_goalFourth, a_goalSize, a_relationGoal, a_pendingPath, a_nextPath, a_answerPath, a_link, a_trail, a_neqLeft, a_neqRight, a_workGoal, a_workFrame, a_stackA, a_stackB, a_walk, a_numberOf, a_numbered, a_endUnknown, a_implied, a_kept, a_sightings, a_lastSeen) (nI n) := by
  unfold wpX_fits
  dsimp only
  refine xw_startWalk ?_
  refine ⟨ms + 1, ?_⟩
  refine xw_fits_7 hT hR hL hms (rs_Fit T (rs_lk a_link) [n] ms) k1 k0 ms 1 (ms + 1) n [] (upd a_walk 0 (nI n)) ?_ ⟨if_pos rfl, trivial⟩ (by omega) (by omega) (by simp) Iff.rfl
  intro x hx
  rw [List.mem_singleton] at hx
  omega
theorem xw_allFit_18 {post : Int32 → SX → Prop} {ms e : Nat} (hT : rs_TA T a_termKind a_termLeft a_termRight) (hR : rs_LR a_link) (hL : rs_LK T nf (rs_lk a_link) tt) (hms : ms ≤ 31) (h1 : 1 ≤ ms) (he : e ≤ 66)
    (k1 : (∀ v, v < e → rs_Fit T (rs_lk a_link) [704 + v] ms) → ∀ (a_walk : Nat → Int32) (f_walkTop : Int32), post 1 (f_kindSymbol, f_kindSlot, f_kindPair, f_goalEq, f_goalNeq, f_goalBoth, f_goalEither, f_goalCall, f_goOn, f_outAnswer, f_outFailure, f_outCut, f_outPending, f_firstVariable, f_maxLevel, f_maxCalls, nI ms, f_termCount, f_goalCount, f_searching, f_queryGoal, f_queryWidth, f_levelNow, f_pendingCount, f_nextCount, f_answerCount, f_failureCount, f_cutCount, f_trailTop, f_callsDone, f_choicesLeft, f_neqCount, f_workTop, f_walkTop, f_loaded, f_numberedCount, f_endUnknownCount, f_constraintsReady, f_relevantMask, f_keptCount, a_termKind, a_termLeft, a_termRight, a_termSize, a_goalKind, a_goalFirst, a_goalSecond, a_goalThird, a_goalFourth, a_goalSize, a_relationGoal, a_pendingPath, a_nextPath, a_answerPath, a_link, a_trail, a_neqLeft, a_neqRight, a_workGoal, a_workFrame, a_stackA, a_stackB, a_walk, a_numberOf, a_numbered, a_endUnknown, a_implied, a_kept, a_sightings, a_lastSeen)) (k0 : ¬ (∀ v, v < e → rs_Fit T (rs_lk a_link) [704 + v] ms) → ∀ (a_walk : Nat → Int32) (f_walkTop : Int32), post 0 (f_kindSymbol, f_kindSlot, f_kindPair, f_goalEq, f_goalNeq, f_goalBoth, f_goalEither, f_goalCall, f_goOn, f_outAnswer, f_outFailure, f_outCut, f_outPending, f_firstVariable, f_maxLevel, f_maxCalls, nI ms, f_termCount, f_goalCount, f_searching, f_queryGoal, f_queryWidth, f_levelNow, f_pendingCount, f_nextCount, f_answerCount, f_failureCount, f_cutCount, f_trailTop, f_callsDone, f_choicesLeft, f_neqCount, f_workTop, f_walkTop, f_loaded, f_numberedCount, f_endUnknownCount, f_constraintsReady, f_relevantMask, f_keptCount, a_termKind, a_termLeft, a_termRight, a_termSize, a_goalKind, a_goalFirst, a_goalSecond, a_goalThird, a_goalFourth, a_goalSize, a_relationGoal, a_pendingPath, a_nextPath, a_answerPath, a_link, a_trail, a_neqLeft, a_neqRight, a_workGoal, a_workFrame, a_stackA, a_stackB, a_walk, a_numberOf, a_numbered, a_endUnknown, a_implied, a_kept, a_sightings, a_lastSeen)) :
    ∀ (k v : Nat) (a_walk : Nat → Int32) (f_walkTop : Int32), v + k = e → (∀ w, w < v → rs_Fit T (rs_lk a_link) [704 + w] ms) → wX_allFit_18 post (nI (704 + e)) (k + 1) (nI (704 + v)) f_kindSymbol f_kindSlot f_kindPair f_goalEq f_goalNeq f_goalBoth f_goalEither f_goalCall f_goOn f_outAnswer f_outFailure f_outCut f_outPending f_firstVariable f_maxLevel f_maxCalls (nI ms) f_termCount f_goalCount f_searching f_queryGoal f_queryWidth f_levelNow f_pendingCount f_nextCount f_answerCount f_failureCount f_cutCount f_trailTop f_callsDone f_choicesLeft f_neqCount f_workTop f_walkTop f_loaded f_numberedCount f_endUnknownCount f_constraintsReady f_relevantMask f_keptCount a_termKind a_termLeft a_termRight a_termSize a_goalKind a_goalFirst a_goalSecond a_goalThird a_goalFourth a_goalSize a_relationGoal a_pendingPath a_nextPath a_answerPath a_link a_trail a_neqLeft a_neqRight a_workGoal a_workFrame a_stackA a_stackB a_walk a_numberOf a_numbered a_endUnknown a_implied a_kept a_sightings a_lastSeen := by
  intro k
  induction k with
  | zero =>
    intro v a_walk f_walkTop hv hw
    exact br_t (nI_le (by omega) (by omega)) (k1 (fun w hw' => hw w (by omega)) _ _)
  | succ k ih =>
    intro v a_walk f_walkTop hv hw
    refine br_f (nI_ge (by omega) (by omega)) ?_
    refine xw_fits hT hR hL hms h1 (by omega) (fun hf a_walk f_walkTop => br_f (by decide) (nm_r (nI_1 _) ?_)) (fun hf a_walk f_walkTop => br_t rfl (k0 (fun z => hf (z v (by omega))) _ _))
    refine ih (v + 1) a_walk f_walkTop (by omega) (fun w hw' => ?_)
    by_cases e : w = v
    · rw [e]; exact hf
    · exact hw w (by omega)
theorem xw_allFit {post : Int32 → SX → Prop} {ms : Nat} (hT : rs_TA T a_termKind a_termLeft a_termRight) (hR : rs_LR a_link) (hL : rs_LK T nf (rs_lk a_link) tt) (hms : ms ≤ 31) (h1 : 1 ≤ ms) (hf1 : 1 ≤ nf)
    (k1 : (∀ v, v < 6 * nf → rs_Fit T (rs_lk a_link) [704 + v] ms) → ∀ (a_walk : Nat → Int32) (f_walkTop : Int32), post 1 (f_kindSymbol, f_kindSlot, f_kindPair, f_goalEq, f_goalNeq, f_goalBoth, f_goalEither, f_goalCall, f_goOn, f_outAnswer, f_outFailure, f_outCut, f_outPending, f_firstVariable, f_maxLevel, f_maxCalls, nI ms, f_termCount, f_goalCount, f_searching, f_queryGoal, f_queryWidth, f_levelNow, f_pendingCount, f_nextCount, f_answerCount, f_failureCount, f_cutCount, f_trailTop, nI (nf - 1), f_choicesLeft, f_neqCount, f_workTop, f_walkTop, f_loaded, f_numberedCount, f_endUnknownCount, f_constraintsReady, f_relevantMask, f_keptCount, a_termKind, a_termLeft, a_termRight, a_termSize, a_goalKind, a_goalFirst, a_goalSecond, a_goalThird, a_goalFourth, a_goalSize, a_relationGoal, a_pendingPath, a_nextPath, a_answerPath, a_link, a_trail, a_neqLeft, a_neqRight, a_workGoal, a_workFrame, a_stackA, a_stackB, a_walk, a_numberOf, a_numbered, a_endUnknown, a_implied, a_kept, a_sightings, a_lastSeen)) (k0 : ¬ (∀ v, v < 6 * nf → rs_Fit T (rs_lk a_link) [704 + v] ms) → ∀ (a_walk : Nat → Int32) (f_walkTop : Int32), post 0 (f_kindSymbol, f_kindSlot, f_kindPair, f_goalEq, f_goalNeq, f_goalBoth, f_goalEither, f_goalCall, f_goOn, f_outAnswer, f_outFailure, f_outCut, f_outPending, f_firstVariable, f_maxLevel, f_maxCalls, nI ms, f_termCount, f_goalCount, f_searching, f_queryGoal, f_queryWidth, f_levelNow, f_pendingCount, f_nextCount, f_answerCount, f_failureCount, f_cutCount, f_trailTop, nI (nf - 1), f_choicesLeft, f_neqCount, f_workTop, f_walkTop, f_loaded, f_numberedCount, f_endUnknownCount, f_constraintsReady, f_relevantMask, f_keptCount, a_termKind, a_termLeft, a_termRight, a_termSize, a_goalKind, a_goalFirst, a_goalSecond, a_goalThird, a_goalFourth, a_goalSize, a_relationGoal, a_pendingPath, a_nextPath, a_answerPath, a_link, a_trail, a_neqLeft, a_neqRight, a_workGoal, a_workFrame, a_stackA, a_stackB, a_walk, a_numberOf, a_numbered, a_endUnknown, a_implied, a_kept, a_sightings, a_lastSeen)) :
    wpX_allFit post (f_kindSymbol, f_kindSlot, f_kindPair, f_goalEq, f_goalNeq, f_goalBoth, f_goalEither, f_goalCall, f_goOn, f_outAnswer, f_outFailure, f_outCut, f_outPending, f_firstVariable, f_maxLevel, f_maxCalls, nI ms, f_termCount, f_goalCount, f_searching, f_queryGoal, f_queryWidth, f_levelNow, f_pendingCount, f_nextCount, f_answerCount, f_failureCount, f_cutCount, f_trailTop, nI (nf - 1), f_choicesLeft, f_neqCount, f_workTop, f_walkTop, f_loaded, f_numberedCount, f_endUnknownCount, f_constraintsReady, f_relevantMask, f_keptCount, a_termKind, a_termLeft, a_termRight, a_termSize, a_goalKind, a_goalFirst, a_goalSecond, a_goalThird, a_goalFourth, a_goalSize, a_relationGoal, a_pendingPath, a_nextPath, a_answerPath, a_link, a_trail, a_neqLeft, a_neqRight, a_workGoal, a_workFrame, a_stackA, a_stackB, a_walk, a_numberOf, a_numbered, a_endUnknown, a_implied, a_kept, a_sightings, a_lastSeen) := by
  have hf := hL.1
  have e : 704 + (nI (nf - 1) + 1) * 6 = nI (704 + 6 * nf) := by
    rw [nI_1, show (6 : Int32) = nI 6 from rfl, pk_mul, show (704 : Int32) = nI 704 from rfl, nI_add]
    congr 1
    omega
  refine nm_r e ⟨6 * nf + 1, ?_⟩
  exact xw_allFit_18 hT hR hL hms h1 (by omega) k1 k0 (6 * nf) 0 a_walk f_walkTop (by omega) (fun w hw => absurd hw (by omega))
end
/-- the state of the component's run at a point where it goes on -/
def rs_XL (T : rs_T) (ms : Nat) (C : rs_V) (nf : Nat) (link : Nat → Int32) (tt : Nat) : Prop :=
  1 ≤ nf ∧ rs_LR link ∧ rs_LK T nf (rs_lk link) tt ∧ rs_CC T (rs_lk link) [] ∧ (∀ θ, rs_cp θ → (C θ ↔ rs_M T (rs_lk link) θ)) ∧ ∀ v, v < 6 * nf → rs_Fit T (rs_lk link) [704 + v] ms
theorem rs_Fit_out {T : rs_T} {nf tt : Nat} {L : Nat → Option Nat} (hL : rs_LK T nf L tt) {v : Nat} (hv : 6 * nf ≤ v) : rs_WK T L [704 + v] [100 + v] := by
  have hLn : L (704 + v) = none := by
    cases e : L (704 + v) with
    | none => rfl
    | some j =>
      have h1 := hL.1
      have := (hL.2.1 _ j e).1
      rcases this with z | z <;> omega
  have hx := rs_rt_stop (rs_nx_none (T := T) hLn (Or.inl (by omega)))
  refine ⟨704 + v, [], rfl, ?_, ?_⟩
  · rw [hx]
    unfold rs_tkn
    rw [if_pos (by omega), Nat.add_sub_cancel_left]
  · rw [hx]
    unfold rs_kd
    rw [if_neg (by omega)]
    rfl
theorem rs_can_ex {T : rs_T} {ms nf tt : Nat} {L : Nat → Option Nat} (hL : rs_LK T nf L tt) (hF : ∀ v, v < 6 * nf → rs_Fit T L [704 + v] ms) : ∃ s : Nat → List Nat, (∀ v, rs_WK T L [704 + v] (s v)) ∧ (∀ v, v < 6 * nf → (s v).length ≤ ms) ∧ ∀ v, 6 * nf ≤ v → s v = [100 + v] := by
  have : ∀ v, ∃ l, rs_WK T L [704 + v] l ∧ (v < 6 * nf → l.length ≤ ms) ∧ (6 * nf ≤ v → l = [100 + v]) := by
    intro v
    by_cases hv : v < 6 * nf
    · obtain ⟨l, h1, h2⟩ := hF v hv
      exact ⟨l, h1, fun _ => h2, fun z => absurd hv (by omega)⟩
    · exact ⟨_, rs_Fit_out hL (by omega), fun z => absurd z hv, fun _ => rfl⟩
  obtain ⟨s, hs⟩ := Classical.axiomOfChoice this
  exact ⟨s, fun v => (hs v).1, fun v => (hs v).2.1, fun v => (hs v).2.2⟩
theorem rs_XL_can {T : rs_T} (hT : rs_TX T) {ms nf tt : Nat} {C : rs_V} {link : Nat → Int32} (h : rs_XL T ms C nf link tt) : ∃ s : Nat → List Nat, (∀ v, rs_WK T (rs_lk link) [704 + v] (s v)) ∧ (∀ v, v < 6 * nf → (s v).length ≤ ms) ∧ (∀ v, 6 * nf ≤ v → s v = [100 + v]) ∧ rs_MG C s ∧ ∀ n, rs_WK T (rs_lk link) [n] (rs_s s (rs_ns T n)) := by
  obtain ⟨_, _, hL, hC, hM, hF⟩ := h
  obtain ⟨s, h1, h2, h3⟩ := rs_can_ex hL hF
  exact ⟨s, h1, h2, h3, rs_can_MG hT hL hC h1 hM, rs_can_all hT hL hC h1⟩
theorem rs_Sat_fit {T : rs_T} (hT : rs_TX T) {ms nf tt : Nat} {L : Nat → Option Nat} (hL : rs_LK T nf L tt) (hC : rs_CC T L []) {E : rs_V} (hM : ∀ θ, rs_cp θ → (E θ ↔ rs_M T L θ)) : rs_Sat ms (6 * nf) E ↔ ∀ v, v < 6 * nf → rs_Fit T L [704 + v] ms := by
  constructor
  · rintro ⟨θ, hθ, hE, hl⟩ v hv
    have hf := hL.1
    obtain ⟨l, h1, h2⟩ := rs_WK_ex hT hL hθ ((hM θ hθ).mp hE) _ [704 + v] (by
      intro n hn
      rw [List.mem_singleton] at hn
      omega) (Nat.le_refl _)
    rw [List.flatMap_cons, List.flatMap_nil, List.append_nil, rs_ns_var, rs_s_1] at h2
    exact ⟨l, h1, Nat.le_trans h2 (hl v hv)⟩
  · intro hF
    obtain ⟨s, h1, h2, h3⟩ := rs_can_ex hL hF
    have := rs_can_MG hT hL hC h1 hM
    exact ⟨s, this.1, this.2.1, h2⟩
theorem rs_MI_nil {T : rs_T} {nf tt : Nat} {E : rs_V} {L : Nat → Option Nat} (h : rs_MI T nf E L tt []) : ∀ θ, rs_cp θ → (E θ ↔ rs_M T L θ) := by
  intro θ hθ
  rw [← h.2.2.2 θ hθ]
  exact ⟨fun z => z.1, fun z => ⟨z, fun p hp => absurd hp List.not_mem_nil⟩⟩
section
variable {f_kindSymbol f_kindSlot f_kindPair f_goalEq f_goalNeq f_goalBoth f_goalEither f_goalCall f_goOn f_outAnswer f_outFailure f_outCut f_outPending f_firstVariable f_maxLevel f_maxCalls f_maxSize f_termCount f_goalCount f_searching f_queryGoal f_queryWidth f_levelNow f_pendingCount f_nextCount f_answerCount f_failureCount f_cutCount f_trailTop f_callsDone f_choicesLeft f_neqCount f_workTop f_walkTop f_loaded f_numberedCount f_endUnknownCount f_constraintsReady f_relevantMask f_keptCount : Int32} {a_termKind a_termLeft a_termRight a_termSize a_goalKind a_goalFirst a_goalSecond a_goalThird a_goalFourth a_goalSize a_relationGoal a_pendingPath a_nextPath a_answerPath a_link a_trail a_neqLeft a_neqRight a_workGoal a_workFrame a_stackA a_stackB a_walk a_numberOf a_numbered a_endUnknown a_implied a_kept a_sightings a_lastSeen : Nat → Int32}
variable {T : rs_T} {nf tt ms : Nat} {C : rs_V}
theorem xw_unify {post : Int32 → SX → Prop} {p q : Nat} (hT : rs_TA T a_termKind a_termLeft a_termRight) (hms : ms ≤ 31) (h1 : 1 ≤ ms) (hX : rs_XL T ms C nf a_link tt) (op : rs_op T nf p) (oq : rs_op T nf q)
    (k1 : ∀ (a_link' a_trail a_stackA a_stackB a_walk : Nat → Int32) (f_walkTop : Int32) (tt' : Nat), rs_Sat ms (6 * nf) (rs_eqC C (rs_ns T p) (rs_ns T q)) → rs_XL T ms (rs_eqC C (rs_ns T p) (rs_ns T q)) nf a_link' tt' → rs_TR a_link tt a_link' a_trail tt' → post 1 (f_kindSymbol, f_kindSlot, f_kindPair, f_goalEq, f_goalNeq, f_goalBoth, f_goalEither, f_goalCall, f_goOn, f_outAnswer, f_outFailure, f_outCut, f_outPending, f_firstVariable, f_maxLevel, f_maxCalls, nI ms, f_termCount, f_goalCount, f_searching, f_queryGoal, f_queryWidth, f_levelNow, f_pendingCount, f_nextCount, f_answerCount, f_failureCount, f_cutCount, nI tt', nI (nf - 1), f_choicesLeft, f_neqCount, f_workTop, f_walkTop, f_loaded, f_numberedCount, f_endUnknownCount, f_constraintsReady, f_relevantMask, f_keptCount, a_termKind, a_termLeft, a_termRight, a_termSize, a_goalKind, a_goalFirst, a_goalSecond, a_goalThird, a_goalFourth, a_goalSize, a_relationGoal, a_pendingPath, a_nextPath, a_answerPath, a_link', a_trail, a_neqLeft, a_neqRight, a_workGoal, a_workFrame, a_stackA, a_stackB, a_walk, a_numberOf, a_numbered, a_endUnknown, a_implied, a_kept, a_sightings, a_lastSeen))
    (k0 : ¬ rs_Sat ms (6 * nf) (rs_eqC C (rs_ns T p) (rs_ns T q)) → ∀ (a_link' a_trail a_stackA a_stackB a_walk : Nat → Int32) (f_walkTop : Int32) (tt' : Nat), rs_TR a_link tt a_link' a_trail tt' → post 0 (f_kindSymbol, f_kindSlot, f_kindPair, f_goalEq, f_goalNeq, f_goalBoth, f_goalEither, f_goalCall, f_goOn, f_outAnswer, f_outFailure, f_outCut, f_outPending, f_firstVariable, f_maxLevel, f_maxCalls, nI ms, f_termCount, f_goalCount, f_searching, f_queryGoal, f_queryWidth, f_levelNow, f_pendingCount, f_nextCount, f_answerCount, f_failureCount, f_cutCount, nI tt', nI (nf - 1), f_choicesLeft, f_neqCount, f_workTop, f_walkTop, f_loaded, f_numberedCount, f_endUnknownCount, f_constraintsReady, f_relevantMask, f_keptCount, a_termKind, a_termLeft, a_termRight, a_termSize, a_goalKind, a_goalFirst, a_goalSecond, a_goalThird, a_goalFourth, a_goalSize, a_relationGoal, a_pendingPath, a_nextPath, a_answerPath, a_link', a_trail, a_neqLeft, a_neqRight, a_workGoal, a_workFrame, a_stackA, a_stackB, a_walk, a_numberOf, a_numbered, a_endUnknown, a_implied, a_kept, a_sightings, a_lastSeen)) :
    wpX_unify post (f_kindSymbol, f_kindSlot, f_kindPair, f_goalEq, f_goalNeq, f_goalBoth, f_goalEither, f_goalCall, f_goOn, f_outAnswer, f_outFailure, f_outCut, f_outPending, f_firstVariable, f_maxLevel, f_maxCalls, nI ms, f_termCount, f_goalCount, f_searching, f_queryGoal, f_queryWidth, f_levelNow, f_pendingCount, f_nextCount, f_answerCount, f_failureCount, f_cutCount, nI tt, nI (nf - 1), f_choicesLeft, f_neqCount, f_workTop, f_walkTop, f_loaded, f_numberedCount, f_endUnknownCount, f_constraintsReady, f_relevantMask, f_keptCount, a_termKind, a_termLeft, a_termRight, a_termSize, a_goalKind, a_goalFirst, a_goalSecond, a_goalThird, a_goalFourth, a_goalSize, a_relationGoal, a_pendingPath, a_nextPath, a_answerPath, a_link, a_trail, a_neqLeft, a_neqRight, a_workGoal, a_workFrame, a_stackA, a_stackB, a_walk, a_numberOf, a_numbered, a_endUnknown, a_implied, a_kept, a_sightings, a_lastSeen) (nI p) (nI q) := by
  obtain ⟨hf1, hR, hL, hC, hM, hF⟩ := hX
  have htt := rs_LK_tt hL
  unfold wpX_unify
  dsimp only
  refine xw_merge hT hR hL hC hM op oq ?_ ?_
  · intro a_link' a_trail a_stackA a_stackB tt' hR' hMI hTR
    have hM' := rs_MI_nil hMI
    have hS := rs_Sat_fit hT.1 (ms := ms) hMI.1 hMI.2.1 hM'
    refine br_f (by decide) ?_
    have htt' := hTR.2.1
    by_cases e : tt' = tt
    · refine br_t (by rw [e]) ?_
      have el : a_link' = a_link := by
        funext n
        rcases hTR.2.2.2 n with z | ⟨i, z1, z2, _⟩
        · exact z
        · omega
      have hF' : ∀ v, v < 6 * nf → rs_Fit T (rs_lk a_link') [704 + v] ms := by rw [el]; exact hF
      exact k1 a_link' a_trail a_stackA a_stackB a_walk f_walkTop tt' (hS.mpr hF') ⟨hf1, hR', hMI.1, hMI.2.1, hM', hF'⟩ hTR
    · refine br_f (fun z => e ((nI_eq (by omega) (by omega)).mp z)) ?_
      refine xw_allFit hT hR' hMI.1 hms h1 hf1 ?_ ?_
      · intro hF' a_walk f_walkTop
        exact br_f (by decide) (k1 a_link' a_trail a_stackA a_stackB a_walk f_walkTop tt' (hS.mpr hF') ⟨hf1, hR', hMI.1, hMI.2.1, hM', hF'⟩ hTR)
      · intro hF' a_walk f_walkTop
        exact br_t rfl (k0 (fun z => hF' (hS.mp z)) a_link' a_trail a_stackA a_stackB a_walk f_walkTop tt' hTR)
  · intro hE a_link' a_trail a_stackA a_stackB tt' hTR
    refine br_t rfl (k0 ?_ a_link' a_trail a_stackA a_stackB a_walk f_walkTop tt' hTR)
    rintro ⟨θ, hθ, z, _⟩
    exact hE θ hθ z
end
end
section
/-! comparing two values -/
def rs_vl (T : rs_T) (s : Nat → List Nat) (n : Nat) : List Nat := rs_s s (rs_ns T n)
def rs_sz (T : rs_T) (s : Nat → List Nat) : List (Nat × Nat) → Nat
  | [] => 0
  | (p, _) :: S => (rs_vl T s p).length + rs_sz T s S
section
variable {T : rs_T} {L : Nat → Option Nat} {s : Nat → List Nat}
theorem rs_vl_W (hv : ∀ n, rs_WK T L [n] (rs_vl T s n)) (n : Nat) : rs_W 1 (rs_vl T s n) := rs_WK_W _ _ (hv n)
theorem rs_vl_st (hv : ∀ n, rs_WK T L [n] (rs_vl T s n)) : ∀ st : List Nat, rs_WK T L st (st.flatMap (rs_vl T s))
  | [] => rfl
  | n :: st => by
    rw [List.flatMap_cons]
    exact rs_WK_app (rs_vl_st hv st) _ [n] (hv n)
theorem rs_vl_root (hv : ∀ n, rs_WK T L [n] (rs_vl T s n)) (n : Nat) : rs_vl T s n = rs_tkn T (rs_rt T L n) :: (rs_kd T (rs_rt T L n)).flatMap (rs_vl T s) := by
  refine rs_WK_det _ _ _ (hv n) ⟨n, [], rfl, rfl, ?_⟩
  rw [List.append_nil]
  exact rs_vl_st hv _
theorem rs_sz_len (hv : ∀ n, rs_WK T L [n] (rs_vl T s n)) : ∀ S : List (Nat × Nat), S.length ≤ rs_sz T s S
  | [] => Nat.le_refl _
  | (p, q) :: S => by
    have := rs_sz_len hv S
    have := rs_W_pos (k := 0) (rs_vl_W hv p)
    rw [List.length_cons]
    show S.length + 1 ≤ (rs_vl T s p).length + rs_sz T s S
    omega
theorem rs_tkn_lo (hT : rs_TX T) {r : Nat} (hr : r < 704) (hx : rs_nx T L r = none) : rs_tkn T r < 100 := by
  unfold rs_tkn
  rw [if_neg (by omega)]
  split
  · omega
  · have := (rs_nx_inv hx).2
    rcases (hT (r % 64) (by omega)).2 with ⟨h1, h2, _⟩ | ⟨h1, _⟩ | ⟨h1, _⟩ <;> omega
theorem rs_tkn_hi {r : Nat} (hr : 704 ≤ r) : rs_tkn T r = 100 + (r - 704) := if_pos hr
/-- an unknown differs from every other root -/
theorem rs_tkn_var (hT : rs_TX T) {a b : Nat} (ha : 704 ≤ a) (hab : a ≠ b) (hb : rs_nx T L b = none) : rs_tkn T a ≠ rs_tkn T b := by
  rw [rs_tkn_hi ha]
  by_cases h : b < 704
  · have := rs_tkn_lo hT h hb; omega
  · rw [rs_tkn_hi (by omega)]; omega
theorem rs_vl_ne (hv : ∀ n, rs_WK T L [n] (rs_vl T s n)) {p q : Nat} (h : rs_tkn T (rs_rt T L p) ≠ rs_tkn T (rs_rt T L q)) : rs_vl T s p ≠ rs_vl T s q := by
  intro e
  rw [rs_vl_root hv p, rs_vl_root hv q] at e
  injection e with e _
  exact h e
theorem rs_vl_pair (hv : ∀ n, rs_WK T L [n] (rs_vl T s n)) {p : Nat} (h : rs_rt T L p < 704 ∧ T.1 (rs_rt T L p % 64) = 2) : rs_vl T s p = 0 :: (rs_vl T s (rs_lf T (rs_rt T L p)) ++ rs_vl T s (rs_rg T (rs_rt T L p))) := by
  rw [rs_vl_root hv p]
  unfold rs_tkn rs_kd
  rw [if_neg (by omega), if_pos h.2, if_pos h, List.flatMap_cons, List.flatMap_cons, List.flatMap_nil, List.append_nil]
theorem rs_vl_sym (hv : ∀ n, rs_WK T L [n] (rs_vl T s n)) {p : Nat} (h : rs_rt T L p < 704) (h0 : T.1 (rs_rt T L p % 64) = 0) : rs_vl T s p = [1 + T.2.1 (rs_rt T L p % 64)] := by
  rw [rs_vl_root hv p]
  unfold rs_tkn rs_kd
  rw [if_neg (by omega), if_neg (by omega), if_neg (by omega), List.flatMap_nil]
end
section
variable {f_kindSymbol f_kindSlot f_kindPair f_goalEq f_goalNeq f_goalBoth f_goalEither f_goalCall f_goOn f_outAnswer f_outFailure f_outCut f_outPending f_firstVariable f_maxLevel f_maxCalls f_maxSize f_termCount f_goalCount f_searching f_queryGoal f_queryWidth f_levelNow f_pendingCount f_nextCount f_answerCount f_failureCount f_cutCount f_trailTop f_callsDone f_choicesLeft f_neqCount f_workTop f_walkTop f_loaded f_numberedCount f_endUnknownCount f_constraintsReady f_relevantMask f_keptCount : Int32} {a_termKind a_termLeft a_termRight a_termSize a_goalKind a_goalFirst a_goalSecond a_goalThird a_goalFourth a_goalSize a_relationGoal a_pendingPath a_nextPath a_answerPath a_link a_trail a_neqLeft a_neqRight a_workGoal a_workFrame a_stackA a_stackB a_walk a_numberOf a_numbered a_endUnknown a_implied a_kept a_sightings a_lastSeen : Nat → Int32}
variable {T : rs_T} {nf tt ms : Nat} {C : rs_V}
theorem xw_same_130_0 {post : Int32 → SX → Prop} (h : post 1 (f_kindSymbol, f_kindSlot, f_kindPair, f_goalEq, f_goalNeq, f_goalBoth, f_goalEither, f_goalCall, f_goOn, f_outAnswer, f_outFailure, f_outCut, f_outPending, f_firstVariable, f_maxLevel, f_maxCalls, f_maxSize, f_termCount, f_goalCount, f_searching, f_queryGoal, f_queryWidth, f_levelNow, f_pendingCount, f_nextCount, f_answerCount, f_failureCount, f_cutCount, f_trailTop, f_callsDone, f_choicesLeft, f_neqCount, f_workTop, f_walkTop, f_loaded, f_numberedCount, f_endUnknownCount, f_constraintsReady, f_relevantMask, f_keptCount, a_termKind, a_termLeft, a_termRight, a_termSize, a_goalKind, a_goalFirst, a_goalSecond, a_goalThird, a_goalFourth, a_goalSize, a_relationGoal, a_pendingPath, a_nextPath, a_answerPath, a_link, a_trail, a_neqLeft, a_neqRight, a_workGoal, a_workFrame, a_stackA, a_stackB, a_walk, a_numberOf, a_numbered, a_endUnknown, a_implied, a_kept, a_sightings, a_lastSeen)) : wX_same_130 post 0 f_kindSymbol f_kindSlot f_kindPair f_goalEq f_goalNeq f_goalBoth f_goalEither f_goalCall f_goOn f_outAnswer f_outFailure f_outCut f_outPending f_firstVariable f_maxLevel f_maxCalls f_maxSize f_termCount f_goalCount f_searching f_queryGoal f_queryWidth f_levelNow f_pendingCount f_nextCount f_answerCount f_failureCount f_cutCount f_trailTop f_callsDone f_choicesLeft f_neqCount f_workTop f_walkTop f_loaded f_numberedCount f_endUnknownCount f_constraintsReady f_relevantMask f_keptCount a_termKind a_termLeft a_termRight a_termSize a_goalKind a_goalFirst a_goalSecond a_goalThird a_goalFourth a_goalSize a_relationGoal a_pendingPath a_nextPath a_answerPath a_link a_trail a_neqLeft a_neqRight a_workGoal a_workFrame a_stackA a_stackB a_walk a_numberOf a_numbered a_endUnknown a_implied a_kept a_sightings a_lastSeen := br_t rfl h
theorem xw_same_19 {post : Int32 → SX → Prop} {s : Nat → List Nat} (P : Prop) (hT : rs_TA T a_termKind a_termLeft a_termRight) (hR : rs_LR a_link) (hL : rs_LK T nf (rs_lk a_link) tt) (hv : ∀ n, rs_WK T (rs_lk a_link) [n] (rs_vl T s n))
    (k1 : P → ∀ (a_stackA a_stackB : Nat → Int32), post 1 (f_kindSymbol, f_kindSlot, f_kindPair, f_goalEq, f_goalNeq, f_goalBoth, f_goalEither, f_goalCall, f_goOn, f_outAnswer, f_outFailure, f_outCut, f_outPending, f_firstVariable, f_maxLevel, f_maxCalls, f_maxSize, f_termCount, f_goalCount, f_searching, f_queryGoal, f_queryWidth, f_levelNow, f_pendingCount, f_nextCount, f_answerCount, f_failureCount, f_cutCount, f_trailTop, f_callsDone, f_choicesLeft, f_neqCount, f_workTop, f_walkTop, f_loaded, f_numberedCount, f_endUnknownCount, f_constraintsReady, f_relevantMask, f_keptCount, a_termKind, a_termLeft, a_termRight, a_termSize, a_goalKind, a_goalFirst, a_goalSecond, a_goalThird, a_goalFourth, a_goalSize, a_relationGoal, a_pendingPath, a_nextPath, a_answerPath, a_link, a_trail, a_neqLeft, a_neqRight, a_workGoal, a_workFrame, a_stackA, a_stackB, a_walk, a_numberOf, a_numbered, a_endUnknown, a_implied, a_kept, a_sightings, a_lastSeen))
    (k0 : ¬ P → ∀ (a_stackA a_stackB : Nat → Int32), post 0 (f_kindSymbol, f_kindSlot, f_kindPair, f_goalEq, f_goalNeq, f_goalBoth, f_goalEither, f_goalCall, f_goOn, f_outAnswer, f_outFailure, f_outCut, f_outPending, f_firstVariable, f_maxLevel, f_maxCalls, f_maxSize, f_termCount, f_goalCount, f_searching, f_queryGoal, f_queryWidth, f_levelNow, f_pendingCount, f_nextCount, f_answerCount, f_failureCount, f_cutCount, f_trailTop, f_callsDone, f_choicesLeft, f_neqCount, f_workTop, f_walkTop, f_loaded, f_numberedCount, f_endUnknownCount, f_constraintsReady, f_relevantMask, f_keptCount, a_termKind, a_termLeft, a_termRight, a_termSize, a_goalKind, a_goalFirst, a_goalSecond, a_goalThird, a_goalFourth, a_goalSize, a_relationGoal, a_pendingPath, a_nextPath, a_answerPath, a_link, a_trail, a_neqLeft, a_neqRight, a_workGoal, a_workFrame, a_stackA, a_stackB, a_walk, a_numberOf, a_numbered, a_endUnknown, a_implied, a_kept, a_sightings, a_lastSeen)) :
    ∀ (n i : Nat) (S : List (Nat × Nat)) (a_stackA a_stackB : Nat → Int32), (∀ y, y ∈ S → y.1 < 770 ∧ y.2 < 770) → (P ↔ ∀ y, y ∈ S → rs_vl T s y.1 = rs_vl T s y.2) → rs_SK a_stackA a_stackB S → rs_sz T s S + i ≤ 599 → 600 < n + i →
      wX_same_19 post n (nI S.length) (nI i) f_kindSymbol f_kindSlot f_kindPair f_goalEq f_goalNeq f_goalBoth f_goalEither f_goalCall f_goOn f_outAnswer f_outFailure f_outCut f_outPending f_firstVariable f_maxLevel f_maxCalls f_maxSize f_termCount f_goalCount f_searching f_queryGoal f_queryWidth f_levelNow f_pendingCount f_nextCount f_answerCount f_failureCount f_cutCount f_trailTop f_callsDone f_choicesLeft f_neqCount f_workTop f_walkTop f_loaded f_numberedCount f_endUnknownCount f_constraintsReady f_relevantMask f_keptCount a_termKind a_termLeft a_termRight a_termSize a_goalKind a_goalFirst a_goalSecond a_goalThird a_goalFourth a_goalSize a_relationGoal a_pendingPath a_nextPath a_answerPath a_link a_trail a_neqLeft a_neqRight a_workGoal a_workFrame a_stackA a_stackB a_walk a_numberOf a_numbered a_endUnknown a_implied a_kept a_sightings a_lastSeen := by
  intro n
  induction n with
  | zero => intro i S a_stackA a_stackB _ _ _ h1 h2; omega
  | succ n ih =>
    intro i S a_stackA a_stackB hN hP hS h1 h2
    have hX := hT.1
    cases S with
    | nil =>
      have hp : P := hP.mpr (fun y hy => absurd hy List.not_mem_nil)
      have h1' : 0 + i ≤ 599 := h1
      exact br_f (nI_ge (b := 600) (by omega) (by decide)) (br_t (by decide) (xw_same_130_0 (k1 hp _ _)))
    | cons pq S =>
      obtain ⟨p, q⟩ := pq
      obtain ⟨sA, sB, hS⟩ := hS
      have h1' : (rs_vl T s p).length + rs_sz T s S + i ≤ 599 := h1
      have hsl := rs_sz_len hv S
      have hpl := rs_W_pos (k := 0) (rs_vl_W hv p)
      obtain ⟨lp, lq⟩ := hN (p, q) (List.mem_cons_self ..)
      have hN' : ∀ y, y ∈ S → y.1 < 770 ∧ y.2 < 770 := fun y hy => hN y (List.mem_cons_of_mem _ hy)
      have lp : p < 770 := lp
      have lq : q < 770 := lq
      have ra := rs_rt_root hX hL lp
      have rb := rs_rt_root hX hL lq
      have la := rs_rt_lt hX hL lp
      have lb := rs_rt_lt hX hL lq
      have hne := rs_vl_ne hv (p := p) (q := q)
      have hro := rs_vl_root hv p
      have hrq := rs_vl_root hv q
      have hpa := rs_vl_pair hv (p := p)
      have hpb := rs_vl_pair hv (p := q)
      have hsa := rs_vl_sym hv (p := p)
      have hsb := rs_vl_sym hv (p := q)
      have hno : rs_vl T s p ≠ rs_vl T s q → ¬ P := fun z y => z (hP.mp y (p, q) (List.mem_cons_self ..))
      have hyes : rs_vl T s p = rs_vl T s q → (P ↔ ∀ y, y ∈ S → rs_vl T s y.1 = rs_vl T s y.2) := by
        intro z
        rw [hP]
        exact ⟨fun w y hy => w y (List.mem_cons_of_mem _ hy), fun w => rs_mem_c z w⟩
      rw [List.length_cons]
      refine br_f (nI_ge (b := 600) (by omega) (by decide)) (br_f (nI_nle (by omega) (by omega)) (nm_r (pk_m1 S.length) ⟨vp_in_nI (by omega) (by decide), ?_⟩))
      rw [nI_clamp (n := S.length) (by omega), sA, sB]
      refine xw_find hT hR hL lp ?_
      refine ⟨vp_in_nI (by omega) (by decide), xw_find hT hR hL lq ?_⟩
      generalize ea : rs_rt T (rs_lk a_link) p = a at *
      generalize eb : rs_rt T (rs_lk a_link) q = b at *
      by_cases hab : a = b
      · refine br_t (by rw [hab]) (nm_r (nI_1 i) ?_)
        exact ih (i + 1) S a_stackA a_stackB hN' (hyes (by rw [hro, hrq, hab])) hS (by omega) (by omega)
      · refine br_f (fun z => hab ((nI_eq (by omega) (by omega)).mp z)) ?_
        by_cases h7 : 704 ≤ a
        · exact br_t (nI_le (a := 704) h7 (by omega)) (k0 (hno (hne (rs_tkn_var hX h7 hab rb))) _ _)
        · refine br_f (nI_ge (b := 704) (by omega) (by decide)) ?_
          by_cases h8 : b < 704
          · refine br_t (nI_lt (b := 704) h8 (by decide)) ?_
            have hsym : ¬ (T.1 (a % 64) = 2 ∧ T.1 (b % 64) = 2) → wX_same_101 post (wX_same_19 post n) (nI S.length) (nI i) (nI a) (nI b) f_kindSymbol f_kindSlot f_kindPair f_goalEq f_goalNeq f_goalBoth f_goalEither f_goalCall f_goOn f_outAnswer f_outFailure f_outCut f_outPending f_firstVariable f_maxLevel f_maxCalls f_maxSize f_termCount f_goalCount f_searching f_queryGoal f_queryWidth f_levelNow f_pendingCount f_nextCount f_answerCount f_failureCount f_cutCount f_trailTop f_callsDone f_choicesLeft f_neqCount f_workTop f_walkTop f_loaded f_numberedCount f_endUnknownCount f_constraintsReady f_relevantMask f_keptCount a_termKind a_termLeft a_termRight a_termSize a_goalKind a_goalFirst a_goalSecond a_goalThird a_goalFourth a_goalSize a_relationGoal a_pendingPath a_nextPath a_answerPath a_link a_trail a_neqLeft a_neqRight a_workGoal a_workFrame a_stackA a_stackB a_walk a_numberOf a_numbered a_endUnknown a_implied a_kept a_sightings a_lastSeen := by
              intro hnp
              refine xw_sameSymbol hT la lb (fun e1 e2 e3 => br_f (by decide) (nm_r (nI_1 i) ?_)) (fun e => br_t rfl ?_)
              · exact ih (i + 1) S a_stackA a_stackB hN' (hyes (by rw [hsa (by omega) e1, hsb h8 e2, e3])) hS (by omega) (by omega)
              · exact k0 (hno (hne (rs_tkn_ne hX (by omega) h8 ra rb hnp e))) _ _
            refine xw_isPair hT la (fun hqa => br_f (by decide) ?_) (fun hqa => br_t rfl (hsym (by omega)))
            refine xw_isPair hT lb (fun hqb => br_f (by decide) ?_) (fun hqb => br_t rfl (hsym (by omega)))
            refine xw_pushParts hT la lb (by omega) (nm_r (nI_1 i) ?_)
            have ea := hpa hqa
            have eb := hpb hqb
            obtain ⟨a1, a2, _⟩ := rs_lf_in hX hqa.1 hqa.2
            obtain ⟨b1, b2, _⟩ := rs_lf_in hX hqb.1 hqb.2
            have hlen : (rs_vl T s p).length = (rs_vl T s (rs_lf T a)).length + (rs_vl T s (rs_rg T a)).length + 1 := by
              rw [ea, List.length_cons, List.length_append]
            refine ih (i + 1) ((rs_lf T a, rs_lf T b) :: (rs_rg T a, rs_rg T b) :: S) _ _ ?_ ?_ ?_ ?_ (by omega)
            · exact rs_mem_c (P := fun y : Nat × Nat => y.1 < 770 ∧ y.2 < 770) ⟨by omega, by omega⟩ (rs_mem_c ⟨by omega, by omega⟩ hN')
            · rw [hP]
              constructor
              · intro w
                have e := w (p, q) (List.mem_cons_self ..)
                have e' : rs_vl T s p = rs_vl T s q := e
                rw [ea, eb] at e'
                injection e' with _ e'
                obtain ⟨q1, q2⟩ := rs_W_eq (rs_vl_W hv _) (rs_vl_W hv _) e'
                exact rs_mem_c q1 (rs_mem_c q2 (fun y hy => w y (List.mem_cons_of_mem _ hy)))
              · intro w
                refine rs_mem_c ?_ (fun y hy => w y (List.mem_cons_of_mem _ (List.mem_cons_of_mem _ hy)))
                have w1 : rs_vl T s (rs_lf T a) = rs_vl T s (rs_lf T b) := w _ (List.mem_cons_self ..)
                have w2 : rs_vl T s (rs_rg T a) = rs_vl T s (rs_rg T b) := w _ (List.mem_cons_of_mem _ (List.mem_cons_self ..))
                show rs_vl T s p = rs_vl T s q
                rw [ea, eb, w1, w2]
            · refine ⟨if_pos rfl, if_pos rfl, ?_, ?_, ?_⟩
              · exact (if_neg (show S.length ≠ S.length + 1 by omega)).trans (if_pos rfl)
              · exact (if_neg (show S.length ≠ S.length + 1 by omega)).trans (if_pos rfl)
              · refine rs_SK_up hS (fun j hj => ⟨?_, ?_⟩)
                · exact (if_neg (by omega)).trans (if_neg (by omega))
                · exact (if_neg (by omega)).trans (if_neg (by omega))
            · show (rs_vl T s (rs_lf T a)).length + ((rs_vl T s (rs_rg T a)).length + rs_sz T s S) + (i + 1) ≤ 599
              omega
          · refine br_f (nI_nlt (b := 704) (by omega) (by omega)) ?_
            exact k0 (hno (hne (fun z => rs_tkn_var hX (by omega) (fun y => hab y.symm) ra z.symm))) _ _
theorem xw_same {post : Int32 → SX → Prop} {p q : Nat} (hT : rs_TA T a_termKind a_termLeft a_termRight) (hms : ms ≤ 31) (hX : rs_XL T ms C nf a_link tt) (lp : p < 704) (lq : q < 704)
    (k1 : rs_Same C (rs_ns T p) (rs_ns T q) → ∀ (a_stackA a_stackB : Nat → Int32), post 1 (f_kindSymbol, f_kindSlot, f_kindPair, f_goalEq, f_goalNeq, f_goalBoth, f_goalEither, f_goalCall, f_goOn, f_outAnswer, f_outFailure, f_outCut, f_outPending, f_firstVariable, f_maxLevel, f_maxCalls, f_maxSize, f_termCount, f_goalCount, f_searching, f_queryGoal, f_queryWidth, f_levelNow, f_pendingCount, f_nextCount, f_answerCount, f_failureCount, f_cutCount, f_trailTop, f_callsDone, f_choicesLeft, f_neqCount, f_workTop, f_walkTop, f_loaded, f_numberedCount, f_endUnknownCount, f_constraintsReady, f_relevantMask, f_keptCount, a_termKind, a_termLeft, a_termRight, a_termSize, a_goalKind, a_goalFirst, a_goalSecond, a_goalThird, a_goalFourth, a_goalSize, a_relationGoal, a_pendingPath, a_nextPath, a_answerPath, a_link, a_trail, a_neqLeft, a_neqRight, a_workGoal, a_workFrame, a_stackA, a_stackB, a_walk, a_numberOf, a_numbered, a_endUnknown, a_implied, a_kept, a_sightings, a_lastSeen))
    (k0 : ¬ rs_Same C (rs_ns T p) (rs_ns T q) → ∀ (a_stackA a_stackB : Nat → Int32), post 0 (f_kindSymbol, f_kindSlot, f_kindPair, f_goalEq, f_goalNeq, f_goalBoth, f_goalEither, f_goalCall, f_goOn, f_outAnswer, f_outFailure, f_outCut, f_outPending, f_firstVariable, f_maxLevel, f_maxCalls, f_maxSize, f_termCount, f_goalCount, f_searching, f_queryGoal, f_queryWidth, f_levelNow, f_pendingCount, f_nextCount, f_answerCount, f_failureCount, f_cutCount, f_trailTop, f_callsDone, f_choicesLeft, f_neqCount, f_workTop, f_walkTop, f_loaded, f_numberedCount, f_endUnknownCount, f_constraintsReady, f_relevantMask, f_keptCount, a_termKind, a_termLeft, a_termRight, a_termSize, a_goalKind, a_goalFirst, a_goalSecond, a_goalThird, a_goalFourth, a_goalSize, a_relationGoal, a_pendingPath, a_nextPath, a_answerPath, a_link, a_trail, a_neqLeft, a_neqRight, a_workGoal, a_workFrame, a_stackA, a_stackB, a_walk, a_numberOf, a_numbered, a_endUnknown, a_implied, a_kept, a_sightings, a_lastSeen)) :
    wpX_same post (f_kindSymbol, f_kindSlot, f_kindPair, f_goalEq, f_goalNeq, f_goalBoth, f_goalEither, f_goalCall, f_goOn, f_outAnswer, f_outFailure, f_outCut, f_outPending, f_firstVariable, f_maxLevel, f_maxCalls, f_maxSize, f_termCount, f_goalCount, f_searching, f_queryGoal, f_queryWidth, f_levelNow, f_pendingCount, f_nextCount, f_answerCount, f_failureCount, f_cutCount, f_trailTop, f_callsDone, f_choicesLeft, f_neqCount, f_workTop, f_walkTop, f_loaded, f_numberedCount, f_endUnknownCount, f_constraintsReady, f_relevantMask, f_keptCount, a_termKind, a_termLeft, a_termRight, a_termSize, a_goalKind, a_goalFirst, a_goalSecond, a_goalThird, a_goalFourth, a_goalSize, a_relationGoal, a_pendingPath, a_nextPath, a_answerPath, a_link, a_trail, a_neqLeft, a_neqRight, a_workGoal, a_workFrame, a_stackA, a_stackB, a_walk, a_numberOf, a_numbered, a_endUnknown, a_implied, a_kept, a_sightings, a_lastSeen) (nI p) (nI q) := by
  obtain ⟨s, h1, h2, h3, h4, h5⟩ := rs_XL_can hT.1 hX
  refine nm_e (nm_e ⟨601, ?_⟩)
  refine xw_same_19 (s := s) (rs_Same C (rs_ns T p) (rs_ns T q)) hT hX.2.1 hX.2.2.1 h5 k1 k0 601 0 [(p, q)] _ _ ?_ ?_ ⟨if_pos rfl, if_pos rfl, trivial⟩ ?_ (by omega)
  · intro y hy
    rw [List.mem_singleton] at hy
    rw [hy]
    exact ⟨by omega, by omega⟩
  · rw [rs_MG_same h4]
    constructor
    · intro z y hy
      rw [List.mem_singleton] at hy
      rw [hy]; exact z
    · intro z
      exact z (p, q) (List.mem_cons_self ..)
  · have h31 : ∀ v, (s v).length ≤ 31 := by
      intro v
      by_cases hv : v < 6 * nf
      · have := h2 v hv; omega
      · rw [h3 v (by omega)]; simp
    have hlen : (rs_vl T s p).length ≤ 255 := by
      unfold rs_vl rs_ns
      rw [if_pos lp]
      exact rs_val_len h31 (hT.1 (p % 64) (by omega)).1 (rs_TX_W hT.1 64 _ (by omega) (by omega))
    show (rs_vl T s p).length + 0 + 0 ≤ 599
    omega
/-- the recorded disequalities in the arrays -/
def rs_NQ (T : rs_T) (nf : Nat) (ne : List (List Nat × List Nat)) (nl nr : Nat → Int32) : Prop :=
  ∀ i, i < ne.length → ∃ a b, rs_op T nf a ∧ rs_op T nf b ∧ a < 704 ∧ b < 704 ∧ nl i = nI a ∧ nr i = nI b ∧ ne[i]? = some (rs_ns T a, rs_ns T b)
theorem xw_anyNeqBroken_2 {post : Int32 → SX → Prop} {ne : List (List Nat × List Nat)} (hT : rs_TA T a_termKind a_termLeft a_termRight) (hms : ms ≤ 31) (hX : rs_XL T ms C nf a_link tt) (hN : rs_NQ T nf ne a_neqLeft a_neqRight) (hn : ne.length ≤ 24)
    (k1 : (∃ d, d ∈ ne ∧ rs_Same C d.1 d.2) → ∀ (a_stackA a_stackB : Nat → Int32), post 1 (f_kindSymbol, f_kindSlot, f_kindPair, f_goalEq, f_goalNeq, f_goalBoth, f_goalEither, f_goalCall, f_goOn, f_outAnswer, f_outFailure, f_outCut, f_outPending, f_firstVariable, f_maxLevel, f_maxCalls, f_maxSize, f_termCount, f_goalCount, f_searching, f_queryGoal, f_queryWidth, f_levelNow, f_pendingCount, f_nextCount, f_answerCount, f_failureCount, f_cutCount, f_trailTop, f_callsDone, f_choicesLeft, nI ne.length, f_workTop, f_walkTop, f_loaded, f_numberedCount, f_endUnknownCount, f_constraintsReady, f_relevantMask, f_keptCount, a_termKind, a_termLeft, a_termRight, a_termSize, a_goalKind, a_goalFirst, a_goalSecond, a_goalThird, a_goalFourth, a_goalSize, a_relationGoal, a_pendingPath, a_nextPath, a_answerPath, a_link, a_trail, a_neqLeft, a_neqRight, a_workGoal, a_workFrame, a_stackA, a_stackB, a_walk, a_numberOf, a_numbered, a_endUnknown, a_implied, a_kept, a_sightings, a_lastSeen))
    (k0 : ¬ (∃ d, d ∈ ne ∧ rs_Same C d.1 d.2) → ∀ (a_stackA a_stackB : Nat → Int32), post 0 (f_kindSymbol, f_kindSlot, f_kindPair, f_goalEq, f_goalNeq, f_goalBoth, f_goalEither, f_goalCall, f_goOn, f_outAnswer, f_outFailure, f_outCut, f_outPending, f_firstVariable, f_maxLevel, f_maxCalls, f_maxSize, f_termCount, f_goalCount, f_searching, f_queryGoal, f_queryWidth, f_levelNow, f_pendingCount, f_nextCount, f_answerCount, f_failureCount, f_cutCount, f_trailTop, f_callsDone, f_choicesLeft, nI ne.length, f_workTop, f_walkTop, f_loaded, f_numberedCount, f_endUnknownCount, f_constraintsReady, f_relevantMask, f_keptCount, a_termKind, a_termLeft, a_termRight, a_termSize, a_goalKind, a_goalFirst, a_goalSecond, a_goalThird, a_goalFourth, a_goalSize, a_relationGoal, a_pendingPath, a_nextPath, a_answerPath, a_link, a_trail, a_neqLeft, a_neqRight, a_workGoal, a_workFrame, a_stackA, a_stackB, a_walk, a_numberOf, a_numbered, a_endUnknown, a_implied, a_kept, a_sightings, a_lastSeen)) :
    ∀ (k i : Nat) (a_stackA a_stackB : Nat → Int32), i + k = ne.length → (∀ j d, j < i → ne[j]? = some d → ¬ rs_Same C d.1 d.2) → wX_anyNeqBroken_2 post (k + 1) (nI i) f_kindSymbol f_kindSlot f_kindPair f_goalEq f_goalNeq f_goalBoth f_goalEither f_goalCall f_goOn f_outAnswer f_outFailure f_outCut f_outPending f_firstVariable f_maxLevel f_maxCalls f_maxSize f_termCount f_goalCount f_searching f_queryGoal f_queryWidth f_levelNow f_pendingCount f_nextCount f_answerCount f_failureCount f_cutCount f_trailTop f_callsDone f_choicesLeft (nI ne.length) f_workTop f_walkTop f_loaded f_numberedCount f_endUnknownCount f_constraintsReady f_relevantMask f_keptCount a_termKind a_termLeft a_termRight a_termSize a_goalKind a_goalFirst a_goalSecond a_goalThird a_goalFourth a_goalSize a_relationGoal a_pendingPath a_nextPath a_answerPath a_link a_trail a_neqLeft a_neqRight a_workGoal a_workFrame a_stackA a_stackB a_walk a_numberOf a_numbered a_endUnknown a_implied a_kept a_sightings a_lastSeen := by
  intro k
  induction k with
  | zero =>
    intro i a_stackA a_stackB hi hB
    refine br_t (nI_le (by omega) (by omega)) (k0 ?_ _ _)
    rintro ⟨d, hd, hs⟩
    obtain ⟨j, hj⟩ := List.mem_iff_getElem?.mp hd
    have : j < ne.length := by
      rcases Nat.lt_or_ge j ne.length with z | z
      · exact z
      · rw [List.getElem?_eq_none z] at hj; exact absurd hj (by simp)
    exact hB j d (by omega) hj hs
  | succ k ih =>
    intro i a_stackA a_stackB hi hB
    obtain ⟨a, b, _, _, la, lb, ea, eb, ed⟩ := hN i (by omega)
    refine br_f (nI_ge (by omega) (by omega)) ⟨vp_in_nI (by omega) (by decide), vp_in_nI (by omega) (by decide), ?_⟩
    rw [nI_clamp (n := i) (by omega), ea, eb]
    refine xw_same hT hms hX la lb (fun hs a_stackA a_stackB => br_f (by decide) (k1 ⟨_, List.mem_iff_getElem?.mpr ⟨i, ed⟩, hs⟩ _ _)) (fun hs a_stackA a_stackB => br_t rfl (nm_r (nI_1 i) ?_))
    refine ih (i + 1) a_stackA a_stackB (by omega) (fun j d hj hd => ?_)
    by_cases e : j = i
    · subst e
      rw [ed] at hd
      injection hd with hd
      rw [← hd]; exact hs
    · exact hB j d (by omega) hd
theorem xw_anyNeqBroken {post : Int32 → SX → Prop} {ne : List (List Nat × List Nat)} (hT : rs_TA T a_termKind a_termLeft a_termRight) (hms : ms ≤ 31) (hX : rs_XL T ms C nf a_link tt) (hN : rs_NQ T nf ne a_neqLeft a_neqRight) (hn : ne.length ≤ 24)
    (k1 : (∃ d, d ∈ ne ∧ rs_Same C d.1 d.2) → ∀ (a_stackA a_stackB : Nat → Int32), post 1 (f_kindSymbol, f_kindSlot, f_kindPair, f_goalEq, f_goalNeq, f_goalBoth, f_goalEither, f_goalCall, f_goOn, f_outAnswer, f_outFailure, f_outCut, f_outPending, f_firstVariable, f_maxLevel, f_maxCalls, f_maxSize, f_termCount, f_goalCount, f_searching, f_queryGoal, f_queryWidth, f_levelNow, f_pendingCount, f_nextCount, f_answerCount, f_failureCount, f_cutCount, f_trailTop, f_callsDone, f_choicesLeft, nI ne.length, f_workTop, f_walkTop, f_loaded, f_numberedCount, f_endUnknownCount, f_constraintsReady, f_relevantMask, f_keptCount, a_termKind, a_termLeft, a_termRight, a_termSize, a_goalKind, a_goalFirst, a_goalSecond, a_goalThird, a_goalFourth, a_goalSize, a_relationGoal, a_pendingPath, a_nextPath, a_answerPath, a_link, a_trail, a_neqLeft, a_neqRight, a_workGoal, a_workFrame, a_stackA, a_stackB, a_walk, a_numberOf, a_numbered, a_endUnknown, a_implied, a_kept, a_sightings, a_lastSeen))
    (k0 : ¬ (∃ d, d ∈ ne ∧ rs_Same C d.1 d.2) → ∀ (a_stackA a_stackB : Nat → Int32), post 0 (f_kindSymbol, f_kindSlot, f_kindPair, f_goalEq, f_goalNeq, f_goalBoth, f_goalEither, f_goalCall, f_goOn, f_outAnswer, f_outFailure, f_outCut, f_outPending, f_firstVariable, f_maxLevel, f_maxCalls, f_maxSize, f_termCount, f_goalCount, f_searching, f_queryGoal, f_queryWidth, f_levelNow, f_pendingCount, f_nextCount, f_answerCount, f_failureCount, f_cutCount, f_trailTop, f_callsDone, f_choicesLeft, nI ne.length, f_workTop, f_walkTop, f_loaded, f_numberedCount, f_endUnknownCount, f_constraintsReady, f_relevantMask, f_keptCount, a_termKind, a_termLeft, a_termRight, a_termSize, a_goalKind, a_goalFirst, a_goalSecond, a_goalThird, a_goalFourth, a_goalSize, a_relationGoal, a_pendingPath, a_nextPath, a_answerPath, a_link, a_trail, a_neqLeft, a_neqRight, a_workGoal, a_workFrame, a_stackA, a_stackB, a_walk, a_numberOf, a_numbered, a_endUnknown, a_implied, a_kept, a_sightings, a_lastSeen)) :
    wpX_anyNeqBroken post (f_kindSymbol, f_kindSlot, f_kindPair, f_goalEq, f_goalNeq, f_goalBoth, f_goalEither, f_goalCall, f_goOn, f_outAnswer, f_outFailure, f_outCut, f_outPending, f_firstVariable, f_maxLevel, f_maxCalls, f_maxSize, f_termCount, f_goalCount, f_searching, f_queryGoal, f_queryWidth, f_levelNow, f_pendingCount, f_nextCount, f_answerCount, f_failureCount, f_cutCount, f_trailTop, f_callsDone, f_choicesLeft, nI ne.length, f_workTop, f_walkTop, f_loaded, f_numberedCount, f_endUnknownCount, f_constraintsReady, f_relevantMask, f_keptCount, a_termKind, a_termLeft, a_termRight, a_termSize, a_goalKind, a_goalFirst, a_goalSecond, a_goalThird, a_goalFourth, a_goalSize, a_relationGoal, a_pendingPath, a_nextPath, a_answerPath, a_link, a_trail, a_neqLeft, a_neqRight, a_workGoal, a_workFrame, a_stackA, a_stackB, a_walk, a_numberOf, a_numbered, a_endUnknown, a_implied, a_kept, a_sightings, a_lastSeen) :=
  ⟨ne.length + 1, xw_anyNeqBroken_2 hT hms hX hN hn k1 k0 ne.length 0 a_stackA a_stackB (by omega) (fun j d hj => absurd hj (by omega))⟩
end
end
section
/-! the component's run -/
def rs_GA (gc : Nat) (G : rs_G) (gk g1 g2 g3 g4 rl : Nat → Int32) : Prop :=
  (∀ g, g < gc → gk g = nI (G.1 g) ∧ g1 g = nI (G.2.1 g) ∧ g2 g = nI (G.2.2.1 g) ∧ g3 g = nI (G.2.2.2.1 g) ∧ g4 g = nI (G.2.2.2.2.1 g)) ∧
  ∀ r, r < 8 → (G.2.2.2.2.2.2.1 r = none ∧ rl r = -1) ∨ ∃ b, G.2.2.2.2.2.2.1 r = some b ∧ rl r = nI b
def rs_XS (T : rs_T) (ms : Nat) (C : rs_V) (nf : Nat) (ne : List (List Nat × List Nat)) (st : List (Nat × Nat)) (lf : Nat) (f_trailTop f_callsDone f_choicesLeft f_neqCount f_workTop : Int32) (a_link a_neqLeft a_neqRight a_workGoal a_workFrame : Nat → Int32) : Prop :=
  ∃ tt, f_trailTop = nI tt ∧ f_callsDone = nI (nf - 1) ∧ f_choicesLeft = nI lf ∧ f_neqCount = nI ne.length ∧ f_workTop = nI st.length ∧ rs_XL T ms C nf a_link tt ∧ ne.length ≤ 24 ∧ rs_NQ T nf ne a_neqLeft a_neqRight ∧ (∀ d, d ∈ ne → ¬ rs_Same C d.1 d.2) ∧ rs_SK a_workGoal a_workFrame st
section
variable {f_kindSymbol f_kindSlot f_kindPair f_goalEq f_goalNeq f_goalBoth f_goalEither f_goalCall f_goOn f_outAnswer f_outFailure f_outCut f_outPending f_firstVariable f_maxLevel f_maxCalls f_maxSize f_termCount f_goalCount f_searching f_queryGoal f_queryWidth f_levelNow f_pendingCount f_nextCount f_answerCount f_failureCount f_cutCount f_trailTop f_callsDone f_choicesLeft f_neqCount f_workTop f_walkTop f_loaded f_numberedCount f_endUnknownCount f_constraintsReady f_relevantMask f_keptCount : Int32} {a_termKind a_termLeft a_termRight a_termSize a_goalKind a_goalFirst a_goalSecond a_goalThird a_goalFourth a_goalSize a_relationGoal a_pendingPath a_nextPath a_answerPath a_link a_trail a_neqLeft a_neqRight a_workGoal a_workFrame a_stackA a_stackB a_walk a_numberOf a_numbered a_endUnknown a_implied a_kept a_sightings a_lastSeen : Nat → Int32}
variable {T : rs_T} {nf tt ms mc lf gc g f : Nat} {C : rs_V} {ne : List (List Nat × List Nat)} {st : List (Nat × Nat)} {G : rs_G}
theorem xw_push {post : SX → Prop} {k a b : Nat} (hk : k < 256) (h : post (f_kindSymbol, f_kindSlot, f_kindPair, f_goalEq, f_goalNeq, f_goalBoth, f_goalEither, f_goalCall, f_goOn, f_outAnswer, f_outFailure, f_outCut, f_outPending, f_firstVariable, f_maxLevel, f_maxCalls, f_maxSize, f_termCount, f_goalCount, f_searching, f_queryGoal, f_queryWidth, f_levelNow, f_pendingCount, f_nextCount, f_answerCount, f_failureCount, f_cutCount, f_trailTop, f_callsDone, f_choicesLeft, f_neqCount, nI (k + 1), f_walkTop, f_loaded, f_numberedCount, f_endUnknownCount, f_constraintsReady, f_relevantMask, f_keptCount, a_termKind, a_termLeft, a_termRight, a_termSize, a_goalKind, a_goalFirst, a_goalSecond, a_goalThird, a_goalFourth, a_goalSize, a_relationGoal, a_pendingPath, a_nextPath, a_answerPath, a_link, a_trail, a_neqLeft, a_neqRight, upd a_workGoal k (nI a), upd a_workFrame k (nI b), a_stackA, a_stackB, a_walk, a_numberOf, a_numbered, a_endUnknown, a_implied, a_kept, a_sightings, a_lastSeen)) : wpX_push post (f_kindSymbol, f_kindSlot, f_kindPair, f_goalEq, f_goalNeq, f_goalBoth, f_goalEither, f_goalCall, f_goOn, f_outAnswer, f_outFailure, f_outCut, f_outPending, f_firstVariable, f_maxLevel, f_maxCalls, f_maxSize, f_termCount, f_goalCount, f_searching, f_queryGoal, f_queryWidth, f_levelNow, f_pendingCount, f_nextCount, f_answerCount, f_failureCount, f_cutCount, f_trailTop, f_callsDone, f_choicesLeft, f_neqCount, nI k, f_walkTop, f_loaded, f_numberedCount, f_endUnknownCount, f_constraintsReady, f_relevantMask, f_keptCount, a_termKind, a_termLeft, a_termRight, a_termSize, a_goalKind, a_goalFirst, a_goalSecond, a_goalThird, a_goalFourth, a_goalSize, a_relationGoal, a_pendingPath, a_nextPath, a_answerPath, a_link, a_trail, a_neqLeft, a_neqRight, a_workGoal, a_workFrame, a_stackA, a_stackB, a_walk, a_numberOf, a_numbered, a_endUnknown, a_implied, a_kept, a_sightings, a_lastSeen) (nI a) (nI b) := by
  refine br_f (nI_ge (b := 256) hk (by decide)) ⟨vp_in_nI hk (by decide), nm_r (e' := upd a_workGoal k (nI a)) (by rw [nI_clamp (by omega)]) ⟨vp_in_nI hk (by decide), nm_r (e' := upd a_workFrame k (nI b)) (by rw [nI_clamp (by omega)]) (nm_r (nI_1 k) h)⟩⟩
theorem rs_SK_push {A B : Nat → Int32} {S : List (Nat × Nat)} {p q : Nat} (h : rs_SK A B S) : rs_SK (upd A S.length (nI p)) (upd B S.length (nI q)) ((p, q) :: S) :=
  ⟨if_pos rfl, if_pos rfl, rs_SK_up h (fun i hi => ⟨if_neg (by omega), if_neg (by omega)⟩)⟩
theorem xw_performEq {post : Int32 → SX → Prop} (hT : rs_TA T a_termKind a_termLeft a_termRight) (hG : rs_GA gc G a_goalKind a_goalFirst a_goalSecond a_goalThird a_goalFourth a_relationGoal) (hms : ms ≤ 31) (h1 : 1 ≤ ms) (hX : rs_XL T ms C nf a_link tt) (hn : ne.length ≤ 24) (hN : rs_NQ T nf ne a_neqLeft a_neqRight) (hNS : ∀ d, d ∈ ne → ¬ rs_Same C d.1 d.2) (hSK : rs_SK a_workGoal a_workFrame st)
    (hg : g < gc) (hgc : gc ≤ 48) (hf : f < nf) (htc : T.2.2.2.2 ≤ 64) (t1 : G.2.1 g < T.2.2.2.2) (t2 : G.2.2.1 g < T.2.2.2.2)
    (k : ∀ (f_trailTop f_callsDone f_choicesLeft f_neqCount f_workTop f_walkTop : Int32) (a_link a_trail a_neqLeft a_neqRight a_workGoal a_workFrame a_stackA a_stackB a_walk : Nat → Int32), ((rs_pEq ms (rs_sh f (T.2.2.2.1 (G.2.1 g))) (rs_sh f (T.2.2.2.1 (G.2.2.1 g))) C nf ne st lf).1 = 0 → rs_XS T ms (rs_eqC C (rs_sh f (T.2.2.2.1 (G.2.1 g))) (rs_sh f (T.2.2.2.1 (G.2.2.1 g)))) nf ne st lf f_trailTop f_callsDone f_choicesLeft f_neqCount f_workTop a_link a_neqLeft a_neqRight a_workGoal a_workFrame) → post (nI (rs_pEq ms (rs_sh f (T.2.2.2.1 (G.2.1 g))) (rs_sh f (T.2.2.2.1 (G.2.2.1 g))) C nf ne st lf).1) (f_kindSymbol, f_kindSlot, f_kindPair, f_goalEq, f_goalNeq, f_goalBoth, f_goalEither, f_goalCall, f_goOn, f_outAnswer, f_outFailure, f_outCut, f_outPending, f_firstVariable, f_maxLevel, nI mc, nI ms, f_termCount, f_goalCount, f_searching, f_queryGoal, f_queryWidth, f_levelNow, f_pendingCount, f_nextCount, f_answerCount, f_failureCount, f_cutCount, f_trailTop, f_callsDone, f_choicesLeft, f_neqCount, f_workTop, f_walkTop, f_loaded, f_numberedCount, f_endUnknownCount, f_constraintsReady, f_relevantMask, f_keptCount, a_termKind, a_termLeft, a_termRight, a_termSize, a_goalKind, a_goalFirst, a_goalSecond, a_goalThird, a_goalFourth, a_goalSize, a_relationGoal, a_pendingPath, a_nextPath, a_answerPath, a_link, a_trail, a_neqLeft, a_neqRight, a_workGoal, a_workFrame, a_stackA, a_stackB, a_walk, a_numberOf, a_numbered, a_endUnknown, a_implied, a_kept, a_sightings, a_lastSeen)) :
    wpX_performEq post (f_kindSymbol, f_kindSlot, f_kindPair, f_goalEq, f_goalNeq, f_goalBoth, f_goalEither, f_goalCall, f_goOn, f_outAnswer, f_outFailure, f_outCut, f_outPending, f_firstVariable, f_maxLevel, nI mc, nI ms, f_termCount, f_goalCount, f_searching, f_queryGoal, f_queryWidth, f_levelNow, f_pendingCount, f_nextCount, f_answerCount, f_failureCount, f_cutCount, nI tt, nI (nf - 1), nI lf, nI ne.length, nI st.length, f_walkTop, f_loaded, f_numberedCount, f_endUnknownCount, f_constraintsReady, f_relevantMask, f_keptCount, a_termKind, a_termLeft, a_termRight, a_termSize, a_goalKind, a_goalFirst, a_goalSecond, a_goalThird, a_goalFourth, a_goalSize, a_relationGoal, a_pendingPath, a_nextPath, a_answerPath, a_link, a_trail, a_neqLeft, a_neqRight, a_workGoal, a_workFrame, a_stackA, a_stackB, a_walk, a_numberOf, a_numbered, a_endUnknown, a_implied, a_kept, a_sightings, a_lastSeen) (nI g) (nI f) := by
  obtain ⟨_, e1, e2, _, _⟩ := hG.1 g hg
  have hf11 := hX.2.2.1.1
  have eA := rs_ns_term (T := T) (f := f) (t := G.2.1 g) (by omega) (by omega)
  have eB := rs_ns_term (T := T) (f := f) (t := G.2.2.1 g) (by omega) (by omega)
  have oA : rs_op T nf (64 * f + G.2.1 g) := Or.inl ⟨by omega, by omega⟩
  have oB : rs_op T nf (64 * f + G.2.2.1 g) := Or.inl ⟨by omega, by omega⟩
  have htt := rs_LK_tt hX.2.2.1
  refine ⟨vp_in_nI (by omega) (by decide), ?_⟩
  rw [nI_clamp (n := g) (by omega), e1, e2]
  refine xw_termNode ⟨vp_in_nI (by omega) (by decide), xw_termNode ?_⟩
  refine xw_unify hT hms h1 hX oA oB ?_ ?_
  · intro a_link' a_trail a_stackA a_stackB a_walk f_walkTop tt' hSat hX' hTR
    rw [eA, eB] at hSat hX'
    have htt' := hTR.2.1
    have hle := hTR.1
    refine br_f (by decide) ?_
    by_cases e : tt' ≤ tt
    · refine br_t (nI_le e (by omega)) ?_
      have el : a_link' = a_link := by
        funext n
        rcases hTR.2.2.2 n with z | ⟨i, z1, z2, _⟩
        · exact z
        · omega
      have hNS' : ¬ ∃ d, d ∈ ne ∧ rs_Same (rs_eqC C (rs_sh f (T.2.2.2.1 (G.2.1 g))) (rs_sh f (T.2.2.2.1 (G.2.2.1 g)))) d.1 d.2 := by
        rintro ⟨d, hd, hs⟩
        refine hNS d hd (fun θ hθ hc => hs θ hθ ?_)
        rw [hX'.2.2.2.2.1 θ hθ, el, ← hX.2.2.2.2.1 θ hθ]
        exact hc
      have ez : (rs_pEq ms (rs_sh f (T.2.2.2.1 (G.2.1 g))) (rs_sh f (T.2.2.2.1 (G.2.2.1 g))) C nf ne st lf).1 = 0 := by
        unfold rs_pEq
        rw [rs_if_f]
        rintro (z | z)
        · exact z hSat
        · exact hNS' z
      have := k (nI tt') (nI (nf - 1)) (nI lf) (nI ne.length) (nI st.length) f_walkTop a_link' a_trail a_neqLeft a_neqRight a_workGoal a_workFrame a_stackA a_stackB a_walk (fun _ => ⟨tt', rfl, rfl, rfl, rfl, rfl, hX', hn, hN, fun d hd hs => hNS' ⟨d, hd, hs⟩, hSK⟩)
      rw [ez] at this
      exact this
    · refine br_f (nI_ge (by omega) (by omega)) ?_
      refine xw_anyNeqBroken hT hms hX' hN hn ?_ ?_
      · intro hb a_stackA a_stackB
        have ez : (rs_pEq ms (rs_sh f (T.2.2.2.1 (G.2.1 g))) (rs_sh f (T.2.2.2.1 (G.2.2.1 g))) C nf ne st lf).1 = 2 := by
          unfold rs_pEq
          rw [rs_if_t (Or.inr hb)]
        have := k (nI tt') (nI (nf - 1)) (nI lf) (nI ne.length) (nI st.length) f_walkTop a_link' a_trail a_neqLeft a_neqRight a_workGoal a_workFrame a_stackA a_stackB a_walk (fun z => absurd z (by rw [ez]; decide))
        rw [ez] at this
        exact br_f (by decide) this
      · intro hNS' a_stackA a_stackB
        have ez : (rs_pEq ms (rs_sh f (T.2.2.2.1 (G.2.1 g))) (rs_sh f (T.2.2.2.1 (G.2.2.1 g))) C nf ne st lf).1 = 0 := by
          unfold rs_pEq
          rw [rs_if_f]
          rintro (z | z)
          · exact z hSat
          · exact hNS' z
        have := k (nI tt') (nI (nf - 1)) (nI lf) (nI ne.length) (nI st.length) f_walkTop a_link' a_trail a_neqLeft a_neqRight a_workGoal a_workFrame a_stackA a_stackB a_walk (fun _ => ⟨tt', rfl, rfl, rfl, rfl, rfl, hX', hn, hN, fun d hd hs => hNS' ⟨d, hd, hs⟩, hSK⟩)
        rw [ez] at this
        exact br_t rfl this
  · intro hSat a_link' a_trail a_stackA a_stackB a_walk f_walkTop tt' hTR
    rw [eA, eB] at hSat
    have ez : (rs_pEq ms (rs_sh f (T.2.2.2.1 (G.2.1 g))) (rs_sh f (T.2.2.2.1 (G.2.2.1 g))) C nf ne st lf).1 = 2 := by
      unfold rs_pEq
      rw [rs_if_t (Or.inl hSat)]
    have := k (nI tt') (nI (nf - 1)) (nI lf) (nI ne.length) (nI st.length) f_walkTop a_link' a_trail a_neqLeft a_neqRight a_workGoal a_workFrame a_stackA a_stackB a_walk (fun z => absurd z (by rw [ez]; decide))
    rw [ez] at this
    exact br_t rfl this
theorem xw_performNeq {post : Int32 → SX → Prop} (hT : rs_TA T a_termKind a_termLeft a_termRight) (hG : rs_GA gc G a_goalKind a_goalFirst a_goalSecond a_goalThird a_goalFourth a_relationGoal) (hms : ms ≤ 31) (hX : rs_XL T ms C nf a_link tt) (hn : ne.length ≤ 24) (hN : rs_NQ T nf ne a_neqLeft a_neqRight) (hNS : ∀ d, d ∈ ne → ¬ rs_Same C d.1 d.2) (hSK : rs_SK a_workGoal a_workFrame st)
    (hg : g < gc) (hgc : gc ≤ 48) (hf : f < nf) (htc : T.2.2.2.2 ≤ 64) (t1 : G.2.1 g < T.2.2.2.2) (t2 : G.2.2.1 g < T.2.2.2.2)
    (k : ∀ (f_trailTop f_callsDone f_choicesLeft f_neqCount f_workTop f_walkTop : Int32) (a_link a_trail a_neqLeft a_neqRight a_workGoal a_workFrame a_stackA a_stackB a_walk : Nat → Int32), ((rs_pNeq (rs_sh f (T.2.2.2.1 (G.2.1 g))) (rs_sh f (T.2.2.2.1 (G.2.2.1 g))) C nf ne st lf).1 = 0 → rs_XS T ms C nf (ne ++ [(rs_sh f (T.2.2.2.1 (G.2.1 g)), rs_sh f (T.2.2.2.1 (G.2.2.1 g)))]) st lf f_trailTop f_callsDone f_choicesLeft f_neqCount f_workTop a_link a_neqLeft a_neqRight a_workGoal a_workFrame) → post (nI (rs_pNeq (rs_sh f (T.2.2.2.1 (G.2.1 g))) (rs_sh f (T.2.2.2.1 (G.2.2.1 g))) C nf ne st lf).1) (f_kindSymbol, f_kindSlot, f_kindPair, f_goalEq, f_goalNeq, f_goalBoth, f_goalEither, f_goalCall, f_goOn, f_outAnswer, f_outFailure, f_outCut, f_outPending, f_firstVariable, f_maxLevel, nI mc, nI ms, f_termCount, f_goalCount, f_searching, f_queryGoal, f_queryWidth, f_levelNow, f_pendingCount, f_nextCount, f_answerCount, f_failureCount, f_cutCount, f_trailTop, f_callsDone, f_choicesLeft, f_neqCount, f_workTop, f_walkTop, f_loaded, f_numberedCount, f_endUnknownCount, f_constraintsReady, f_relevantMask, f_keptCount, a_termKind, a_termLeft, a_termRight, a_termSize, a_goalKind, a_goalFirst, a_goalSecond, a_goalThird, a_goalFourth, a_goalSize, a_relationGoal, a_pendingPath, a_nextPath, a_answerPath, a_link, a_trail, a_neqLeft, a_neqRight, a_workGoal, a_workFrame, a_stackA, a_stackB, a_walk, a_numberOf, a_numbered, a_endUnknown, a_implied, a_kept, a_sightings, a_lastSeen)) :
    wpX_performNeq post (f_kindSymbol, f_kindSlot, f_kindPair, f_goalEq, f_goalNeq, f_goalBoth, f_goalEither, f_goalCall, f_goOn, f_outAnswer, f_outFailure, f_outCut, f_outPending, f_firstVariable, f_maxLevel, nI mc, nI ms, f_termCount, f_goalCount, f_searching, f_queryGoal, f_queryWidth, f_levelNow, f_pendingCount, f_nextCount, f_answerCount, f_failureCount, f_cutCount, nI tt, nI (nf - 1), nI lf, nI ne.length, nI st.length, f_walkTop, f_loaded, f_numberedCount, f_endUnknownCount, f_constraintsReady, f_relevantMask, f_keptCount, a_termKind, a_termLeft, a_termRight, a_termSize, a_goalKind, a_goalFirst, a_goalSecond, a_goalThird, a_goalFourth, a_goalSize, a_relationGoal, a_pendingPath, a_nextPath, a_answerPath, a_link, a_trail, a_neqLeft, a_neqRight, a_workGoal, a_workFrame, a_stackA, a_stackB, a_walk, a_numberOf, a_numbered, a_endUnknown, a_implied, a_kept, a_sightings, a_lastSeen) (nI g) (nI f) := by
  obtain ⟨_, e1, e2, _, _⟩ := hG.1 g hg
  have hf11 := hX.2.2.1.1
  have eA := rs_ns_term (T := T) (f := f) (t := G.2.1 g) (by omega) (by omega)
  have eB := rs_ns_term (T := T) (f := f) (t := G.2.2.1 g) (by omega) (by omega)
  by_cases h24 : ne.length < 24
  · refine br_t (nI_lt (b := 24) h24 (by decide)) ⟨vp_in_nI (by omega) (by decide), ?_⟩
    rw [nI_clamp (n := g) (by omega), e1, e2]
    refine xw_termNode ⟨vp_in_nI (by omega) (by decide), xw_termNode ?_⟩
    refine xw_same hT hms hX (by omega) (by omega) ?_ ?_
    · intro hs a_stackA a_stackB
      rw [eA, eB] at hs
      have ez : (rs_pNeq (rs_sh f (T.2.2.2.1 (G.2.1 g))) (rs_sh f (T.2.2.2.1 (G.2.2.1 g))) C nf ne st lf).1 = 2 := by
        unfold rs_pNeq
        rw [if_neg (by omega), rs_if_t hs]
      have := k (nI tt) (nI (nf - 1)) (nI lf) (nI ne.length) (nI st.length) f_walkTop a_link a_trail a_neqLeft a_neqRight a_workGoal a_workFrame a_stackA a_stackB a_walk (fun z => absurd z (by rw [ez]; decide))
      rw [ez] at this
      exact br_f (by decide) this
    · intro hs a_stackA a_stackB
      have hs' := hs
      rw [eA, eB] at hs'
      have ez : (rs_pNeq (rs_sh f (T.2.2.2.1 (G.2.1 g))) (rs_sh f (T.2.2.2.1 (G.2.2.1 g))) C nf ne st lf).1 = 0 := by
        unfold rs_pNeq
        rw [if_neg (by omega), rs_if_f hs']
      refine br_t rfl ⟨vp_in_nI h24 (by decide), nm_r (e' := upd a_neqLeft ne.length (nI (64 * f + G.2.1 g))) (by rw [nI_clamp (by omega)]) ⟨vp_in_nI h24 (by decide), nm_r (e' := upd a_neqRight ne.length (nI (64 * f + G.2.2.1 g))) (by rw [nI_clamp (by omega)]) (nm_r (nI_1 _) ?_)⟩⟩
      have hl : (ne ++ [(rs_sh f (T.2.2.2.1 (G.2.1 g)), rs_sh f (T.2.2.2.1 (G.2.2.1 g)))]).length = ne.length + 1 := by
        rw [List.length_append]; rfl
      have := k (nI tt) (nI (nf - 1)) (nI lf) (nI (ne.length + 1)) (nI st.length) f_walkTop a_link a_trail (upd a_neqLeft ne.length (nI (64 * f + G.2.1 g))) (upd a_neqRight ne.length (nI (64 * f + G.2.2.1 g))) a_workGoal a_workFrame a_stackA a_stackB a_walk (fun _ => ⟨tt, rfl, rfl, rfl, by rw [hl], rfl, hX, by omega, ?_, ?_, hSK⟩)
      · rw [ez] at this
        exact this
      · intro i hi
        rw [hl] at hi
        by_cases e : i = ne.length
        · subst e
          refine ⟨64 * f + G.2.1 g, 64 * f + G.2.2.1 g, Or.inl ⟨by omega, by omega⟩, Or.inl ⟨by omega, by omega⟩, by omega, by omega, if_pos rfl, if_pos rfl, ?_⟩
          rw [eA, eB, List.getElem?_append_right (Nat.le_refl _), Nat.sub_self]
          rfl
        · obtain ⟨a, b, q1, q2, q3, q4, q5, q6, q7⟩ := hN i (by omega)
          refine ⟨a, b, q1, q2, q3, q4, (if_neg e).trans q5, (if_neg e).trans q6, ?_⟩
          rw [List.getElem?_append_left (by omega)]
          exact q7
      · intro d hd
        rcases List.mem_append.mp hd with z | z
        · exact hNS d z
        · rw [List.mem_singleton] at z
          rw [z]; exact hs'
  · have ez : (rs_pNeq (rs_sh f (T.2.2.2.1 (G.2.1 g))) (rs_sh f (T.2.2.2.1 (G.2.2.1 g))) C nf ne st lf).1 = 3 := by
      unfold rs_pNeq
      rw [if_pos (by omega)]
    have := k (nI tt) (nI (nf - 1)) (nI lf) (nI ne.length) (nI st.length) f_walkTop a_link a_trail a_neqLeft a_neqRight a_workGoal a_workFrame a_stackA a_stackB a_walk (fun z => absurd z (by rw [ez]; decide))
    rw [ez] at this
    exact br_f (nI_nlt (b := 24) (by omega) (by omega)) this
theorem xw_shr1 {p k : Nat} (hp : p < 256) (hk : k < 31) : (nI p >>> (nI k &&& 31)) = nI (p / 2 ^ k) := by
  refine pk_shrN (by omega) _ k ?_
  have h : ∀ j, j < 32 → ((nI j &&& 31).toBitVec.smod 32).toNat = j := by decide +kernel
  exact h k (by omega)
theorem xw_and1 {n : Nat} (h : n < 2 ^ 31) : nI n &&& 1 = nI (n % 2) := pk_andN (by omega) 1 (by decide)
theorem xw_performEither {post : Int32 → SX → Prop} {p : Nat} (hG : rs_GA gc G a_goalKind a_goalFirst a_goalSecond a_goalThird a_goalFourth a_relationGoal) (hX : rs_XL T ms C nf a_link tt) (hn : ne.length ≤ 24) (hN : rs_NQ T nf ne a_neqLeft a_neqRight) (hNS : ∀ d, d ∈ ne → ¬ rs_Same C d.1 d.2) (hSK : rs_SK a_workGoal a_workFrame st)
    (hg : g < gc) (hgc : gc ≤ 48) (hst : st.length < 256) (hp : p < 256) (hlf : lf ≤ 30)
    (k : ∀ (f_trailTop f_callsDone f_choicesLeft f_neqCount f_workTop f_walkTop : Int32) (a_link a_trail a_neqLeft a_neqRight a_workGoal a_workFrame a_stackA a_stackB a_walk : Nat → Int32), ((rs_pEi p (G.2.1 g) (G.2.2.1 g) f C nf ne st lf).1 = 0 → rs_XS T ms C nf ne ((if p / 2 ^ (lf - 1) % 2 = 0 then G.2.1 g else G.2.2.1 g, f) :: st) (lf - 1) f_trailTop f_callsDone f_choicesLeft f_neqCount f_workTop a_link a_neqLeft a_neqRight a_workGoal a_workFrame) → post (nI (rs_pEi p (G.2.1 g) (G.2.2.1 g) f C nf ne st lf).1) (f_kindSymbol, f_kindSlot, f_kindPair, f_goalEq, f_goalNeq, f_goalBoth, f_goalEither, f_goalCall, f_goOn, f_outAnswer, f_outFailure, f_outCut, f_outPending, f_firstVariable, f_maxLevel, nI mc, nI ms, f_termCount, f_goalCount, f_searching, f_queryGoal, f_queryWidth, f_levelNow, f_pendingCount, f_nextCount, f_answerCount, f_failureCount, f_cutCount, f_trailTop, f_callsDone, f_choicesLeft, f_neqCount, f_workTop, f_walkTop, f_loaded, f_numberedCount, f_endUnknownCount, f_constraintsReady, f_relevantMask, f_keptCount, a_termKind, a_termLeft, a_termRight, a_termSize, a_goalKind, a_goalFirst, a_goalSecond, a_goalThird, a_goalFourth, a_goalSize, a_relationGoal, a_pendingPath, a_nextPath, a_answerPath, a_link, a_trail, a_neqLeft, a_neqRight, a_workGoal, a_workFrame, a_stackA, a_stackB, a_walk, a_numberOf, a_numbered, a_endUnknown, a_implied, a_kept, a_sightings, a_lastSeen)) :
    wpX_performEither post (f_kindSymbol, f_kindSlot, f_kindPair, f_goalEq, f_goalNeq, f_goalBoth, f_goalEither, f_goalCall, f_goOn, f_outAnswer, f_outFailure, f_outCut, f_outPending, f_firstVariable, f_maxLevel, nI mc, nI ms, f_termCount, f_goalCount, f_searching, f_queryGoal, f_queryWidth, f_levelNow, f_pendingCount, f_nextCount, f_answerCount, f_failureCount, f_cutCount, nI tt, nI (nf - 1), nI lf, nI ne.length, nI st.length, f_walkTop, f_loaded, f_numberedCount, f_endUnknownCount, f_constraintsReady, f_relevantMask, f_keptCount, a_termKind, a_termLeft, a_termRight, a_termSize, a_goalKind, a_goalFirst, a_goalSecond, a_goalThird, a_goalFourth, a_goalSize, a_relationGoal, a_pendingPath, a_nextPath, a_answerPath, a_link, a_trail, a_neqLeft, a_neqRight, a_workGoal, a_workFrame, a_stackA, a_stackB, a_walk, a_numberOf, a_numbered, a_endUnknown, a_implied, a_kept, a_sightings, a_lastSeen) (nI g) (nI f) (nI p) := by
  obtain ⟨_, e1, e2, _, _⟩ := hG.1 g hg
  by_cases h0 : lf = 0
  · have ez : (rs_pEi p (G.2.1 g) (G.2.2.1 g) f C nf ne st lf).1 = 4 := by
      unfold rs_pEi
      rw [if_pos h0]
    have := k (nI tt) (nI (nf - 1)) (nI lf) (nI ne.length) (nI st.length) f_walkTop a_link a_trail a_neqLeft a_neqRight a_workGoal a_workFrame a_stackA a_stackB a_walk (fun z => absurd z (by rw [ez]; decide))
    rw [ez] at this
    refine br_f ?_ this
    rw [h0]; decide
  · obtain ⟨l, rfl⟩ : ∃ l, lf = l + 1 := ⟨lf - 1, by omega⟩
    have ez : (rs_pEi p (G.2.1 g) (G.2.2.1 g) f C nf ne st (l + 1)).1 = 0 := by
      unfold rs_pEi
      rw [if_neg (by omega)]
    rw [Nat.add_sub_cancel] at k
    refine br_t (nI_lt (a := 0) (by omega) (by omega)) (nm_r (nI_pred l) ?_)
    rw [xw_shr1 hp (by omega)]
    have hdiv : p / 2 ^ l < 2 ^ 31 := Nat.lt_of_le_of_lt (Nat.div_le_self _ _) (by omega)
    refine nm_r (xw_and1 hdiv) ?_
    have fin : ∀ a, a = (if p / 2 ^ l % 2 = 0 then G.2.1 g else G.2.2.1 g) → wX_performEither_49 post (nI f) (nI a) f_kindSymbol f_kindSlot f_kindPair f_goalEq f_goalNeq f_goalBoth f_goalEither f_goalCall f_goOn f_outAnswer f_outFailure f_outCut f_outPending f_firstVariable f_maxLevel (nI mc) (nI ms) f_termCount f_goalCount f_searching f_queryGoal f_queryWidth f_levelNow f_pendingCount f_nextCount f_answerCount f_failureCount f_cutCount (nI tt) (nI (nf - 1)) (nI l) (nI ne.length) (nI st.length) f_walkTop f_loaded f_numberedCount f_endUnknownCount f_constraintsReady f_relevantMask f_keptCount a_termKind a_termLeft a_termRight a_termSize a_goalKind a_goalFirst a_goalSecond a_goalThird a_goalFourth a_goalSize a_relationGoal a_pendingPath a_nextPath a_answerPath a_link a_trail a_neqLeft a_neqRight a_workGoal a_workFrame a_stackA a_stackB a_walk a_numberOf a_numbered a_endUnknown a_implied a_kept a_sightings a_lastSeen := by
      intro a ha
      refine xw_push hst ?_
      have := k (nI tt) (nI (nf - 1)) (nI l) (nI ne.length) (nI (st.length + 1)) f_walkTop a_link a_trail a_neqLeft a_neqRight (upd a_workGoal st.length (nI a)) (upd a_workFrame st.length (nI f)) a_stackA a_stackB a_walk (fun _ => ⟨tt, rfl, rfl, rfl, rfl, rfl, hX, hn, hN, hNS, by rw [← ha]; exact rs_SK_push hSK⟩)
      rw [ez] at this
      exact this
    by_cases hb : p / 2 ^ l % 2 = 0
    · refine br_t (by rw [hb]; rfl) ⟨vp_in_nI (by omega) (by decide), ?_⟩
      rw [nI_clamp (n := g) (by omega), e1]
      exact fin _ (by rw [if_pos hb])
    · refine br_f (nI_ne0 (by omega) (by omega)) ⟨vp_in_nI (by omega) (by decide), ?_⟩
      rw [nI_clamp (n := g) (by omega), e2]
      exact fin _ (by rw [if_neg hb])
end
end
section
/-! a call -/
/-- while the values are passed -/
def rs_XP (T : rs_T) (nf : Nat) (C : rs_V) (link0 link : Nat → Int32) (tt k : Nat) : Prop :=
  (∀ n, rs_op T nf n → link n = link0 n) ∧ rs_LR link ∧ rs_LK T (nf + 1) (rs_lk link) tt ∧ rs_CC T (rs_lk link) [] ∧ rs_cl T nf (rs_lk link) ∧ (∀ v, k ≤ v → v < 6 → link (704 + 6 * nf + v) = -1) ∧ ∀ θ, rs_cp θ → (C θ ↔ rs_M T (rs_lk link) θ)
theorem rs_XP_0 {T : rs_T} (hT : rs_TX T) {ms nf tt : Nat} {C : rs_V} {link : Nat → Int32} (h : rs_XL T ms C nf link tt) (hf : nf < 11) : rs_XP T nf C link link tt 0 := by
  obtain ⟨_, hR, hL, hC, hM, _⟩ := h
  refine ⟨fun _ _ => rfl, hR, rs_LK_mono hL (by omega) (by omega), hC, rs_cl_0 hT hL, ?_, hM⟩
  intro v _ hv
  rcases hR (704 + 6 * nf + v) (by omega) with e | ⟨m, hm, e⟩
  · exact e
  · have := (hL.2.1 _ m (rs_lk_s (by omega) hm e)).1
    rcases this with z | z <;> omega
theorem rs_XP_tt {T : rs_T} {nf tt k : Nat} {C : rs_V} {link0 link : Nat → Int32} (h : rs_XP T nf C link0 link tt k) (hf : nf < 11) (hk : k < 6) : tt < 770 := by
  have hl := h.2.2.2.2.2.1 k (Nat.le_refl _) hk
  have e1 := h.2.2.1.2.2.2
  have e2 := rs_cn_up (b := 0) (rs_lk_n hl) 770
  rw [if_pos (by omega)] at e2
  have e3 := rs_cn_le (rs_up (rs_lk link) (704 + 6 * nf + k) 0) 770
  omega
section
variable {f_kindSymbol f_kindSlot f_kindPair f_goalEq f_goalNeq f_goalBoth f_goalEither f_goalCall f_goOn f_outAnswer f_outFailure f_outCut f_outPending f_firstVariable f_maxLevel f_maxCalls f_maxSize f_termCount f_goalCount f_searching f_queryGoal f_queryWidth f_levelNow f_pendingCount f_nextCount f_answerCount f_failureCount f_cutCount f_trailTop f_callsDone f_choicesLeft f_neqCount f_workTop f_walkTop f_loaded f_numberedCount f_endUnknownCount f_constraintsReady f_relevantMask f_keptCount : Int32} {a_termKind a_termLeft a_termRight a_termSize a_goalKind a_goalFirst a_goalSecond a_goalThird a_goalFourth a_goalSize a_relationGoal a_pendingPath a_nextPath a_answerPath a_link a_trail a_neqLeft a_neqRight a_workGoal a_workFrame a_stackA a_stackB a_walk a_numberOf a_numbered a_endUnknown a_implied a_kept a_sightings a_lastSeen : Nat → Int32}
variable {T : rs_T} {nf tt ms mc lf gc g f : Nat} {C : rs_V} {ne : List (List Nat × List Nat)} {st : List (Nat × Nat)} {G : rs_G}
theorem xw_pass {post : SX → Prop} {t k : Nat} {link0 : Nat → Int32} (hT : rs_TA T a_termKind a_termLeft a_termRight) (hP : rs_XP T nf C link0 a_link tt k) (hf : f < nf) (hnf : nf < 11) (htc : T.2.2.2.2 ≤ 64) (ht : t < T.2.2.2.2) (hk : k < 3)
    (h : ∀ a_link a_trail, rs_XP T nf (fun θ => C θ ∧ θ (6 * nf + k) = rs_s θ (rs_sh f (T.2.2.2.1 t))) link0 a_link (tt + 1) (k + 1) → post (f_kindSymbol, f_kindSlot, f_kindPair, f_goalEq, f_goalNeq, f_goalBoth, f_goalEither, f_goalCall, f_goOn, f_outAnswer, f_outFailure, f_outCut, f_outPending, f_firstVariable, f_maxLevel, f_maxCalls, f_maxSize, f_termCount, f_goalCount, f_searching, f_queryGoal, f_queryWidth, f_levelNow, f_pendingCount, f_nextCount, f_answerCount, f_failureCount, f_cutCount, nI (tt + 1), f_callsDone, f_choicesLeft, f_neqCount, f_workTop, f_walkTop, f_loaded, f_numberedCount, f_endUnknownCount, f_constraintsReady, f_relevantMask, f_keptCount, a_termKind, a_termLeft, a_termRight, a_termSize, a_goalKind, a_goalFirst, a_goalSecond, a_goalThird, a_goalFourth, a_goalSize, a_relationGoal, a_pendingPath, a_nextPath, a_answerPath, a_link, a_trail, a_neqLeft, a_neqRight, a_workGoal, a_workFrame, a_stackA, a_stackB, a_walk, a_numberOf, a_numbered, a_endUnknown, a_implied, a_kept, a_sightings, a_lastSeen)) :
    wpX_pass post (f_kindSymbol, f_kindSlot, f_kindPair, f_goalEq, f_goalNeq, f_goalBoth, f_goalEither, f_goalCall, f_goOn, f_outAnswer, f_outFailure, f_outCut, f_outPending, f_firstVariable, f_maxLevel, f_maxCalls, f_maxSize, f_termCount, f_goalCount, f_searching, f_queryGoal, f_queryWidth, f_levelNow, f_pendingCount, f_nextCount, f_answerCount, f_failureCount, f_cutCount, nI tt, f_callsDone, f_choicesLeft, f_neqCount, f_workTop, f_walkTop, f_loaded, f_numberedCount, f_endUnknownCount, f_constraintsReady, f_relevantMask, f_keptCount, a_termKind, a_termLeft, a_termRight, a_termSize, a_goalKind, a_goalFirst, a_goalSecond, a_goalThird, a_goalFourth, a_goalSize, a_relationGoal, a_pendingPath, a_nextPath, a_answerPath, a_link, a_trail, a_neqLeft, a_neqRight, a_workGoal, a_workFrame, a_stackA, a_stackB, a_walk, a_numberOf, a_numbered, a_endUnknown, a_implied, a_kept, a_sightings, a_lastSeen) (nI f) (nI t) (nI nf) (nI k) := by
  have htt := rs_XP_tt hP hnf (by omega)
  obtain ⟨h0, hR, hL, hC, hc, hu, hM⟩ := hP
  have on : rs_op T nf (64 * f + t) := Or.inl ⟨by omega, by omega⟩
  have hn : 64 * f + t < 770 := by omega
  have hl := hu k (Nat.le_refl _) (by omega)
  have lr := rs_rt_lt hT.1 hL hn
  have na : ¬ rs_op T nf (704 + 6 * nf + k) := by
    rintro (z | z) <;> omega
  obtain ⟨p1, p2, p3, p4⟩ := rs_pass hT.1 hL hC hc on (by omega) (by omega : 704 ≤ 704 + 6 * nf + k) (Or.inr (by omega)) na (rs_lk_n hl)
  rw [← rs_lk_up (by omega) lr] at p1 p2 p3 p4
  unfold wpX_pass
  dsimp only
  refine xw_termNode ?_
  refine xw_find hT hR hL hn ?_
  refine xw_variableNode ?_
  refine xw_bind (by omega) htt ?_
  refine h (upd a_link (704 + 6 * nf + k) (nI (rs_rt T (rs_lk a_link) (64 * f + t)))) (upd a_trail tt (nI (704 + 6 * nf + k))) ⟨?_, rs_LR_up hR lr, p1, p2, p3, ?_, ?_⟩
  · intro n hn'
    have hna : n ≠ 704 + 6 * nf + k := by
      intro z
      rw [z] at hn'
      exact na hn'
    exact (if_neg hna).trans (h0 n hn')
  · intro v hv hv6
    exact (if_neg (by omega)).trans (hu v (by omega) hv6)
  · intro θ hθ
    rw [p4 θ, ← hM θ hθ, rs_ns_term (by omega) (by omega), show 704 + 6 * nf + k - 704 = 6 * nf + k by omega]
theorem xw_performCall_101 {post : Int32 → SX → Prop} {b x4 : Nat} (hT : rs_TA T a_termKind a_termLeft a_termRight) (hR : rs_LR a_link) (hL : rs_LK T (nf + 1) (rs_lk a_link) tt) (hms : ms ≤ 31) (h1 : 1 ≤ ms) (hnf : nf < 11) (hst : st.length < 256)
    (k1 : (∀ i, i < 3 → rs_Fit T (rs_lk a_link) [704 + 6 * nf + i] ms) → ∀ (a_walk : Nat → Int32) (f_walkTop : Int32), post 0 (f_kindSymbol, f_kindSlot, f_kindPair, f_goalEq, f_goalNeq, f_goalBoth, f_goalEither, f_goalCall, f_goOn, f_outAnswer, f_outFailure, f_outCut, f_outPending, f_firstVariable, f_maxLevel, f_maxCalls, nI ms, f_termCount, f_goalCount, f_searching, f_queryGoal, f_queryWidth, f_levelNow, f_pendingCount, f_nextCount, f_answerCount, f_failureCount, f_cutCount, f_trailTop, f_callsDone, f_choicesLeft, f_neqCount, nI (st.length + 1), f_walkTop, f_loaded, f_numberedCount, f_endUnknownCount, f_constraintsReady, f_relevantMask, f_keptCount, a_termKind, a_termLeft, a_termRight, a_termSize, a_goalKind, a_goalFirst, a_goalSecond, a_goalThird, a_goalFourth, a_goalSize, a_relationGoal, a_pendingPath, a_nextPath, a_answerPath, a_link, a_trail, a_neqLeft, a_neqRight, upd a_workGoal st.length (nI b), upd a_workFrame st.length (nI x4), a_stackA, a_stackB, a_walk, a_numberOf, a_numbered, a_endUnknown, a_implied, a_kept, a_sightings, a_lastSeen))
    (k0 : ¬ (∀ i, i < 3 → rs_Fit T (rs_lk a_link) [704 + 6 * nf + i] ms) → ∀ (a_walk : Nat → Int32) (f_walkTop : Int32), post 2 (f_kindSymbol, f_kindSlot, f_kindPair, f_goalEq, f_goalNeq, f_goalBoth, f_goalEither, f_goalCall, f_goOn, f_outAnswer, f_outFailure, f_outCut, f_outPending, f_firstVariable, f_maxLevel, f_maxCalls, nI ms, f_termCount, f_goalCount, f_searching, f_queryGoal, f_queryWidth, f_levelNow, f_pendingCount, f_nextCount, f_answerCount, f_failureCount, f_cutCount, f_trailTop, f_callsDone, f_choicesLeft, f_neqCount, nI st.length, f_walkTop, f_loaded, f_numberedCount, f_endUnknownCount, f_constraintsReady, f_relevantMask, f_keptCount, a_termKind, a_termLeft, a_termRight, a_termSize, a_goalKind, a_goalFirst, a_goalSecond, a_goalThird, a_goalFourth, a_goalSize, a_relationGoal, a_pendingPath, a_nextPath, a_answerPath, a_link, a_trail, a_neqLeft, a_neqRight, a_workGoal, a_workFrame, a_stackA, a_stackB, a_walk, a_numberOf, a_numbered, a_endUnknown, a_implied, a_kept, a_sightings, a_lastSeen)) :
    ∀ (k i : Nat) (a_walk : Nat → Int32) (f_walkTop : Int32), i + k = 3 → (∀ j, j < i → rs_Fit T (rs_lk a_link) [704 + 6 * nf + j] ms) → wX_performCall_101 post (nI b) (nI x4) (nI (704 + 6 * nf + 0)) (k + 1) (nI i) f_kindSymbol f_kindSlot f_kindPair f_goalEq f_goalNeq f_goalBoth f_goalEither f_goalCall f_goOn f_outAnswer f_outFailure f_outCut f_outPending f_firstVariable f_maxLevel f_maxCalls (nI ms) f_termCount f_goalCount f_searching f_queryGoal f_queryWidth f_levelNow f_pendingCount f_nextCount f_answerCount f_failureCount f_cutCount f_trailTop f_callsDone f_choicesLeft f_neqCount (nI st.length) f_walkTop f_loaded f_numberedCount f_endUnknownCount f_constraintsReady f_relevantMask f_keptCount a_termKind a_termLeft a_termRight a_termSize a_goalKind a_goalFirst a_goalSecond a_goalThird a_goalFourth a_goalSize a_relationGoal a_pendingPath a_nextPath a_answerPath a_link a_trail a_neqLeft a_neqRight a_workGoal a_workFrame a_stackA a_stackB a_walk a_numberOf a_numbered a_endUnknown a_implied a_kept a_sightings a_lastSeen := by
  intro k
  induction k with
  | zero =>
    intro i a_walk f_walkTop hi hw
    exact br_t (nI_le (a := 3) (by omega) (by omega)) (xw_push hst (k1 (fun j hj => hw j (by omega)) _ _))
  | succ k ih =>
    intro i a_walk f_walkTop hi hw
    refine br_f (nI_ge (b := 3) (by omega) (by decide)) ?_
    rw [nI_add, Nat.add_zero]
    refine xw_fits hT hR hL hms h1 (by omega) (fun hf a_walk f_walkTop => br_f (by decide) (nm_r (nI_1 _) ?_)) (fun hf a_walk f_walkTop => br_t rfl (k0 (fun z => hf (z i (by omega))) _ _))
    refine ih (i + 1) a_walk f_walkTop (by omega) (fun j hj => ?_)
    by_cases e : j = i
    · rw [e]; exact hf
    · exact hw j (by omega)
theorem xw_performCall {post : Int32 → SX → Prop} (hT : rs_TA T a_termKind a_termLeft a_termRight) (hG : rs_GA gc G a_goalKind a_goalFirst a_goalSecond a_goalThird a_goalFourth a_relationGoal) (hms : ms ≤ 31) (h1 : 1 ≤ ms) (hX : rs_XL T ms C nf a_link tt) (hn : ne.length ≤ 24) (hN : rs_NQ T nf ne a_neqLeft a_neqRight) (hNS : ∀ d, d ∈ ne → ¬ rs_Same C d.1 d.2) (hSK : rs_SK a_workGoal a_workFrame st)
    (hg : g < gc) (hgc : gc ≤ 48) (hf : f < nf) (hr : G.2.1 g < 8) (htc : T.2.2.2.2 ≤ 64) (t1 : G.2.2.1 g < T.2.2.2.2) (t2 : G.2.2.2.1 g < T.2.2.2.2) (t3 : G.2.2.2.2.1 g < T.2.2.2.2) (hst : st.length < 256) (hmc : mc ≤ 10) (hnf : nf ≤ mc + 1) (hrl : ∀ r b, G.2.2.2.2.2.2.1 r = some b → b < gc)
    (k : ∀ (f_trailTop f_callsDone f_choicesLeft f_neqCount f_workTop f_walkTop : Int32) (a_link a_trail a_neqLeft a_neqRight a_workGoal a_workFrame a_stackA a_stackB a_walk : Nat → Int32), ((rs_pCall mc ms (G.2.2.2.2.2.2.1 (G.2.1 g)) (rs_sh f (T.2.2.2.1 (G.2.2.1 g))) (rs_sh f (T.2.2.2.1 (G.2.2.2.1 g))) (rs_sh f (T.2.2.2.1 (G.2.2.2.2.1 g))) C nf ne st lf).1 = 0 → rs_XS T ms (rs_pCall mc ms (G.2.2.2.2.2.2.1 (G.2.1 g)) (rs_sh f (T.2.2.2.1 (G.2.2.1 g))) (rs_sh f (T.2.2.2.1 (G.2.2.2.1 g))) (rs_sh f (T.2.2.2.1 (G.2.2.2.2.1 g))) C nf ne st lf).2.1 (rs_pCall mc ms (G.2.2.2.2.2.2.1 (G.2.1 g)) (rs_sh f (T.2.2.2.1 (G.2.2.1 g))) (rs_sh f (T.2.2.2.1 (G.2.2.2.1 g))) (rs_sh f (T.2.2.2.1 (G.2.2.2.2.1 g))) C nf ne st lf).2.2.1 (rs_pCall mc ms (G.2.2.2.2.2.2.1 (G.2.1 g)) (rs_sh f (T.2.2.2.1 (G.2.2.1 g))) (rs_sh f (T.2.2.2.1 (G.2.2.2.1 g))) (rs_sh f (T.2.2.2.1 (G.2.2.2.2.1 g))) C nf ne st lf).2.2.2.1 (rs_pCall mc ms (G.2.2.2.2.2.2.1 (G.2.1 g)) (rs_sh f (T.2.2.2.1 (G.2.2.1 g))) (rs_sh f (T.2.2.2.1 (G.2.2.2.1 g))) (rs_sh f (T.2.2.2.1 (G.2.2.2.2.1 g))) C nf ne st lf).2.2.2.2.1 (rs_pCall mc ms (G.2.2.2.2.2.2.1 (G.2.1 g)) (rs_sh f (T.2.2.2.1 (G.2.2.1 g))) (rs_sh f (T.2.2.2.1 (G.2.2.2.1 g))) (rs_sh f (T.2.2.2.1 (G.2.2.2.2.1 g))) C nf ne st lf).2.2.2.2.2 f_trailTop f_callsDone f_choicesLeft f_neqCount f_workTop a_link a_neqLeft a_neqRight a_workGoal a_workFrame) → post (nI (rs_pCall mc ms (G.2.2.2.2.2.2.1 (G.2.1 g)) (rs_sh f (T.2.2.2.1 (G.2.2.1 g))) (rs_sh f (T.2.2.2.1 (G.2.2.2.1 g))) (rs_sh f (T.2.2.2.1 (G.2.2.2.2.1 g))) C nf ne st lf).1) (f_kindSymbol, f_kindSlot, f_kindPair, f_goalEq, f_goalNeq, f_goalBoth, f_goalEither, f_goalCall, f_goOn, f_outAnswer, f_outFailure, f_outCut, f_outPending, f_firstVariable, f_maxLevel, nI mc, nI ms, f_termCount, f_goalCount, f_searching, f_queryGoal, f_queryWidth, f_levelNow, f_pendingCount, f_nextCount, f_answerCount, f_failureCount, f_cutCount, f_trailTop, f_callsDone, f_choicesLeft, f_neqCount, f_workTop, f_walkTop, f_loaded, f_numberedCount, f_endUnknownCount, f_constraintsReady, f_relevantMask, f_keptCount, a_termKind, a_termLeft, a_termRight, a_termSize, a_goalKind, a_goalFirst, a_goalSecond, a_goalThird, a_goalFourth, a_goalSize, a_relationGoal, a_pendingPath, a_nextPath, a_answerPath, a_link, a_trail, a_neqLeft, a_neqRight, a_workGoal, a_workFrame, a_stackA, a_stackB, a_walk, a_numberOf, a_numbered, a_endUnknown, a_implied, a_kept, a_sightings, a_lastSeen)) :
    wpX_performCall post (f_kindSymbol, f_kindSlot, f_kindPair, f_goalEq, f_goalNeq, f_goalBoth, f_goalEither, f_goalCall, f_goOn, f_outAnswer, f_outFailure, f_outCut, f_outPending, f_firstVariable, f_maxLevel, nI mc, nI ms, f_termCount, f_goalCount, f_searching, f_queryGoal, f_queryWidth, f_levelNow, f_pendingCount, f_nextCount, f_answerCount, f_failureCount, f_cutCount, nI tt, nI (nf - 1), nI lf, nI ne.length, nI st.length, f_walkTop, f_loaded, f_numberedCount, f_endUnknownCount, f_constraintsReady, f_relevantMask, f_keptCount, a_termKind, a_termLeft, a_termRight, a_termSize, a_goalKind, a_goalFirst, a_goalSecond, a_goalThird, a_goalFourth, a_goalSize, a_relationGoal, a_pendingPath, a_nextPath, a_answerPath, a_link, a_trail, a_neqLeft, a_neqRight, a_workGoal, a_workFrame, a_stackA, a_stackB, a_walk, a_numberOf, a_numbered, a_endUnknown, a_implied, a_kept, a_sightings, a_lastSeen) (nI g) (nI f) := by
  obtain ⟨_, e1, e2, e3, e4⟩ := hG.1 g hg
  have hf1 := hX.1
  have hf11 := hX.2.2.1.1
  refine ⟨vp_in_nI (by omega) (by decide), ?_⟩
  rw [nI_clamp (n := g) (by omega), e1]
  refine ⟨vp_in_nI hr (by decide), ?_⟩
  rw [nI_clamp (n := G.2.1 g) (by omega)]
  rcases hG.2 (G.2.1 g) hr with ⟨eb, er⟩ | ⟨b, eb, er⟩
  · rw [eb] at k
    refine nm_r er (br_f (by decide) ?_)
    exact k (nI tt) (nI (nf - 1)) (nI lf) (nI ne.length) (nI st.length) f_walkTop a_link a_trail a_neqLeft a_neqRight a_workGoal a_workFrame a_stackA a_stackB a_walk (fun z => absurd z (by show ¬ (2 : Nat) = 0; decide))
  · rw [eb] at k
    refine nm_r er (br_t ?_ ?_)
    · have := hrl _ b eb
      exact nI_pos' (by omega)
    · by_cases hc : mc ≤ nf - 1
      · refine br_f (nI_nlt hc (by omega)) ?_
        have ez : rs_pCall mc ms (some b) (rs_sh f (T.2.2.2.1 (G.2.2.1 g))) (rs_sh f (T.2.2.2.1 (G.2.2.2.1 g))) (rs_sh f (T.2.2.2.1 (G.2.2.2.2.1 g))) C nf ne st lf = (3, (C, nf, ne, st, lf)) := by
          unfold rs_pCall
          exact if_pos hc
        rw [ez] at k
        exact k (nI tt) (nI (nf - 1)) (nI lf) (nI ne.length) (nI st.length) f_walkTop a_link a_trail a_neqLeft a_neqRight a_workGoal a_workFrame a_stackA a_stackB a_walk (fun z => absurd z (by show ¬ (3 : Nat) = 0; decide))
      · refine br_t (nI_lt (by omega) (by omega)) (nm_r (e' := nI nf) (by rw [nI_1]; congr 1; omega) ⟨vp_in_nI (by omega) (by decide), ?_⟩)
        rw [e2]
        refine xw_pass hT (rs_XP_0 hT.1 hX (by omega)) hf (by omega) htc t1 (k := 0) (by omega) (fun a_link1 a_trail hP => ⟨vp_in_nI (by omega) (by decide), ?_⟩)
        rw [e3]
        refine xw_pass hT hP hf (by omega) htc t2 (k := 1) (by omega) (fun a_link2 a_trail hP => ⟨vp_in_nI (by omega) (by decide), ?_⟩)
        rw [e4]
        refine xw_pass hT hP hf (by omega) htc t3 (k := 2) (by omega) (fun a_link3 a_trail hP => ?_)
        refine xw_variableNode (f := nf) (t := 0) ⟨4, ?_⟩
        obtain ⟨p0, pR, pL, pC, pc, pu, pM⟩ := hP
        have pM' : ∀ θ, rs_cp θ → (rs_callC C (6 * nf) (rs_sh f (T.2.2.2.1 (G.2.2.1 g))) (rs_sh f (T.2.2.2.1 (G.2.2.2.1 g))) (rs_sh f (T.2.2.2.1 (G.2.2.2.2.1 g))) θ ↔ rs_M T (rs_lk a_link3) θ) := by
          intro θ hθ
          rw [← pM θ hθ]
          exact ⟨fun ⟨z1, z2, z3, z4⟩ => ⟨⟨⟨z1, z2⟩, z3⟩, z4⟩, fun ⟨⟨⟨z1, z2⟩, z3⟩, z4⟩ => ⟨z1, z2, z3, z4⟩⟩
        have hSF := rs_Sat_fit hT.1 (ms := ms) pL pC pM'
        have hall : (∀ i, i < 3 → rs_Fit T (rs_lk a_link3) [704 + 6 * nf + i] ms) → ∀ v, v < 6 * (nf + 1) → rs_Fit T (rs_lk a_link3) [704 + v] ms := by
          intro hi v hv
          by_cases v1 : v < 6 * nf
          · obtain ⟨l, q1, q2⟩ := hX.2.2.2.2.2 v v1
            refine ⟨l, rs_WK_old hT.1 (by omega) (rs_cl_0 hT.1 hX.2.2.1) ?_ l [704 + v] ?_ q1, q2⟩
            · intro n hn
              unfold rs_lk
              rw [p0 n hn]
            · intro n hn
              rw [List.mem_singleton] at hn
              exact Or.inr (by omega)
          · by_cases v2 : v < 6 * nf + 3
            · have := hi (v - 6 * nf) (by omega)
              rwa [show 704 + 6 * nf + (v - 6 * nf) = 704 + v by omega] at this
            · have hu := pu (v - 6 * nf) (by omega) (by omega)
              rw [show 704 + 6 * nf + (v - 6 * nf) = 704 + v by omega] at hu
              have hx := rs_rt_stop (rs_nx_none (T := T) (rs_lk_n hu) (Or.inl (by omega)))
              refine ⟨[100 + v], ⟨704 + v, [], rfl, ?_, ?_⟩, h1⟩
              · rw [hx, rs_tkn_hi (by omega), Nat.add_sub_cancel_left]
              · rw [hx]
                unfold rs_kd
                rw [if_neg (by omega)]
                rfl
        refine xw_performCall_101 (nf := nf) hT pR pL hms h1 (by omega) hst ?_ ?_ 3 0 _ _ (by omega) (fun j hj => absurd hj (by omega))
        · intro hfit a_walk f_walkTop
          have hF' := hall hfit
          have hSat := hSF.mpr hF'
          have ez : rs_pCall mc ms (some b) (rs_sh f (T.2.2.2.1 (G.2.2.1 g))) (rs_sh f (T.2.2.2.1 (G.2.2.2.1 g))) (rs_sh f (T.2.2.2.1 (G.2.2.2.2.1 g))) C nf ne st lf = (0, (rs_callC C (6 * nf) (rs_sh f (T.2.2.2.1 (G.2.2.1 g))) (rs_sh f (T.2.2.2.1 (G.2.2.2.1 g))) (rs_sh f (T.2.2.2.1 (G.2.2.2.2.1 g))), nf + 1, ne, (b, nf) :: st, lf)) := by
            unfold rs_pCall
            show (if mc ≤ nf - 1 then _ else _) = _
            rw [if_neg hc, rs_if_t hSat]
          rw [ez] at k
          refine k (nI (tt + 1 + 1 + 1)) (nI nf) (nI lf) (nI ne.length) (nI (st.length + 1)) f_walkTop a_link3 a_trail a_neqLeft a_neqRight (upd a_workGoal st.length (nI b)) (upd a_workFrame st.length (nI nf)) a_stackA a_stackB a_walk (fun _ => ⟨tt + 1 + 1 + 1, rfl, rfl, rfl, rfl, rfl, ⟨Nat.le_add_left 1 nf, pR, pL, pC, pM', hF'⟩, hn, ?_, ?_, rs_SK_push hSK⟩)
          · intro i hi
            obtain ⟨x, y, q1, q2, q3, q4, q5, q6, q7⟩ := hN i hi
            exact ⟨x, y, rs_op_mono (Nat.le_succ nf) q1, rs_op_mono (Nat.le_succ nf) q2, q3, q4, q5, q6, q7⟩
          · intro d hd
            obtain ⟨j, hj⟩ := List.mem_iff_getElem?.mp hd
            have hjl : j < ne.length := by
              rcases Nat.lt_or_ge j ne.length with z | z
              · exact z
              · rw [List.getElem?_eq_none z] at hj; exact absurd hj (by simp)
            obtain ⟨x, y, q1, q2, q3, q4, q5, q6, q7⟩ := hN j hjl
            have ed : d = (rs_ns T x, rs_ns T y) := by
              rw [q7] at hj
              injection hj with hj
              exact hj.symm
            have tv : ∀ t, t < T.2.2.2.2 → ∀ v, 100 + v ∈ rs_sh f (T.2.2.2.1 t) → v < 6 * nf := fun t ht v hv => rs_sh_var hf (rs_TX_tok hT.1 64 t (by omega) (by omega)) hv
            have tw : ∀ t, t < T.2.2.2.2 → rs_W 1 (rs_sh f (T.2.2.2.1 t)) := fun t ht => rs_sh_W f _ 1 (rs_TX_W hT.1 64 t (by omega) (by omega))
            refine rs_call_same hX.2.2.2.2.1 (rs_lo_M hT.1 hX.2.2.1) ?_ ?_ (tv _ t1) (tv _ t2) (tv _ t3) (tw _ t1) (tw _ t2) (tw _ t3) (hNS d hd)
            · rw [ed]; exact fun v hv => rs_ns_vars hT.1 hf11 q1 hv
            · rw [ed]; exact fun v hv => rs_ns_vars hT.1 hf11 q2 hv
        · intro hfit a_walk f_walkTop
          have hSat : ¬ rs_Sat ms (6 * (nf + 1)) (rs_callC C (6 * nf) (rs_sh f (T.2.2.2.1 (G.2.2.1 g))) (rs_sh f (T.2.2.2.1 (G.2.2.2.1 g))) (rs_sh f (T.2.2.2.1 (G.2.2.2.2.1 g)))) := by
            intro z
            refine hfit (fun i hi => ?_)
            have := hSF.mp z (6 * nf + i) (by omega)
            rwa [← Nat.add_assoc] at this
          have ez : rs_pCall mc ms (some b) (rs_sh f (T.2.2.2.1 (G.2.2.1 g))) (rs_sh f (T.2.2.2.1 (G.2.2.2.1 g))) (rs_sh f (T.2.2.2.1 (G.2.2.2.2.1 g))) C nf ne st lf = (2, (C, nf, ne, st, lf)) := by
            unfold rs_pCall
            show (if mc ≤ nf - 1 then _ else _) = _
            rw [if_neg hc, rs_if_f hSat]
          rw [ez] at k
          exact k (nI (tt + 1 + 1 + 1)) (nI nf) (nI lf) (nI ne.length) (nI st.length) f_walkTop a_link3 a_trail a_neqLeft a_neqRight a_workGoal a_workFrame a_stackA a_stackB a_walk (fun z => absurd z (by show ¬ (2 : Nat) = 0; decide))
end
end
section
/-! the component's run of a path -/
section
variable {f_kindSymbol f_kindSlot f_kindPair f_goalEq f_goalNeq f_goalBoth f_goalEither f_goalCall f_goOn f_outAnswer f_outFailure f_outCut f_outPending f_firstVariable f_maxLevel f_maxCalls f_maxSize f_termCount f_goalCount f_searching f_queryGoal f_queryWidth f_levelNow f_pendingCount f_nextCount f_answerCount f_failureCount f_cutCount f_trailTop f_callsDone f_choicesLeft f_neqCount f_workTop f_walkTop f_loaded f_numberedCount f_endUnknownCount f_constraintsReady f_relevantMask f_keptCount : Int32} {a_termKind a_termLeft a_termRight a_termSize a_goalKind a_goalFirst a_goalSecond a_goalThird a_goalFourth a_goalSize a_relationGoal a_pendingPath a_nextPath a_answerPath a_link a_trail a_neqLeft a_neqRight a_workGoal a_workFrame a_stackA a_stackB a_walk a_numberOf a_numbered a_endUnknown a_implied a_kept a_sightings a_lastSeen : Nat → Int32}
variable {T : rs_T} {nf tt ms mc lf gc g f p q : Nat} {C : rs_V} {ne : List (List Nat × List Nat)} {st : List (Nat × Nat)} {G : rs_G}
theorem xw_perform {post : Int32 → SX → Prop} (hT : rs_TA T a_termKind a_termLeft a_termRight) (hG : rs_GA gc G a_goalKind a_goalFirst a_goalSecond a_goalThird a_goalFourth a_relationGoal) (hGX : rs_GX T.2.2.2.2 gc G) (htc : T.2.2.2.2 ≤ 64) (hgc : gc ≤ 48) (ems : G.2.2.2.2.2.2.2.2 = ms) (emc : G.2.2.2.2.2.2.2.1 = mc)
    (hX : rs_XL T ms C nf a_link tt) (hn : ne.length ≤ 24) (hN : rs_NQ T nf ne a_neqLeft a_neqRight) (hNS : ∀ d, d ∈ ne → ¬ rs_Same C d.1 d.2) (hSK : rs_SK a_workGoal a_workFrame st) (hRI : nf ≤ mc + 1) (hst : st.length < 250) (hg : g < gc) (hf : f < nf) (hp : p < 256) (hlf : lf ≤ 30)
    (k : ∀ (f_trailTop f_callsDone f_choicesLeft f_neqCount f_workTop f_walkTop : Int32) (a_link a_trail a_neqLeft a_neqRight a_workGoal a_workFrame a_stackA a_stackB a_walk : Nat → Int32), ((rs_perf T.2.2.2.1 G p g f C nf ne st lf).1 = 0 → rs_XS T ms (rs_perf T.2.2.2.1 G p g f C nf ne st lf).2.1 (rs_perf T.2.2.2.1 G p g f C nf ne st lf).2.2.1 (rs_perf T.2.2.2.1 G p g f C nf ne st lf).2.2.2.1 (rs_perf T.2.2.2.1 G p g f C nf ne st lf).2.2.2.2.1 (rs_perf T.2.2.2.1 G p g f C nf ne st lf).2.2.2.2.2 f_trailTop f_callsDone f_choicesLeft f_neqCount f_workTop a_link a_neqLeft a_neqRight a_workGoal a_workFrame) → post (nI (rs_perf T.2.2.2.1 G p g f C nf ne st lf).1) (f_kindSymbol, f_kindSlot, f_kindPair, f_goalEq, f_goalNeq, f_goalBoth, f_goalEither, f_goalCall, f_goOn, f_outAnswer, f_outFailure, f_outCut, f_outPending, f_firstVariable, f_maxLevel, nI mc, nI ms, f_termCount, f_goalCount, f_searching, f_queryGoal, f_queryWidth, f_levelNow, f_pendingCount, f_nextCount, f_answerCount, f_failureCount, f_cutCount, f_trailTop, f_callsDone, f_choicesLeft, f_neqCount, f_workTop, f_walkTop, f_loaded, f_numberedCount, f_endUnknownCount, f_constraintsReady, f_relevantMask, f_keptCount, a_termKind, a_termLeft, a_termRight, a_termSize, a_goalKind, a_goalFirst, a_goalSecond, a_goalThird, a_goalFourth, a_goalSize, a_relationGoal, a_pendingPath, a_nextPath, a_answerPath, a_link, a_trail, a_neqLeft, a_neqRight, a_workGoal, a_workFrame, a_stackA, a_stackB, a_walk, a_numberOf, a_numbered, a_endUnknown, a_implied, a_kept, a_sightings, a_lastSeen)) :
    wpX_perform post (f_kindSymbol, f_kindSlot, f_kindPair, f_goalEq, f_goalNeq, f_goalBoth, f_goalEither, f_goalCall, f_goOn, f_outAnswer, f_outFailure, f_outCut, f_outPending, f_firstVariable, f_maxLevel, nI mc, nI ms, f_termCount, f_goalCount, f_searching, f_queryGoal, f_queryWidth, f_levelNow, f_pendingCount, f_nextCount, f_answerCount, f_failureCount, f_cutCount, nI tt, nI (nf - 1), nI lf, nI ne.length, nI st.length, f_walkTop, f_loaded, f_numberedCount, f_endUnknownCount, f_constraintsReady, f_relevantMask, f_keptCount, a_termKind, a_termLeft, a_termRight, a_termSize, a_goalKind, a_goalFirst, a_goalSecond, a_goalThird, a_goalFourth, a_goalSize, a_relationGoal, a_pendingPath, a_nextPath, a_answerPath, a_link, a_trail, a_neqLeft, a_neqRight, a_workGoal, a_workFrame, a_stackA, a_stackB, a_walk, a_numberOf, a_numbered, a_endUnknown, a_implied, a_kept, a_sightings, a_lastSeen) (nI g) (nI f) (nI p) := by
  obtain ⟨e0, e1, e2, e3, e4⟩ := hG.1 g hg
  obtain ⟨hA, hB, m1, m2, m3, m4⟩ := hGX
  obtain ⟨s1, s2, hk⟩ := hA g hg
  rw [ems] at m3 m4
  rw [emc] at m1 m2
  unfold rs_perf at k
  rw [ems, emc] at k
  refine ⟨vp_in_nI (by omega) (by decide), ?_⟩
  rw [nI_clamp (n := g) (by omega)]
  rcases hk with ⟨kk, k1, k2⟩ | ⟨kk, k1, k2⟩ | ⟨kk, k1, k2, k3⟩ | ⟨kk, k1, k2, k3⟩ | ⟨kk, k1, k2, k3, k4⟩
  · rw [if_pos kk] at k
    refine nm_r (e' := 0) (by rw [e0, kk]; rfl) (br_t rfl ?_)
    refine xw_performEq hT hG m4 (by omega) hX hn hN hNS hSK hg hgc hf htc k1 k2 ?_
    intro f_trailTop f_callsDone f_choicesLeft f_neqCount f_workTop f_walkTop a_link a_trail a_neqLeft a_neqRight a_workGoal a_workFrame a_stackA a_stackB a_walk h
    refine k _ _ _ _ _ _ _ _ _ _ _ _ _ _ _ (fun z => ?_)
    have := h z
    unfold rs_pEq at z ⊢
    by_cases y : ¬ rs_Sat ms (6 * nf) (rs_eqC C (rs_sh f (T.2.2.2.1 (G.2.1 g))) (rs_sh f (T.2.2.2.1 (G.2.2.1 g)))) ∨ ∃ d, d ∈ ne ∧ rs_Same (rs_eqC C (rs_sh f (T.2.2.2.1 (G.2.1 g))) (rs_sh f (T.2.2.2.1 (G.2.2.1 g)))) d.1 d.2
    · rw [rs_if_t y] at z; simp at z
    · rw [rs_if_f y]; exact this
  · rw [if_neg (by omega), if_pos kk] at k
    refine nm_r (e' := 1) (by rw [e0, kk]; rfl) (br_f (by decide) (br_t rfl ?_))
    refine xw_performNeq hT hG m4 hX hn hN hNS hSK hg hgc hf htc k1 k2 ?_
    intro f_trailTop f_callsDone f_choicesLeft f_neqCount f_workTop f_walkTop a_link a_trail a_neqLeft a_neqRight a_workGoal a_workFrame a_stackA a_stackB a_walk h
    refine k _ _ _ _ _ _ _ _ _ _ _ _ _ _ _ (fun z => ?_)
    have := h z
    unfold rs_pNeq at z ⊢
    by_cases y : 24 ≤ ne.length
    · rw [if_pos y] at z; simp at z
    · rw [if_neg y] at z ⊢
      by_cases y : rs_Same C (rs_sh f (T.2.2.2.1 (G.2.1 g))) (rs_sh f (T.2.2.2.1 (G.2.2.1 g)))
      · rw [rs_if_t y] at z; simp at z
      · rw [rs_if_f y]; exact this
  · rw [if_neg (by omega), if_neg (by omega), if_pos kk] at k
    refine nm_r (e' := 2) (by rw [e0, kk]; rfl) (br_f (by decide) (br_f (by decide) (br_t rfl ⟨vp_in_nI (by omega) (by decide), ?_⟩)))
    rw [e2]
    refine xw_push (by omega) ⟨vp_in_nI (by omega) (by decide), ?_⟩
    rw [e1]
    refine xw_push (by omega) ?_
    refine k _ _ _ _ _ _ _ _ _ _ _ _ _ _ _ (fun _ => ⟨tt, rfl, rfl, rfl, rfl, rfl, hX, hn, hN, hNS, ?_⟩)
    exact rs_SK_push (S := (G.2.2.1 g, f) :: st) (rs_SK_push hSK)
  · rw [if_neg (by omega), if_neg (by omega), if_neg (by omega), if_pos kk] at k
    refine nm_r (e' := 3) (by rw [e0, kk]; rfl) (br_f (by decide) (br_f (by decide) (br_f (by decide) (br_t rfl ?_))))
    refine xw_performEither hG hX hn hN hNS hSK hg hgc (by omega) hp hlf ?_
    intro f_trailTop f_callsDone f_choicesLeft f_neqCount f_workTop f_walkTop a_link a_trail a_neqLeft a_neqRight a_workGoal a_workFrame a_stackA a_stackB a_walk h
    refine k _ _ _ _ _ _ _ _ _ _ _ _ _ _ _ (fun z => ?_)
    have := h z
    unfold rs_pEi at z ⊢
    by_cases y : lf = 0
    · rw [if_pos y] at z; simp at z
    · rw [if_neg y]; exact this
  · rw [if_neg (by omega), if_neg (by omega), if_neg (by omega), if_neg (by omega)] at k
    refine nm_r (e' := 4) (by rw [e0, kk]; rfl) (br_f (by decide) (br_f (by decide) (br_f (by decide) (br_f (by decide) ?_))))
    exact xw_performCall hT hG m4 (by omega) hX hn hN hNS hSK hg hgc hf k1 htc k2 k3 k4 (by omega) m2 hRI hB k
theorem xw_run_end {post : Int32 → SX → Prop} {x1 x3 : Int32} {j o : Nat} (ho : o ≠ 0) (h5 : o < 5) (h : post (nI o) (f_kindSymbol, f_kindSlot, f_kindPair, f_goalEq, f_goalNeq, f_goalBoth, f_goalEither, f_goalCall, f_goOn, f_outAnswer, f_outFailure, f_outCut, f_outPending, f_firstVariable, f_maxLevel, f_maxCalls, f_maxSize, f_termCount, f_goalCount, f_searching, f_queryGoal, f_queryWidth, f_levelNow, f_pendingCount, f_nextCount, f_answerCount, f_failureCount, f_cutCount, f_trailTop, f_callsDone, f_choicesLeft, f_neqCount, f_workTop, f_walkTop, f_loaded, f_numberedCount, f_endUnknownCount, f_constraintsReady, f_relevantMask, f_keptCount, a_termKind, a_termLeft, a_termRight, a_termSize, a_goalKind, a_goalFirst, a_goalSecond, a_goalThird, a_goalFourth, a_goalSize, a_relationGoal, a_pendingPath, a_nextPath, a_answerPath, a_link, a_trail, a_neqLeft, a_neqRight, a_workGoal, a_workFrame, a_stackA, a_stackB, a_walk, a_numberOf, a_numbered, a_endUnknown, a_implied, a_kept, a_sightings, a_lastSeen)) : wX_run_26 post x1 (j + 1) (nI o) x3 f_kindSymbol f_kindSlot f_kindPair f_goalEq f_goalNeq f_goalBoth f_goalEither f_goalCall f_goOn f_outAnswer f_outFailure f_outCut f_outPending f_firstVariable f_maxLevel f_maxCalls f_maxSize f_termCount f_goalCount f_searching f_queryGoal f_queryWidth f_levelNow f_pendingCount f_nextCount f_answerCount f_failureCount f_cutCount f_trailTop f_callsDone f_choicesLeft f_neqCount f_workTop f_walkTop f_loaded f_numberedCount f_endUnknownCount f_constraintsReady f_relevantMask f_keptCount a_termKind a_termLeft a_termRight a_termSize a_goalKind a_goalFirst a_goalSecond a_goalThird a_goalFourth a_goalSize a_relationGoal a_pendingPath a_nextPath a_answerPath a_link a_trail a_neqLeft a_neqRight a_workGoal a_workFrame a_stackA a_stackB a_walk a_numberOf a_numbered a_endUnknown a_implied a_kept a_sightings a_lastSeen := by
  have e : wX_run_84 post (nI o) f_kindSymbol f_kindSlot f_kindPair f_goalEq f_goalNeq f_goalBoth f_goalEither f_goalCall f_goOn f_outAnswer f_outFailure f_outCut f_outPending f_firstVariable f_maxLevel f_maxCalls f_maxSize f_termCount f_goalCount f_searching f_queryGoal f_queryWidth f_levelNow f_pendingCount f_nextCount f_answerCount f_failureCount f_cutCount f_trailTop f_callsDone f_choicesLeft f_neqCount f_workTop f_walkTop f_loaded f_numberedCount f_endUnknownCount f_constraintsReady f_relevantMask f_keptCount a_termKind a_termLeft a_termRight a_termSize a_goalKind a_goalFirst a_goalSecond a_goalThird a_goalFourth a_goalSize a_relationGoal a_pendingPath a_nextPath a_answerPath a_link a_trail a_neqLeft a_neqRight a_workGoal a_workFrame a_stackA a_stackB a_walk a_numberOf a_numbered a_endUnknown a_implied a_kept a_sightings a_lastSeen := br_f (nI_ne0 (by omega) (by omega)) h
  exact br_c (fun _ => e) (fun _ => br_c (fun _ => e) (fun _ => br_f (nI_ne0 (by omega) (by omega)) e))
theorem rs_perf_5 (ts : Nat → List Nat) : (rs_perf ts G p g f C nf ne st lf).1 < 5 ∧ (rs_perf ts G p g f C nf ne st lf).1 ≠ 1 := by
  unfold rs_perf
  split
  · unfold rs_pEq
    by_cases y : ¬ rs_Sat G.2.2.2.2.2.2.2.2 (6 * nf) (rs_eqC C (rs_sh f (ts (G.2.1 g))) (rs_sh f (ts (G.2.2.1 g)))) ∨ ∃ d, d ∈ ne ∧ rs_Same (rs_eqC C (rs_sh f (ts (G.2.1 g))) (rs_sh f (ts (G.2.2.1 g)))) d.1 d.2
    · rw [rs_if_t y]; show (2 : Nat) < 5 ∧ (2 : Nat) ≠ 1; decide
    · rw [rs_if_f y]; show (0 : Nat) < 5 ∧ (0 : Nat) ≠ 1; decide
  · split
    · unfold rs_pNeq
      split
      · show (3 : Nat) < 5 ∧ (3 : Nat) ≠ 1; decide
      · by_cases y : rs_Same C (rs_sh f (ts (G.2.1 g))) (rs_sh f (ts (G.2.2.1 g)))
        · rw [rs_if_t y]; show (2 : Nat) < 5 ∧ (2 : Nat) ≠ 1; decide
        · rw [rs_if_f y]; show (0 : Nat) < 5 ∧ (0 : Nat) ≠ 1; decide
    · split
      · show (0 : Nat) < 5 ∧ (0 : Nat) ≠ 1; decide
      · split
        · unfold rs_pEi
          split
          · show (4 : Nat) < 5 ∧ (4 : Nat) ≠ 1; decide
          · show (0 : Nat) < 5 ∧ (0 : Nat) ≠ 1; decide
        · unfold rs_pCall
          split
          · show (2 : Nat) < 5 ∧ (2 : Nat) ≠ 1; decide
          · split
            · show (3 : Nat) < 5 ∧ (3 : Nat) ≠ 1; decide
            · by_cases y : rs_Sat G.2.2.2.2.2.2.2.2 (6 * (nf + 1)) (rs_callC C (6 * nf) (rs_sh f (ts (G.2.2.1 g))) (rs_sh f (ts (G.2.2.2.1 g))) (rs_sh f (ts (G.2.2.2.2.1 g))))
              · rw [rs_if_t y]; show (0 : Nat) < 5 ∧ (0 : Nat) ≠ 1; decide
              · rw [rs_if_f y]; show (2 : Nat) < 5 ∧ (2 : Nat) ≠ 1; decide
theorem rs_perf_lf (ts : Nat → List Nat) : (rs_perf ts G p g f C nf ne st lf).2.2.2.2.2 ≤ lf := by
  unfold rs_perf
  split
  · unfold rs_pEq
    by_cases y : ¬ rs_Sat G.2.2.2.2.2.2.2.2 (6 * nf) (rs_eqC C (rs_sh f (ts (G.2.1 g))) (rs_sh f (ts (G.2.2.1 g)))) ∨ ∃ d, d ∈ ne ∧ rs_Same (rs_eqC C (rs_sh f (ts (G.2.1 g))) (rs_sh f (ts (G.2.2.1 g)))) d.1 d.2
    · rw [rs_if_t y]; exact Nat.le_refl _
    · rw [rs_if_f y]; exact Nat.le_refl _
  · split
    · unfold rs_pNeq
      split
      · exact Nat.le_refl _
      · by_cases y : rs_Same C (rs_sh f (ts (G.2.1 g))) (rs_sh f (ts (G.2.2.1 g)))
        · rw [rs_if_t y]; exact Nat.le_refl _
        · rw [rs_if_f y]; exact Nat.le_refl _
    · split
      · exact Nat.le_refl _
      · split
        · unfold rs_pEi
          split
          · exact Nat.le_refl _
          · show lf - 1 ≤ lf; omega
        · unfold rs_pCall
          split
          · exact Nat.le_refl _
          · split
            · exact Nat.le_refl _
            · by_cases y : rs_Sat G.2.2.2.2.2.2.2.2 (6 * (nf + 1)) (rs_callC C (6 * nf) (rs_sh f (ts (G.2.2.1 g))) (rs_sh f (ts (G.2.2.2.1 g))) (rs_sh f (ts (G.2.2.2.2.1 g))))
              · rw [rs_if_t y]; exact Nat.le_refl _
              · rw [rs_if_f y]; exact Nat.le_refl _
theorem xw_run_26 {post : Int32 → SX → Prop} (hT : rs_TA T a_termKind a_termLeft a_termRight) (hG : rs_GA gc G a_goalKind a_goalFirst a_goalSecond a_goalThird a_goalFourth a_relationGoal) (hGX : rs_GX T.2.2.2.2 gc G) (htc : T.2.2.2.2 ≤ 64) (hgc : gc ≤ 48) (ems : G.2.2.2.2.2.2.2.2 = ms) (emc : G.2.2.2.2.2.2.2.1 = mc) (hp : p < 256) :
    ∀ (n i j : Nat) (C : rs_V) (nf : Nat) (ne : List (List Nat × List Nat)) (st : List (Nat × Nat)) (lf : Nat) (f_trailTop f_callsDone f_choicesLeft f_neqCount f_workTop f_walkTop : Int32) (a_link a_trail a_neqLeft a_neqRight a_workGoal a_workFrame a_stackA a_stackB a_walk : Nat → Int32), rs_RI gc G n nf st → n + i ≤ 165 → n + 1 < j → lf ≤ 30 → rs_XS T ms C nf ne st lf f_trailTop f_callsDone f_choicesLeft f_neqCount f_workTop a_link a_neqLeft a_neqRight a_workGoal a_workFrame →
      (∀ (f_trailTop f_callsDone f_choicesLeft f_neqCount f_workTop f_walkTop : Int32) (a_link a_trail a_neqLeft a_neqRight a_workGoal a_workFrame a_stackA a_stackB a_walk : Nat → Int32), ((rs_run T.2.2.2.1 G p n C nf ne st lf).1 = 1 → rs_XS T ms (rs_run T.2.2.2.1 G p n C nf ne st lf).2.1 (rs_run T.2.2.2.1 G p n C nf ne st lf).2.2.1 (rs_run T.2.2.2.1 G p n C nf ne st lf).2.2.2.1 (rs_run T.2.2.2.1 G p n C nf ne st lf).2.2.2.2.1 (rs_run T.2.2.2.1 G p n C nf ne st lf).2.2.2.2.2 f_trailTop f_callsDone f_choicesLeft f_neqCount f_workTop a_link a_neqLeft a_neqRight a_workGoal a_workFrame) → post (nI (rs_run T.2.2.2.1 G p n C nf ne st lf).1) (f_kindSymbol, f_kindSlot, f_kindPair, f_goalEq, f_goalNeq, f_goalBoth, f_goalEither, f_goalCall, f_goOn, f_outAnswer, f_outFailure, f_outCut, f_outPending, f_firstVariable, f_maxLevel, nI mc, nI ms, f_termCount, f_goalCount, f_searching, f_queryGoal, f_queryWidth, f_levelNow, f_pendingCount, f_nextCount, f_answerCount, f_failureCount, f_cutCount, f_trailTop, f_callsDone, f_choicesLeft, f_neqCount, f_workTop, f_walkTop, f_loaded, f_numberedCount, f_endUnknownCount, f_constraintsReady, f_relevantMask, f_keptCount, a_termKind, a_termLeft, a_termRight, a_termSize, a_goalKind, a_goalFirst, a_goalSecond, a_goalThird, a_goalFourth, a_goalSize, a_relationGoal, a_pendingPath, a_nextPath, a_answerPath, a_link, a_trail, a_neqLeft, a_neqRight, a_workGoal, a_workFrame, a_stackA, a_stackB, a_walk, a_numberOf, a_numbered, a_endUnknown, a_implied, a_kept, a_sightings, a_lastSeen)) →
      wX_run_26 post (nI p) j 0 (nI i) f_kindSymbol f_kindSlot f_kindPair f_goalEq f_goalNeq f_goalBoth f_goalEither f_goalCall f_goOn f_outAnswer f_outFailure f_outCut f_outPending f_firstVariable f_maxLevel (nI mc) (nI ms) f_termCount f_goalCount f_searching f_queryGoal f_queryWidth f_levelNow f_pendingCount f_nextCount f_answerCount f_failureCount f_cutCount f_trailTop f_callsDone f_choicesLeft f_neqCount f_workTop f_walkTop f_loaded f_numberedCount f_endUnknownCount f_constraintsReady f_relevantMask f_keptCount a_termKind a_termLeft a_termRight a_termSize a_goalKind a_goalFirst a_goalSecond a_goalThird a_goalFourth a_goalSize a_relationGoal a_pendingPath a_nextPath a_answerPath a_link a_trail a_neqLeft a_neqRight a_workGoal a_workFrame a_stackA a_stackB a_walk a_numberOf a_numbered a_endUnknown a_implied a_kept a_sightings a_lastSeen := by
  intro n
  induction n with
  | zero =>
    intro i j C nf ne st lf f_trailTop f_callsDone f_choicesLeft f_neqCount f_workTop f_walkTop a_link a_trail a_neqLeft a_neqRight a_workGoal a_workFrame a_stackA a_stackB a_walk hRI hi hj hlf hXS k
    obtain ⟨j, rfl⟩ : ∃ m, j = m + 1 := ⟨j - 1, by omega⟩
    have hst : st = [] := by
      have := rs_ms_len hGX hRI.2.2.1
      have := hRI.2.2.2
      cases st with
      | nil => rfl
      | cons a l => rw [List.length_cons] at *; omega
    subst hst
    have hXS' := hXS
    obtain ⟨tt, rfl, rfl, rfl, rfl, rfl, _⟩ := hXS
    exact br_f (nI_ge (b := 256) (by omega) (by decide)) (br_t (by decide) (br_t rfl (k _ _ _ _ _ _ _ _ _ _ _ _ _ _ _ (fun _ => hXS'))))
  | succ n ih =>
    intro i j C nf ne st lf f_trailTop f_callsDone f_choicesLeft f_neqCount f_workTop f_walkTop a_link a_trail a_neqLeft a_neqRight a_workGoal a_workFrame a_stackA a_stackB a_walk hRI hi hj hlf hXS k
    obtain ⟨j, rfl⟩ : ∃ m, j = m + 1 := ⟨j - 1, by omega⟩
    cases st with
    | nil =>
      have hXS' := hXS
      obtain ⟨tt, rfl, rfl, rfl, rfl, rfl, _⟩ := hXS
      exact br_f (nI_ge (b := 256) (by omega) (by decide)) (br_t (by decide) (br_t rfl (k _ _ _ _ _ _ _ _ _ _ _ _ _ _ _ (fun _ => hXS'))))
    | cons gf st =>
      obtain ⟨g, f⟩ := gf
      obtain ⟨tt, rfl, rfl, rfl, rfl, rfl, hX, hn, hN, hNS, sA, sB, hSK⟩ := hXS
      have hlen := rs_ms_len hGX hRI.2.2.1
      have hRI4 := hRI.2.2.2
      rw [List.length_cons] at hlen ⊢
      obtain ⟨hg, hf⟩ := hRI.2.2.1 (g, f) (List.mem_cons_self ..)
      refine br_f (nI_ge (b := 256) (by omega) (by decide)) (br_f (nI_nle (by omega) (by omega)) (br_t rfl (nm_r (nI_pred st.length) ⟨vp_in_nI (by omega) (by decide), vp_in_nI (by omega) (by decide), ?_⟩)))
      rw [nI_clamp (n := st.length) (by omega), sA, sB]
      refine xw_perform hT hG hGX htc hgc ems emc hX hn hN hNS hSK (by rw [← emc]; exact hRI.2.1) (by omega) hg hf hp hlf ?_
      intro f_trailTop f_callsDone f_choicesLeft f_neqCount f_workTop f_walkTop a_link a_trail a_neqLeft a_neqRight a_workGoal a_workFrame a_stackA a_stackB a_walk h
      refine nm_r (nI_1 i) ?_
      unfold rs_run at k
      by_cases z : (rs_perf T.2.2.2.1 G p g f C nf ne st lf).1 = 0
      · rw [if_pos z] at k
        have key := ih (i + 1) j _ _ _ _ _ f_trailTop f_callsDone f_choicesLeft f_neqCount f_workTop f_walkTop a_link a_trail a_neqLeft a_neqRight a_workGoal a_workFrame a_stackA a_stackB a_walk (rs_perf_RI hGX hRI z) (by omega) (by omega) (Nat.le_trans (rs_perf_lf _) hlf) (h z) k
        rw [z]
        exact key
      · rw [if_neg z] at k
        obtain ⟨j, rfl⟩ : ∃ m, j = m + 1 := ⟨j - 1, by omega⟩
        have := rs_perf_5 (p := p) (g := g) (f := f) (C := C) (nf := nf) (ne := ne) (st := st) (lf := lf) (G := G) T.2.2.2.1
        exact xw_run_end z this.1 (k _ _ _ _ _ _ _ _ _ _ _ _ _ _ _ (fun y => absurd y this.2))
theorem xw_clearRun_2 {post : SX → Prop} (h : ∀ a_link, (∀ n, n < 770 → a_link n = -1) → post (f_kindSymbol, f_kindSlot, f_kindPair, f_goalEq, f_goalNeq, f_goalBoth, f_goalEither, f_goalCall, f_goOn, f_outAnswer, f_outFailure, f_outCut, f_outPending, f_firstVariable, f_maxLevel, f_maxCalls, f_maxSize, f_termCount, f_goalCount, f_searching, f_queryGoal, f_queryWidth, f_levelNow, f_pendingCount, f_nextCount, f_answerCount, f_failureCount, f_cutCount, 0, 0, f_choicesLeft, 0, 0, f_walkTop, f_loaded, f_numberedCount, f_endUnknownCount, f_constraintsReady, f_relevantMask, f_keptCount, a_termKind, a_termLeft, a_termRight, a_termSize, a_goalKind, a_goalFirst, a_goalSecond, a_goalThird, a_goalFourth, a_goalSize, a_relationGoal, a_pendingPath, a_nextPath, a_answerPath, a_link, a_trail, a_neqLeft, a_neqRight, a_workGoal, a_workFrame, a_stackA, a_stackB, a_walk, a_numberOf, a_numbered, a_endUnknown, a_implied, a_kept, a_sightings, a_lastSeen)) : ∀ (k i : Nat) (a_link : Nat → Int32), i + k = 770 → (∀ n, n < i → a_link n = -1) → wX_clearRun_2 post f_kindSymbol f_kindSlot f_kindPair f_goalEq f_goalNeq f_goalBoth f_goalEither f_goalCall f_goOn f_outAnswer f_outFailure f_outCut f_outPending f_firstVariable f_maxLevel f_maxCalls f_maxSize f_termCount f_goalCount f_searching f_queryGoal f_queryWidth f_levelNow f_pendingCount f_nextCount f_answerCount f_failureCount f_cutCount f_trailTop f_callsDone f_choicesLeft f_neqCount f_workTop f_walkTop f_loaded f_numberedCount f_endUnknownCount f_constraintsReady f_relevantMask f_keptCount (k + 1) (nI i) a_termKind a_termLeft a_termRight a_termSize a_goalKind a_goalFirst a_goalSecond a_goalThird a_goalFourth a_goalSize a_relationGoal a_pendingPath a_nextPath a_answerPath a_link a_trail a_neqLeft a_neqRight a_workGoal a_workFrame a_stackA a_stackB a_walk a_numberOf a_numbered a_endUnknown a_implied a_kept a_sightings a_lastSeen := by
  intro k
  induction k with
  | zero =>
    intro i a_link hi hl
    exact br_t (nI_le (a := 770) (by omega) (by omega)) (h a_link (fun n hn => hl n (by omega)))
  | succ k ih =>
    intro i a_link hi hl
    refine br_f (nI_ge (b := 770) (by omega) (by decide)) ⟨vp_in_nI (by omega) (by decide), nm_r (e' := upd a_link i (-1)) (by rw [nI_clamp (by omega)]) (nm_r (nI_1 i) (ih (i + 1) _ (by omega) (fun n hn => ?_)))⟩
    by_cases e : n = i
    · exact if_pos e
    · exact (if_neg e).trans (hl n (by omega))
theorem xw_choicesOf_4 {post : Int32 → Prop} (hp : p < 256) (hp1 : 1 ≤ p) (h : post (nI p.log2)) : ∀ (k i : Nat), i + k = 31 → 1 ≤ i → wX_choicesOf_4 post (nI p) f_kindSymbol f_kindSlot f_kindPair f_goalEq f_goalNeq f_goalBoth f_goalEither f_goalCall f_goOn f_outAnswer f_outFailure f_outCut f_outPending f_firstVariable f_maxLevel f_maxCalls f_maxSize f_termCount f_goalCount f_searching f_queryGoal f_queryWidth f_levelNow f_pendingCount f_nextCount f_answerCount f_failureCount f_cutCount f_trailTop f_callsDone f_choicesLeft f_neqCount f_workTop f_walkTop f_loaded f_numberedCount f_endUnknownCount f_constraintsReady f_relevantMask f_keptCount a_termKind a_termLeft a_termRight a_termSize a_goalKind a_goalFirst a_goalSecond a_goalThird a_goalFourth a_goalSize a_relationGoal a_pendingPath a_nextPath a_answerPath a_link a_trail a_neqLeft a_neqRight a_workGoal a_workFrame a_stackA a_stackB a_walk a_numberOf a_numbered a_endUnknown a_implied a_kept a_sightings a_lastSeen (k + 1) (nI (min (i - 1) p.log2)) (nI i) := by
  have h1 := Nat.log2_self_le (n := p) (by omega)
  have h2 := Nat.lt_log2_self (n := p)
  have h8 : p.log2 < 8 := by
    rcases Nat.lt_or_ge p.log2 8 with z | z
    · exact z
    · have := Nat.pow_le_pow_right (n := 2) (by omega) z
      omega
  intro k
  induction k with
  | zero =>
    intro i hi h1
    rw [show min (i - 1) p.log2 = p.log2 by omega]
    exact br_t (nI_le (a := 31) (by omega) (by omega)) h
  | succ k ih =>
    intro i hi hi1
    refine br_f (nI_ge (b := 31) (by omega) (by decide)) ?_
    rw [xw_shr1 hp (by omega)]
    have key := ih (i + 1) (by omega) (by omega)
    have hd : p / 2 ^ i < 2 ^ 31 := Nat.lt_of_le_of_lt (Nat.div_le_self _ _) (by omega)
    by_cases z : i ≤ p.log2
    · have h3 := Nat.pow_le_pow_right (n := 2) (by omega) z
      have : 0 < p / 2 ^ i := Nat.div_pos (by omega) (Nat.pow_pos (by omega))
      refine br_f (nI_nle this hd) (nm_r (e' := nI (min (i + 1 - 1) p.log2)) ?_ (nm_r (nI_1 i) key))
      rw [nI_1]; congr 1; omega
    · have h3 := Nat.pow_le_pow_right (n := 2) (by omega) (show p.log2 + 1 ≤ i by omega)
      have : p / 2 ^ i = 0 := Nat.div_eq_of_lt (by omega)
      rw [this]
      refine br_t (by decide) (nm_r (nI_1 i) ?_)
      rw [show min (i - 1) p.log2 = min (i + 1 - 1) p.log2 by omega]
      exact key
theorem xw_run {post : Int32 → SX → Prop} (hT : rs_TA T a_termKind a_termLeft a_termRight) (hG : rs_GA gc G a_goalKind a_goalFirst a_goalSecond a_goalThird a_goalFourth a_relationGoal) (hGX : rs_GX T.2.2.2.2 gc G) (htc : T.2.2.2.2 ≤ 64) (hgc : gc ≤ 48) (ems : G.2.2.2.2.2.2.2.2 = ms) (emc : G.2.2.2.2.2.2.2.1 = mc) (hp : p < 256) (hp1 : 1 ≤ p) (hq : q < gc)
    (k : ∀ (f_trailTop f_callsDone f_choicesLeft f_neqCount f_workTop f_walkTop : Int32) (a_link a_trail a_neqLeft a_neqRight a_workGoal a_workFrame a_stackA a_stackB a_walk : Nat → Int32), ((rs_path T.2.2.2.1 G q p).1 = 1 → rs_XS T ms (rs_path T.2.2.2.1 G q p).2.1 (rs_path T.2.2.2.1 G q p).2.2.1 (rs_path T.2.2.2.1 G q p).2.2.2.1 (rs_path T.2.2.2.1 G q p).2.2.2.2.1 (rs_path T.2.2.2.1 G q p).2.2.2.2.2 f_trailTop f_callsDone f_choicesLeft f_neqCount f_workTop a_link a_neqLeft a_neqRight a_workGoal a_workFrame) → post (nI (rs_path T.2.2.2.1 G q p).1) (f_kindSymbol, f_kindSlot, f_kindPair, f_goalEq, f_goalNeq, f_goalBoth, f_goalEither, f_goalCall, f_goOn, f_outAnswer, f_outFailure, f_outCut, f_outPending, f_firstVariable, f_maxLevel, nI mc, nI ms, f_termCount, f_goalCount, f_searching, nI q, f_queryWidth, f_levelNow, f_pendingCount, f_nextCount, f_answerCount, f_failureCount, f_cutCount, f_trailTop, f_callsDone, f_choicesLeft, f_neqCount, f_workTop, f_walkTop, f_loaded, f_numberedCount, f_endUnknownCount, f_constraintsReady, f_relevantMask, f_keptCount, a_termKind, a_termLeft, a_termRight, a_termSize, a_goalKind, a_goalFirst, a_goalSecond, a_goalThird, a_goalFourth, a_goalSize, a_relationGoal, a_pendingPath, a_nextPath, a_answerPath, a_link, a_trail, a_neqLeft, a_neqRight, a_workGoal, a_workFrame, a_stackA, a_stackB, a_walk, a_numberOf, a_numbered, a_endUnknown, a_implied, a_kept, a_sightings, a_lastSeen)) :
    wpX_run post (f_kindSymbol, f_kindSlot, f_kindPair, f_goalEq, f_goalNeq, f_goalBoth, f_goalEither, f_goalCall, f_goOn, f_outAnswer, f_outFailure, f_outCut, f_outPending, f_firstVariable, f_maxLevel, nI mc, nI ms, f_termCount, f_goalCount, f_searching, nI q, f_queryWidth, f_levelNow, f_pendingCount, f_nextCount, f_answerCount, f_failureCount, f_cutCount, f_trailTop, f_callsDone, f_choicesLeft, f_neqCount, f_workTop, f_walkTop, f_loaded, f_numberedCount, f_endUnknownCount, f_constraintsReady, f_relevantMask, f_keptCount, a_termKind, a_termLeft, a_termRight, a_termSize, a_goalKind, a_goalFirst, a_goalSecond, a_goalThird, a_goalFourth, a_goalSize, a_relationGoal, a_pendingPath, a_nextPath, a_answerPath, a_link, a_trail, a_neqLeft, a_neqRight, a_workGoal, a_workFrame, a_stackA, a_stackB, a_walk, a_numberOf, a_numbered, a_endUnknown, a_implied, a_kept, a_sightings, a_lastSeen) (nI p) := by
  unfold wpX_run
  dsimp only
  refine ⟨771, xw_clearRun_2 ?_ 770 0 a_link (by omega) (fun n hn => absurd hn (by omega))⟩
  intro a_link hl
  refine ⟨31, xw_choicesOf_4 hp hp1 ?_ 30 1 (by omega) (by omega)⟩
  refine xw_push (k := 0) (b := 0) (by omega) ⟨167, ?_⟩
  have h8 : p.log2 ≤ 30 := by
    have h1 := Nat.log2_self_le (n := p) (by omega)
    rcases Nat.lt_or_ge p.log2 8 with z | z
    · omega
    · have := Nat.pow_le_pow_right (n := 2) (by omega) z
      omega
  have hlk : ∀ n, rs_lk a_link n = none := by
    intro n
    by_cases hn : n < 770
    · exact rs_lk_n (hl n hn)
    · exact rs_lk_o (by omega)
  have hcn : ∀ N, rs_cn (rs_lk a_link) N = 0 := by
    intro N
    induction N with
    | zero => rfl
    | succ N ih =>
      show rs_cn (rs_lk a_link) N + (if rs_lk a_link N = none then 0 else 1) = 0
      rw [ih, if_pos (hlk N)]
  have hL : rs_LK T 1 (rs_lk a_link) 0 := by
    refine ⟨by omega, ?_, ?_, hcn 770⟩
    · intro n m e
      rw [hlk n] at e
      exact absurd e (by simp)
    · intro n hn hs
      refine rs_nx_none (hlk n) ?_
      by_cases h7 : 704 ≤ n
      · exact Or.inl h7
      · exact Or.inr (hs (by omega))
  have hm3 := hGX.2.2.2.2.1
  refine xw_run_26 hT hG hGX htc hgc ems emc hp 165 0 167 (fun _ => True) 1 [] [(q, 0)] p.log2 _ _ _ _ _ _ _ _ _ _ _ _ _ _ _ (rs_RI_0 hGX hq) (by omega) (by omega) h8 ⟨0, rfl, rfl, rfl, rfl, rfl, ⟨by omega, ?_, hL, ?_, ?_, ?_⟩, by simp, ?_, ?_, rs_SK_push (S := []) trivial⟩ k
  · exact fun n hn => Or.inl (hl n hn)
  · intro R _ _ _ _ _ _ n m _ e
    rw [hlk n] at e
    exact absurd e (by simp)
  · intro θ _
    refine ⟨fun _ n m e => ?_, fun _ => trivial⟩
    rw [hlk n] at e
    exact absurd e (by simp)
  · intro v hv
    have hx := rs_rt_stop (rs_nx_none (T := T) (hlk (704 + v)) (Or.inl (by omega)))
    refine ⟨[100 + v], ⟨704 + v, [], rfl, ?_, ?_⟩, by rw [← ems]; exact (by omega : 1 ≤ G.2.2.2.2.2.2.2.2)⟩
    · rw [hx, rs_tkn_hi (by omega), Nat.add_sub_cancel_left]
    · rw [hx]
      unfold rs_kd
      rw [if_neg (by omega)]
      rfl
  · intro i hi
    exact absurd hi (by simp)
  · intro d hd
    exact absurd hd List.not_mem_nil
end
end
section
/-! the reference: values side by side -/
/-- the array holds the string from o on -/
def rs_A (a : Nat → Int32) (o : Nat) (l : List Nat) : Prop := ∀ i, i < l.length → a (o + i) = nI (l.getD i 0)
theorem rs_A_nil {a : Nat → Int32} {o : Nat} : rs_A a o [] := fun i h => absurd h (by simp)
theorem rs_A_mid {a : Nat → Int32} {o x : Nat} {p l : List Nat} (h : rs_A a o (p ++ x :: l)) : a (o + p.length) = nI x := by
  rw [h p.length (by rw [List.length_append, List.length_cons]; omega)]
  rw [List.getD_eq_getElem?_getD, List.getElem?_append_right (Nat.le_refl _), Nat.sub_self]
  rfl
theorem rs_A_keep {a a' : Nat → Int32} {o : Nat} {l : List Nat} (h : rs_A a o l) (e : ∀ i, o ≤ i → i < o + l.length → a' i = a i) : rs_A a' o l :=
  fun i hi => (e (o + i) (by omega) (by omega)).trans (h i hi)
theorem rs_A_app {a : Nat → Int32} {o : Nat} {l m : List Nat} (h1 : rs_A a o l) (h2 : rs_A a (o + l.length) m) : rs_A a o (l ++ m) := by
  intro i hi
  rw [List.length_append] at hi
  rw [List.getD_eq_getElem?_getD]
  by_cases z : i < l.length
  · rw [List.getElem?_append_left z, ← List.getD_eq_getElem?_getD]
    exact h1 i z
  · rw [List.getElem?_append_right (by omega), ← List.getD_eq_getElem?_getD]
    have := h2 (i - l.length) (by omega)
    rwa [show o + l.length + (i - l.length) = o + i by omega] at this
theorem rs_A_left {a : Nat → Int32} {o : Nat} {l m : List Nat} (h : rs_A a o (l ++ m)) : rs_A a o l := by
  intro i hi
  rw [h i (by rw [List.length_append]; omega), List.getD_eq_getElem?_getD, List.getElem?_append_left hi, ← List.getD_eq_getElem?_getD]
theorem rs_A_right {a : Nat → Int32} {o : Nat} {l m : List Nat} (h : rs_A a o (l ++ m)) : rs_A a (o + l.length) m := by
  intro i hi
  have := h (l.length + i) (by rw [List.length_append]; omega)
  rw [List.getD_eq_getElem?_getD, List.getElem?_append_right (by omega), ← List.getD_eq_getElem?_getD, ← Nat.add_assoc] at this
  rw [this, Nat.add_sub_cancel_left]
theorem rs_A_one {a : Nat → Int32} {o x : Nat} (h : a o = nI x) : rs_A a o [x] := by
  intro i hi
  have : i = 0 := by simp at hi; omega
  subst this
  exact h
/-- a copied stretch -/
def rs_cy (d : Nat → Int32) (i : Nat) (s : Nat → Int32) (j n : Nat) : Nat → Int32 := fun k => if i ≤ k ∧ k < i + n then s (j + (k - i)) else d k
theorem rs_cy_0 {d s : Nat → Int32} {i j : Nat} : rs_cy d i s j 0 = d := by
  funext k
  exact if_neg (by omega)
theorem rs_cy_s {d s : Nat → Int32} {i j n : Nat} : upd (rs_cy d i s j n) (i + n) (s (j + n)) = rs_cy d i s j (n + 1) := by
  funext k
  unfold upd rs_cy
  by_cases e : k = i + n
  · rw [if_pos e, if_pos (by omega), e, Nat.add_sub_cancel_left]
  · rw [if_neg e]
    by_cases z : i ≤ k ∧ k < i + n
    · rw [if_pos z, if_pos (by omega)]
    · rw [if_neg z, if_neg (by omega)]
theorem rs_cy_in {d s : Nat → Int32} {i j n k : Nat} (h : k < n) : rs_cy d i s j n (i + k) = s (j + k) := by
  unfold rs_cy
  rw [if_pos (by omega), Nat.add_sub_cancel_left]
theorem rs_cy_out {d s : Nat → Int32} {i j n k : Nat} (h : k < i ∨ i + n ≤ k) : rs_cy d i s j n k = d k := if_neg (by omega)
theorem rs_cy_A {d s : Nat → Int32} {i j : Nat} {l : List Nat} (h : rs_A s j l) : rs_A (rs_cy d i s j l.length) i l := fun k hk => (rs_cy_in hk).trans (h k hk)
/-- terms of the reference -/
def rs_TB (tc : Nat) (ts : Nat → List Nat) (tok len : Nat → Int32) : Prop := ∀ t, t < tc → len t = nI (ts t).length ∧ rs_A tok (15 * t) (ts t) ∧ rs_W 1 (ts t) ∧ (ts t).length ≤ 15 ∧ ∀ x, x ∈ ts t → x < 17 ∨ (100 ≤ x ∧ x < 106)
/-- values of the reference -/
def rs_VA (n : Nat) (σ : Nat → List Nat) (val len : Nat → Int32) : Prop := ∀ v, v < n → len v = nI (σ v).length ∧ rs_A val (31 * v) (σ v) ∧ (σ v).length ≤ 31
theorem rs_n15 (t i : Nat) : nI t * 15 + nI i = nI (15 * t + i) := by
  rw [show (15 : Int32) = nI 15 from rfl, pk_mul, nI_add, Nat.mul_comm]
theorem rs_n31 (t i : Nat) : nI t * 31 + nI i = nI (31 * t + i) := by
  rw [show (31 : Int32) = nI 31 from rfl, pk_mul, nI_add, Nat.mul_comm]
theorem rs_n31' (t : Nat) : nI t * 31 = nI (31 * t) := by
  rw [show (31 : Int32) = nI 31 from rfl, pk_mul, Nat.mul_comm]
section
variable {g_maxLevel g_maxCalls g_maxSize g_terms g_goals g_searching g_query g_read g_level g_frames g_neqs g_numbered g_kept : Int32} {b_termToken b_termLen b_kind b_goalSize b_part b_relation b_outcome b_val b_len b_neqT b_neqU b_neqF b_stackGoal b_stackFrame b_buf b_bufLen b_tmp b_base b_baseLen b_num b_relevant b_implies b_keptAt : Nat → Int32}
variable {tc nf : Nat} {ts σ : Nat → List Nat}
theorem yw_value_81 {post : SY → Prop} {J : Int32 → Int32 → (Nat → Int32) → (Nat → Int32) → (Nat → Int32) → (Nat → Int32) → (Nat → Int32) → (Nat → Int32) → (Nat → Int32) → (Nat → Int32) → (Nat → Int32) → (Nat → Int32) → (Nat → Int32) → (Nat → Int32) → (Nat → Int32) → (Nat → Int32) → (Nat → Int32) → (Nat → Int32) → (Nat → Int32) → (Nat → Int32) → (Nat → Int32) → (Nat → Int32) → (Nat → Int32) → (Nat → Int32) → (Nat → Int32) → Prop} {x1 x2 x3 : Int32} {o i v : Nat} (hv : v < 66) (hn : v < 6 * nf) (hV : rs_VA (6 * nf) σ b_val b_len) (ho : o + (σ v).length ≤ 512)
    (k : J (nI (o + (σ v).length)) (nI (i + 1)) b_termToken b_termLen b_kind b_goalSize b_part b_relation b_outcome b_val b_len b_neqT b_neqU b_neqF b_stackGoal b_stackFrame (rs_cy b_buf o b_val (31 * v) (σ v).length) b_bufLen b_tmp b_base b_baseLen b_num b_relevant b_implies b_keptAt) :
    ∀ (d j : Nat) (b1 : Nat → Int32), j + d = (σ v).length → b1 = rs_cy b_buf o b_val (31 * v) j → wY_value_81 post J x1 x2 x3 (nI o) (nI i) (nI v) g_maxLevel g_maxCalls g_maxSize g_terms g_goals g_searching g_query g_read g_level g_frames g_neqs g_numbered g_kept (d + 1) (nI j) b_termToken b_termLen b_kind b_goalSize b_part b_relation b_outcome b_val b_len b_neqT b_neqU b_neqF b_stackGoal b_stackFrame b1 b_bufLen b_tmp b_base b_baseLen b_num b_relevant b_implies b_keptAt := by
  obtain ⟨e1, e2, e3⟩ := hV v hn
  intro d
  induction d with
  | zero =>
    intro j b1 hj hb
    refine ⟨vp_in_nI hv (by decide), ?_⟩
    rw [nI_clamp (n := v) (by omega), e1]
    refine br_t (nI_le (by omega) (by omega)) ⟨vp_in_nI hv (by decide), nm_r (nI_add _ _) (nm_r (nI_1 i) ?_)⟩
    rw [hb, show j = (σ v).length by omega]
    exact k
  | succ d ih =>
    intro j b1 hj hb
    refine ⟨vp_in_nI hv (by decide), ?_⟩
    rw [nI_clamp (n := v) (by omega), e1, rs_n31, nI_add o j]
    refine br_f (nI_ge (by omega) (by omega)) ⟨vp_in_nI (by omega) (by decide), vp_in_nI (by omega) (by decide), nm_r (e' := rs_cy b_buf o b_val (31 * v) (j + 1)) ?_ (nm_r (nI_1 j) (ih (j + 1) _ (by omega) rfl))⟩
    rw [nI_clamp (n := o + j) (by omega), nI_clamp (n := 31 * v + j) (by omega), hb, rs_cy_s]
theorem yw_value_10 {post : SY → Prop} {t f sd : Nat} (hT : rs_TB tc ts b_termToken b_termLen) (ht : t < tc) (htc : tc ≤ 64) (hf : f < nf) (hnf : nf ≤ 11) (hV : rs_VA (6 * nf) σ b_val b_len) (hsd : sd < 2) (h255 : (rs_s σ (rs_sh f (ts t))).length ≤ 255)
    (b0 : Nat → Int32)
    (k : ∀ b_buf, rs_A b_buf (256 * sd) (rs_s σ (rs_sh f (ts t))) → (∀ i, (i < 256 * sd ∨ 256 * sd + 255 ≤ i) → b_buf i = b0 i) → post (g_maxLevel, g_maxCalls, g_maxSize, g_terms, g_goals, g_searching, g_query, g_read, g_level, g_frames, g_neqs, g_numbered, g_kept, b_termToken, b_termLen, b_kind, b_goalSize, b_part, b_relation, b_outcome, b_val, b_len, b_neqT, b_neqU, b_neqF, b_stackGoal, b_stackFrame, b_buf, upd b_bufLen sd (nI (rs_s σ (rs_sh f (ts t))).length), b_tmp, b_base, b_baseLen, b_num, b_relevant, b_implies, b_keptAt)) :
    ∀ (suf pre : List Nat) (n : Nat) (b_buf : Nat → Int32), ts t = pre ++ suf → suf.length < n → rs_A b_buf (256 * sd) (rs_s σ (rs_sh f pre)) → (∀ i, (i < 256 * sd ∨ 256 * sd + 255 ≤ i) → b_buf i = b0 i) → wY_value_10 post (nI t) (nI f) (nI sd) g_maxLevel g_maxCalls g_maxSize g_terms g_goals g_searching g_query g_read g_level g_frames g_neqs g_numbered g_kept n (nI (256 * sd + (rs_s σ (rs_sh f pre)).length)) (nI pre.length) b_termToken b_termLen b_kind b_goalSize b_part b_relation b_outcome b_val b_len b_neqT b_neqU b_neqF b_stackGoal b_stackFrame b_buf b_bufLen b_tmp b_base b_baseLen b_num b_relevant b_implies b_keptAt := by
  obtain ⟨e1, e2, _, e4, e5⟩ := hT t ht
  intro suf
  induction suf with
  | nil =>
    intro pre n b_buf hts hn hA hO
    obtain ⟨n, rfl⟩ : ∃ m, n = m + 1 := ⟨n - 1, by omega⟩
    rw [List.append_nil] at hts
    refine ⟨vp_in_nI (by omega) (by decide), ?_⟩
    rw [nI_clamp (n := t) (by omega), e1]
    refine br_t (nI_le (by rw [hts]; omega) (by rw [← hts]; omega)) ⟨vp_in_nI hsd (by decide), nm_r (e' := upd b_bufLen sd (nI (rs_s σ (rs_sh f (ts t))).length)) ?_ (k b_buf (by rw [hts]; exact hA) hO)⟩
    rw [nI_clamp (by omega), show (256 : Int32) = nI 256 from rfl, pk_mul, pk_sub (by omega), hts]
    congr 2
    omega
  | cons x suf ih =>
    intro pre n b_buf hts hn hA hO
    obtain ⟨n, rfl⟩ : ∃ m, n = m + 1 := ⟨n - 1, by omega⟩
    have hx := e5 x (by rw [hts]; exact List.mem_append_right _ (List.mem_cons_self ..))
    have hlen : (ts t).length = pre.length + (suf.length + 1) := by rw [hts, List.length_append, List.length_cons]
    rw [hts] at e2
    have ex := rs_A_mid e2
    have hts' : ts t = (pre ++ [x]) ++ suf := by rw [hts, List.append_assoc]; rfl
    have hl2 : (rs_s σ (rs_sh f (pre ++ [x]))).length ≤ 255 := by
      have h1 : (rs_s σ (rs_sh f (ts t))).length = (rs_s σ (rs_sh f (pre ++ [x]))).length + (rs_s σ (rs_sh f suf)).length := by
        rw [hts', rs_sh_app, rs_s_app, List.length_append]
      omega
    have hpl : (pre ++ [x]).length = pre.length + 1 := by rw [List.length_append]; rfl
    have key := fun b hA hO => ih (pre ++ [x]) n b hts' (by rw [List.length_cons] at hn; omega) hA hO
    rw [rs_sh_app, rs_s_app] at key hl2
    rw [hpl, List.length_append] at key
    rw [List.length_append] at hl2
    refine ⟨vp_in_nI (by omega) (by decide), ?_⟩
    rw [nI_clamp (n := t) (by omega), e1, rs_n15]
    refine br_f (nI_ge (by omega) (by omega)) ⟨vp_in_nI (by omega) (by decide), nm_r (e' := nI x) (by rw [nI_clamp (by omega)]; exact ex) ?_⟩
    rcases hx with hx | hx
    · refine br_f (nI_ge (b := 100) (by omega) (by decide)) ?_
      have es : rs_s σ (rs_sh f [x]) = [x] := by
        rw [rs_sh_lo (by omega), rs_s_lo (by omega)]; rfl
      rw [es] at key hl2
      refine br_f (by decide) ⟨vp_in_nI (by simp at hl2; omega) (by decide), nm_r (e' := upd b_buf (256 * sd + (rs_s σ (rs_sh f pre)).length) (nI x)) (by rw [nI_clamp (by simp at hl2; omega)]) (nm_r (nI_1 _) (nm_r (nI_1 _) ?_))⟩
      rw [Nat.add_assoc]
      refine key _ ?_ ?_
      · refine rs_A_app (rs_A_keep hA (fun i h1 h2 => if_neg (by omega))) (rs_A_one (if_pos rfl))
      · intro i hi
        simp at hl2
        exact (if_neg (by omega)).trans (hO i hi)
    · obtain ⟨s, rfl⟩ : ∃ s, x = 100 + s := ⟨x - 100, by omega⟩
      refine br_t (nI_le (a := 100) (by omega) (by omega)) ?_
      have es : rs_s σ (rs_sh f [100 + s]) = σ (6 * f + s) := by
        rw [rs_sh_hi]
        exact rs_s_1
      rw [es] at key hl2
      have ev : nI f * 6 + nI (100 + s) - 100 = nI (6 * f + s) := by
        rw [show (6 : Int32) = nI 6 from rfl, pk_mul, nI_add, show (100 : Int32) = nI 100 from rfl, pk_sub (by omega)]
        congr 1
        omega
      rw [ev]
      have hv : 6 * f + s < 6 * nf := by omega
      refine br_t (nI_pos' (by omega)) ⟨(σ (6 * f + s)).length + 1, ?_⟩
      refine yw_value_81 (o := 256 * sd + (rs_s σ (rs_sh f pre)).length) (b_buf := b_buf) (by omega) hv hV (by omega) ?_ (σ (6 * f + s)).length 0 b_buf (by omega) rs_cy_0.symm
      rw [Nat.add_assoc]
      refine key _ ?_ ?_
      · refine rs_A_app (rs_A_keep hA (fun i h1 h2 => rs_cy_out (by omega))) (rs_cy_A (hV _ hv).2.1)
      · intro i hi
        exact (rs_cy_out (by omega)).trans (hO i hi)
theorem yw_value {post : SY → Prop} {t f sd : Nat} (hT : rs_TB tc ts b_termToken b_termLen) (ht : t < tc) (htc : tc ≤ 64) (hf : f < nf) (hnf : nf ≤ 11) (hV : rs_VA (6 * nf) σ b_val b_len) (hsd : sd < 2) (h31 : ∀ v, (σ v).length ≤ 31)
    (k : ∀ b_buf', rs_A b_buf' (256 * sd) (rs_s σ (rs_sh f (ts t))) → (∀ i, (i < 256 * sd ∨ 256 * sd + 255 ≤ i) → b_buf' i = b_buf i) → post (g_maxLevel, g_maxCalls, g_maxSize, g_terms, g_goals, g_searching, g_query, g_read, g_level, g_frames, g_neqs, g_numbered, g_kept, b_termToken, b_termLen, b_kind, b_goalSize, b_part, b_relation, b_outcome, b_val, b_len, b_neqT, b_neqU, b_neqF, b_stackGoal, b_stackFrame, b_buf', upd b_bufLen sd (nI (rs_s σ (rs_sh f (ts t))).length), b_tmp, b_base, b_baseLen, b_num, b_relevant, b_implies, b_keptAt)) :
    wpY_value post (g_maxLevel, g_maxCalls, g_maxSize, g_terms, g_goals, g_searching, g_query, g_read, g_level, g_frames, g_neqs, g_numbered, g_kept, b_termToken, b_termLen, b_kind, b_goalSize, b_part, b_relation, b_outcome, b_val, b_len, b_neqT, b_neqU, b_neqF, b_stackGoal, b_stackFrame, b_buf, b_bufLen, b_tmp, b_base, b_baseLen, b_num, b_relevant, b_implies, b_keptAt) (nI t) (nI f) (nI sd) := by
  have h255 := rs_val_len h31 (f := f) (hT t ht).2.2.2.1 (hT t ht).2.2.1
  refine nm_r (e' := nI (256 * sd)) (by rw [show (256 : Int32) = nI 256 from rfl, pk_mul, Nat.mul_comm]) ⟨(ts t).length + 1, ?_⟩
  exact yw_value_10 hT ht htc hf hnf hV hsd h255 b_buf k (ts t) [] _ b_buf rfl (by omega) rs_A_nil (fun _ _ => rfl)
/-! the first difference -/
theorem yw_diff_skip {post : Int32 → SY → Prop} {P A1 B1 : List Nat} (hl : b_bufLen 0 = nI (P ++ A1).length) (hl2 : b_bufLen 1 = nI (P ++ B1).length) (hA : rs_A b_buf 0 (P ++ A1)) (hB : rs_A b_buf 256 (P ++ B1)) (a255 : (P ++ A1).length ≤ 255) (b255 : (P ++ B1).length ≤ 255) {m : Nat} (k : wY_difference_17 post g_maxLevel g_maxCalls g_maxSize g_terms g_goals g_searching g_query g_read g_level g_frames g_neqs g_numbered g_kept b_termToken b_termLen b_kind b_goalSize b_part b_relation b_outcome b_val b_len b_neqT b_neqU b_neqF b_stackGoal b_stackFrame b_buf b_bufLen b_tmp b_base b_baseLen b_num b_relevant b_implies b_keptAt m (nI P.length)) :
    ∀ (d i : Nat), i + d = P.length → wY_difference_17 post g_maxLevel g_maxCalls g_maxSize g_terms g_goals g_searching g_query g_read g_level g_frames g_neqs g_numbered g_kept b_termToken b_termLen b_kind b_goalSize b_part b_relation b_outcome b_val b_len b_neqT b_neqU b_neqF b_stackGoal b_stackFrame b_buf b_bufLen b_tmp b_base b_baseLen b_num b_relevant b_implies b_keptAt (m + d) (nI i) := by
  rw [List.length_append] at a255 b255 hl hl2
  intro d
  induction d with
  | zero =>
    intro i hi
    rw [show i = P.length by omega]
    exact k
  | succ d ih =>
    intro i hi
    have e1 := hA i (by rw [List.length_append]; omega)
    have e2 := hB i (by rw [List.length_append]; omega)
    rw [Nat.zero_add, List.getD_eq_getElem?_getD, List.getElem?_append_left (by omega)] at e1
    rw [List.getD_eq_getElem?_getD, List.getElem?_append_left (by omega)] at e2
    have ei : 256 + nI i = nI (256 + i) := nI_add 256 i
    refine br_f (by rw [hl]; exact nI_ge (by omega) (by omega)) (br_f (by rw [hl2]; exact nI_ge (by omega) (by omega)) ⟨vp_in_nI (by omega) (by decide), ?_⟩)
    rw [ei]
    refine ⟨vp_in_nI (by omega) (by decide), br_t (by rw [nI_clamp (by omega), nI_clamp (by omega), e1, e2]) (nm_r (nI_1 i) (ih (i + 1) (by omega)))⟩
theorem yw_difference {post : Int32 → SY → Prop} {t u f : Nat} (hT : rs_TB tc ts b_termToken b_termLen) (ht : t < tc) (hu : u < tc) (htc : tc ≤ 64) (hf : f < nf) (hnf : nf ≤ 11) (hV : rs_VA (6 * nf) σ b_val b_len) (hσ : rs_cp σ) (h31 : ∀ v, (σ v).length ≤ 31) (hb : ∀ v x, v < 6 * nf → x ∈ σ v → x < 1000)
    (k1 : rs_s σ (rs_sh f (ts t)) = rs_s σ (rs_sh f (ts u)) → ∀ b_buf b_bufLen, post (-1) (g_maxLevel, g_maxCalls, g_maxSize, g_terms, g_goals, g_searching, g_query, g_read, g_level, g_frames, g_neqs, g_numbered, g_kept, b_termToken, b_termLen, b_kind, b_goalSize, b_part, b_relation, b_outcome, b_val, b_len, b_neqT, b_neqU, b_neqF, b_stackGoal, b_stackFrame, b_buf, b_bufLen, b_tmp, b_base, b_baseLen, b_num, b_relevant, b_implies, b_keptAt))
    (k0 : ∀ P a b A' B', rs_s σ (rs_sh f (ts t)) = P ++ a :: A' → rs_s σ (rs_sh f (ts u)) = P ++ b :: B' → a ≠ b → ∀ b_buf b_bufLen, rs_A b_buf 0 (P ++ a :: A') → rs_A b_buf 256 (P ++ b :: B') → post (nI P.length) (g_maxLevel, g_maxCalls, g_maxSize, g_terms, g_goals, g_searching, g_query, g_read, g_level, g_frames, g_neqs, g_numbered, g_kept, b_termToken, b_termLen, b_kind, b_goalSize, b_part, b_relation, b_outcome, b_val, b_len, b_neqT, b_neqU, b_neqF, b_stackGoal, b_stackFrame, b_buf, b_bufLen, b_tmp, b_base, b_baseLen, b_num, b_relevant, b_implies, b_keptAt)) :
    wpY_difference post (g_maxLevel, g_maxCalls, g_maxSize, g_terms, g_goals, g_searching, g_query, g_read, g_level, g_frames, g_neqs, g_numbered, g_kept, b_termToken, b_termLen, b_kind, b_goalSize, b_part, b_relation, b_outcome, b_val, b_len, b_neqT, b_neqU, b_neqF, b_stackGoal, b_stackFrame, b_buf, b_bufLen, b_tmp, b_base, b_baseLen, b_num, b_relevant, b_implies, b_keptAt) (nI t) (nI u) (nI f) := by
  have wA := rs_s_W hσ _ 1 (rs_sh_W f _ 1 (hT t ht).2.2.1)
  have wB := rs_s_W hσ _ 1 (rs_sh_W f _ 1 (hT u hu).2.2.1)
  have lA := rs_val_len h31 (f := f) (hT t ht).2.2.2.1 (hT t ht).2.2.1
  have lB := rs_val_len h31 (f := f) (hT u hu).2.2.2.1 (hT u hu).2.2.1
  have big : ∀ t, t < tc → ∀ x, x ∈ rs_s σ (rs_sh f (ts t)) → x < 1000 := by
    intro t ht x hx
    rcases rs_s_mem hx with ⟨z, _⟩ | ⟨v, z1, z2⟩
    · omega
    · exact hb v x (rs_sh_var hf (hT t ht).2.2.2.2 z1) z2
  have bA := big t ht
  have bB := big u hu
  unfold wpY_difference
  refine yw_value (sd := 0) hT ht htc hf hnf hV (by omega) h31 (fun b1 hA1 hO1 => ?_)
  refine yw_value (sd := 1) hT hu htc hf hnf hV (by omega) h31 (fun b2 hB hO2 => ?_)
  have hA : rs_A b2 0 (rs_s σ (rs_sh f (ts t))) := rs_A_keep hA1 (fun i h1 h2 => hO2 i (by omega))
  have hB : rs_A b2 256 (rs_s σ (rs_sh f (ts u))) := hB
  generalize rs_s σ (rs_sh f (ts t)) = A at *
  generalize rs_s σ (rs_sh f (ts u)) = B at *
  have el0 : (upd (upd b_bufLen 0 (nI A.length)) 1 (nI B.length)) 0 = nI A.length := (if_neg (by omega)).trans (if_pos rfl)
  have el1 : (upd (upd b_bufLen 0 (nI A.length)) 1 (nI B.length)) 1 = nI B.length := if_pos rfl
  by_cases e : A = B
  · subst e
    refine ⟨1 + A.length, ?_⟩
    refine yw_diff_skip (P := A) (A1 := []) (B1 := []) (by rw [List.append_nil]; exact el0) (by rw [List.append_nil]; exact el1) (by rw [List.append_nil]; exact hA) (by rw [List.append_nil]; exact hB) (by rw [List.append_nil]; exact lA) (by rw [List.append_nil]; exact lA) ?_ A.length 0 (by omega)
    exact br_t (by rw [el0]; exact nI_le (Nat.le_refl _) (by omega)) (k1 rfl _ _)
  · obtain ⟨P, a, b, A', B', eA, eB, hab⟩ := rs_diff A B 1 wA wB e
    subst eA eB
    refine ⟨1 + P.length, ?_⟩
    refine yw_diff_skip (P := P) (A1 := a :: A') (B1 := b :: B') el0 el1 hA hB lA lB ?_ P.length 0 (by omega)
    have ea := rs_A_mid hA
    have eb := rs_A_mid hB
    rw [Nat.zero_add] at ea
    have qA : (P ++ a :: A').length = P.length + (A'.length + 1) := by rw [List.length_append, List.length_cons]
    have qB : (P ++ b :: B').length = P.length + (B'.length + 1) := by rw [List.length_append, List.length_cons]
    rw [qA] at lA
    rw [qB] at lB
    have ei : 256 + nI P.length = nI (256 + P.length) := nI_add 256 P.length
    refine br_f (by rw [el0]; exact nI_ge (by rw [qA]; omega) (by rw [qA]; omega)) (br_f (by rw [el1]; exact nI_ge (by rw [qB]; omega) (by rw [qB]; omega)) ⟨vp_in_nI (by omega) (by decide), ?_⟩)
    rw [ei]
    refine ⟨vp_in_nI (by omega) (by decide), br_f ?_ (k0 P a b A' B' rfl rfl hab _ _ hA hB)⟩
    rw [nI_clamp (by omega), nI_clamp (by omega), ea, eb]
    have qa := bA a (List.mem_append_right _ (List.mem_cons_self ..))
    have qb := bB b (List.mem_append_right _ (List.mem_cons_self ..))
    exact fun z => hab ((nI_eq (by omega) (by omega)).mp z)
end
end
section
/-! the reference: replacing, unifying -/
theorem rs_W_le : ∀ (l : List Nat) (k : Nat), rs_W k l → k ≤ l.length
  | [], k, h => by
    have : k = 0 := h
    omega
  | a :: l, k, h => by
    have := rs_W_le l _ h.2
    rw [List.length_cons]
    split at this <;> omega
section
variable {g_maxLevel g_maxCalls g_maxSize g_terms g_goals g_searching g_query g_read g_level g_frames g_neqs g_numbered g_kept : Int32} {b_termToken b_termLen b_kind b_goalSize b_part b_relation b_outcome b_val b_len b_neqT b_neqU b_neqF b_stackGoal b_stackFrame b_buf b_bufLen b_tmp b_base b_baseLen b_num b_relevant b_implies b_keptAt : Nat → Int32}
variable {tc nf ms w ad : Nat} {ts σ : Nat → List Nat} {sub : List Nat} {post : Int32 → SY → Prop} {J74 : Int32 → (Nat → Int32) → (Nat → Int32) → (Nat → Int32) → (Nat → Int32) → (Nat → Int32) → (Nat → Int32) → (Nat → Int32) → (Nat → Int32) → (Nat → Int32) → (Nat → Int32) → (Nat → Int32) → (Nat → Int32) → (Nat → Int32) → (Nat → Int32) → (Nat → Int32) → (Nat → Int32) → (Nat → Int32) → (Nat → Int32) → (Nat → Int32) → (Nat → Int32) → (Nat → Int32) → (Nat → Int32) → (Nat → Int32) → Prop} {J92 : Int32 → Int32 → (Nat → Int32) → (Nat → Int32) → (Nat → Int32) → (Nat → Int32) → (Nat → Int32) → (Nat → Int32) → (Nat → Int32) → (Nat → Int32) → (Nat → Int32) → (Nat → Int32) → (Nat → Int32) → (Nat → Int32) → (Nat → Int32) → (Nat → Int32) → (Nat → Int32) → (Nat → Int32) → (Nat → Int32) → (Nat → Int32) → (Nat → Int32) → (Nat → Int32) → (Nat → Int32) → (Nat → Int32) → (Nat → Int32) → Prop}
theorem yw_rep_x {x4 x5 x7 : Int32} {n sz : Nat} (hat : ad + sz ≤ 512) (hn : n ≤ 31) (hms : ms ≤ 31) (hsz : sz ≤ 31)
    (k1 : n + sz ≤ ms → J92 (nI (n + sz)) (x7 + 1) b_termToken b_termLen b_kind b_goalSize b_part b_relation b_outcome b_val b_len b_neqT b_neqU b_neqF b_stackGoal b_stackFrame b_buf b_bufLen (rs_cy b_tmp n b_buf ad sz) b_base b_baseLen b_num b_relevant b_implies b_keptAt) (k0 : ms < n + sz → post 0 (g_maxLevel, g_maxCalls, nI ms, g_terms, g_goals, g_searching, g_query, g_read, g_level, g_frames, g_neqs, g_numbered, g_kept, b_termToken, b_termLen, b_kind, b_goalSize, b_part, b_relation, b_outcome, b_val, b_len, b_neqT, b_neqU, b_neqF, b_stackGoal, b_stackFrame, b_buf, b_bufLen, rs_cy b_tmp n b_buf ad sz, b_base, b_baseLen, b_num, b_relevant, b_implies, b_keptAt)) :
    ∀ (d j : Nat) (b1 : Nat → Int32), j + d = sz → b1 = rs_cy b_tmp n b_buf ad j → wY_replace_136 post J74 J92 (nI (100 + w)) (nI ad) x4 x5 (nI n) x7 (nI (100 + w)) (nI sz) g_maxLevel g_maxCalls (nI ms) g_terms g_goals g_searching g_query g_read g_level g_frames g_neqs g_numbered g_kept (d + 1) (nI j) b_termToken b_termLen b_kind b_goalSize b_part b_relation b_outcome b_val b_len b_neqT b_neqU b_neqF b_stackGoal b_stackFrame b_buf b_bufLen b1 b_base b_baseLen b_num b_relevant b_implies b_keptAt := by
  intro d
  induction d with
  | zero =>
    intro j b1 hj hb
    obtain rfl : j = sz := by omega
    subst hb
    refine br_t (nI_le (Nat.le_refl _) (by omega)) (nm_r (nI_add _ _) ?_)
    by_cases z : n + j ≤ ms
    · exact br_t (nI_le z (by omega)) (nm_e (k1 z))
    · exact br_f (nI_ge (by omega) (by omega)) (k0 (by omega))
  | succ d ih =>
    intro j b1 hj hb
    refine br_f (nI_ge (by omega) (by omega)) (br_t rfl ?_)
    rw [nI_add ad j, nI_add n j]
    refine ⟨vp_in_nI (by omega) (by decide), vp_in_nI (by omega) (by decide), nm_r (e' := rs_cy b_tmp n b_buf ad (j + 1)) ?_ (nm_r (nI_1 j) (ih (j + 1) _ (by omega) rfl))⟩
    rw [nI_clamp (n := n + j) (by omega), nI_clamp (n := ad + j) (by omega), hb, rs_cy_s]
theorem yw_rep_o {x4 x5 x7 : Int32} {n tk : Nat} (ht : tk < 1000) (hw : w < 66) (htk : tk ≠ 100 + w) (hn : n ≤ 31) (hms : ms ≤ 31)
    (k1 : n + 1 ≤ ms → J92 (nI (n + 1)) (x7 + 1) b_termToken b_termLen b_kind b_goalSize b_part b_relation b_outcome b_val b_len b_neqT b_neqU b_neqF b_stackGoal b_stackFrame b_buf b_bufLen (upd b_tmp n (nI tk)) b_base b_baseLen b_num b_relevant b_implies b_keptAt) (k0 : ms < n + 1 → post 0 (g_maxLevel, g_maxCalls, nI ms, g_terms, g_goals, g_searching, g_query, g_read, g_level, g_frames, g_neqs, g_numbered, g_kept, b_termToken, b_termLen, b_kind, b_goalSize, b_part, b_relation, b_outcome, b_val, b_len, b_neqT, b_neqU, b_neqF, b_stackGoal, b_stackFrame, b_buf, b_bufLen, upd b_tmp n (nI tk), b_base, b_baseLen, b_num, b_relevant, b_implies, b_keptAt)) :
    wY_replace_136 post J74 J92 (nI (100 + w)) (nI ad) x4 x5 (nI n) x7 (nI tk) 1 g_maxLevel g_maxCalls (nI ms) g_terms g_goals g_searching g_query g_read g_level g_frames g_neqs g_numbered g_kept 2 0 b_termToken b_termLen b_kind b_goalSize b_part b_relation b_outcome b_val b_len b_neqT b_neqU b_neqF b_stackGoal b_stackFrame b_buf b_bufLen b_tmp b_base b_baseLen b_num b_relevant b_implies b_keptAt := by
  refine br_f (by decide) (br_f (fun z => htk ((nI_eq (by omega) (by omega)).mp z)) ?_)
  have e : nI n + 0 = nI n := nI_add n 0
  rw [e]
  refine ⟨vp_in_nI (by omega) (by decide), nm_r (e' := upd b_tmp n (nI tk)) (by rw [nI_clamp (by omega)]) (nm_r (e' := (1 : Int32)) (by decide) ?_)⟩
  refine br_t (by decide) (nm_r (nI_1 n) ?_)
  by_cases z : n + 1 ≤ ms
  · exact br_t (nI_le z (by omega)) (nm_e (k1 z))
  · exact br_f (nI_ge (by omega) (by omega)) (k0 (by omega))
theorem yw_rep_206 {x1 x2 x4 : Int32} {v n : Nat} (hv : v < 66) (hn : n ≤ 31) (k : J74 (nI (v + 1)) b_termToken b_termLen b_kind b_goalSize b_part b_relation b_outcome (rs_cy b_val (31 * v) b_tmp 0 n) (upd b_len v (nI n)) b_neqT b_neqU b_neqF b_stackGoal b_stackFrame b_buf b_bufLen b_tmp b_base b_baseLen b_num b_relevant b_implies b_keptAt) :
    ∀ (d j : Nat) (b1 : Nat → Int32), j + d = n → b1 = rs_cy b_val (31 * v) b_tmp 0 j → wY_replace_206 post J74 x1 x2 x4 (nI v) (nI n) g_maxLevel g_maxCalls g_maxSize g_terms g_goals g_searching g_query g_read g_level g_frames g_neqs g_numbered g_kept (d + 1) (nI j) b_termToken b_termLen b_kind b_goalSize b_part b_relation b_outcome b1 b_len b_neqT b_neqU b_neqF b_stackGoal b_stackFrame b_buf b_bufLen b_tmp b_base b_baseLen b_num b_relevant b_implies b_keptAt := by
  intro d
  induction d with
  | zero =>
    intro j b1 hj hb
    obtain rfl : j = n := by omega
    subst hb
    exact br_t (nI_le (Nat.le_refl _) (by omega)) ⟨vp_in_nI hv (by decide), nm_r (e' := upd b_len v (nI j)) (by rw [nI_clamp (by omega)]) (nm_r (nI_1 v) k)⟩
  | succ d ih =>
    intro j b1 hj hb
    refine br_f (nI_ge (by omega) (by omega)) ⟨vp_in_nI (by omega) (by decide), ?_⟩
    rw [rs_n31]
    refine ⟨vp_in_nI (by omega) (by decide), nm_r (e' := rs_cy b_val (31 * v) b_tmp 0 (j + 1)) ?_ (nm_r (nI_1 j) (ih (j + 1) _ (by omega) rfl))⟩
    rw [nI_clamp (n := 31 * v + j) (by omega), nI_clamp (n := j) (by omega), ← rs_cy_s, Nat.zero_add, hb]
theorem yw_rep_92 {v : Nat} (hv : v < 66) (hw : w < 66) (hms : ms ≤ 31) (hsz : sub.length ≤ 31) (hat : ad + sub.length ≤ 512) (hS : rs_A b_buf ad sub) (hl : b_len v = nI (σ v).length) (hA : rs_A b_val (31 * v) (σ v)) (h31 : (σ v).length ≤ 31) (hb : ∀ x, x ∈ σ v → x < 1000)
    (k1 : (rs_s (rs_dl w sub) (σ v)).length ≤ ms → ∀ b_tmp, rs_A b_tmp 0 (rs_s (rs_dl w sub) (σ v)) → J74 (nI (v + 1)) b_termToken b_termLen b_kind b_goalSize b_part b_relation b_outcome (rs_cy b_val (31 * v) b_tmp 0 (rs_s (rs_dl w sub) (σ v)).length) (upd b_len v (nI (rs_s (rs_dl w sub) (σ v)).length)) b_neqT b_neqU b_neqF b_stackGoal b_stackFrame b_buf b_bufLen b_tmp b_base b_baseLen b_num b_relevant b_implies b_keptAt)
    (k0 : ms < (rs_s (rs_dl w sub) (σ v)).length → ∀ b_tmp, post 0 (g_maxLevel, g_maxCalls, nI ms, g_terms, g_goals, g_searching, g_query, g_read, g_level, g_frames, g_neqs, g_numbered, g_kept, b_termToken, b_termLen, b_kind, b_goalSize, b_part, b_relation, b_outcome, b_val, b_len, b_neqT, b_neqU, b_neqF, b_stackGoal, b_stackFrame, b_buf, b_bufLen, b_tmp, b_base, b_baseLen, b_num, b_relevant, b_implies, b_keptAt)) :
    ∀ (suf pre : List Nat) (n : Nat) (b_tmp : Nat → Int32), σ v = pre ++ suf → suf.length < n → rs_A b_tmp 0 (rs_s (rs_dl w sub) pre) → (rs_s (rs_dl w sub) pre).length ≤ ms → wY_replace_92 post J74 (nI (100 + w)) (nI ad) (nI sub.length) (nI v) g_maxLevel g_maxCalls (nI ms) g_terms g_goals g_searching g_query g_read g_level g_frames g_neqs g_numbered g_kept n (nI (rs_s (rs_dl w sub) pre).length) (nI pre.length) b_termToken b_termLen b_kind b_goalSize b_part b_relation b_outcome b_val b_len b_neqT b_neqU b_neqF b_stackGoal b_stackFrame b_buf b_bufLen b_tmp b_base b_baseLen b_num b_relevant b_implies b_keptAt := by
  intro suf
  induction suf with
  | nil =>
    intro pre n b_tmp e hn hT hp
    obtain ⟨n, rfl⟩ : ∃ m, n = m + 1 := ⟨n - 1, by omega⟩
    rw [List.append_nil] at e
    subst e
    refine ⟨vp_in_nI hv (by decide), ?_⟩
    rw [nI_clamp (n := v) (by omega), hl]
    refine br_t (nI_le (Nat.le_refl _) (by omega)) ⟨(rs_s (rs_dl w sub) (σ v)).length + 1, ?_⟩
    exact yw_rep_206 hv (by omega) (k1 hp b_tmp hT) (rs_s (rs_dl w sub) (σ v)).length 0 b_val (by omega) rs_cy_0.symm
  | cons tk suf ih =>
    intro pre n b_tmp e hn hT hp
    obtain ⟨n, rfl⟩ : ∃ m, n = m + 1 := ⟨n - 1, by omega⟩
    have hbt := hb tk (by rw [e]; exact List.mem_append_right _ (List.mem_cons_self ..))
    have hlen : (σ v).length = pre.length + (suf.length + 1) := by rw [e, List.length_append, List.length_cons]
    have hA' := hA
    rw [e] at hA'
    have et := rs_A_mid hA'
    have e' : σ v = (pre ++ [tk]) ++ suf := by rw [e, List.append_assoc]; rfl
    have hpl : (pre ++ [tk]).length = pre.length + 1 := by rw [List.length_append]; rfl
    have key := fun b h1 h2 => ih (pre ++ [tk]) n b e' (by rw [List.length_cons] at hn; omega) h1 h2
    have hfull : (rs_s (rs_dl w sub) (pre ++ [tk])).length ≤ (rs_s (rs_dl w sub) (σ v)).length := by
      rw [e', rs_s_app _ (pre ++ [tk]), List.length_append]; omega
    rw [rs_s_app] at key hfull
    rw [hpl] at key
    rw [List.length_append] at key hfull
    refine ⟨vp_in_nI hv (by decide), ?_⟩
    rw [nI_clamp (n := v) (by omega), hl, rs_n31]
    refine br_f (nI_ge (by omega) (by omega)) ⟨vp_in_nI (by omega) (by decide), nm_r (e' := nI tk) (by rw [nI_clamp (by omega)]; exact et) ?_⟩
    by_cases hx : tk = 100 + w
    · subst hx
      have es : rs_s (rs_dl w sub) [100 + w] = sub := by rw [rs_s_1, rs_dl_s]
      rw [es] at key hfull
      refine br_t rfl ⟨sub.length + 1, ?_⟩
      refine yw_rep_x (b_tmp := b_tmp) hat (by omega) hms hsz (fun z => ?_) (fun z => k0 (by omega) _) sub.length 0 b_tmp (by omega) rs_cy_0.symm
      rw [nI_1]
      exact key _ (rs_A_app (rs_A_keep hT (fun i _ h2 => rs_cy_out (by omega))) (by rw [Nat.zero_add]; exact rs_cy_A hS)) z
    · have es : rs_s (rs_dl w sub) [tk] = [tk] := by
        rcases rs_tok tk with z | ⟨u, rfl⟩
        · rw [rs_s_lo z]; rfl
        · rw [rs_s_1, rs_dl_n (by omega)]
      rw [es] at key hfull
      refine br_f (fun z => hx ((nI_eq (by omega) (by omega)).mp z)) ⟨2, ?_⟩
      refine yw_rep_o hbt hw hx (by omega) hms (fun z => ?_) (fun z => k0 (by simp at hfull; omega) _)
      rw [nI_1]
      exact key _ (rs_A_app (rs_A_keep hT (fun i _ h2 => if_neg (by omega))) (rs_A_one (by rw [Nat.zero_add]; exact if_pos rfl))) z
theorem yw_rep_74 (hf : nf ≤ 11) (hw : w < 66) (hms : ms ≤ 31) (hsz : sub.length ≤ 31) (hat : ad + sub.length ≤ 512) (hS : rs_A b_buf ad sub) (h31 : ∀ v, (σ v).length ≤ 31) (hb : ∀ v x, v < 6 * nf → x ∈ σ v → x < 1000)
    (k1 : (∀ v, v < 6 * nf → (rs_s (rs_dl w sub) (σ v)).length ≤ ms) → ∀ b_val b_len b_tmp, rs_VA (6 * nf) (fun v => rs_s (rs_dl w sub) (σ v)) b_val b_len → post 1 (g_maxLevel, g_maxCalls, nI ms, g_terms, g_goals, g_searching, g_query, g_read, g_level, nI nf, g_neqs, g_numbered, g_kept, b_termToken, b_termLen, b_kind, b_goalSize, b_part, b_relation, b_outcome, b_val, b_len, b_neqT, b_neqU, b_neqF, b_stackGoal, b_stackFrame, b_buf, b_bufLen, b_tmp, b_base, b_baseLen, b_num, b_relevant, b_implies, b_keptAt))
    (k0 : (∃ v, v < 6 * nf ∧ ms < (rs_s (rs_dl w sub) (σ v)).length) → ∀ b_val b_len b_tmp, post 0 (g_maxLevel, g_maxCalls, nI ms, g_terms, g_goals, g_searching, g_query, g_read, g_level, nI nf, g_neqs, g_numbered, g_kept, b_termToken, b_termLen, b_kind, b_goalSize, b_part, b_relation, b_outcome, b_val, b_len, b_neqT, b_neqU, b_neqF, b_stackGoal, b_stackFrame, b_buf, b_bufLen, b_tmp, b_base, b_baseLen, b_num, b_relevant, b_implies, b_keptAt)) :
    ∀ (d v : Nat) (b_val b_len b_tmp : Nat → Int32), v + d = 6 * nf → rs_VA (6 * nf) (fun u => if u < v then rs_s (rs_dl w sub) (σ u) else σ u) b_val b_len → (∀ u, u < v → (rs_s (rs_dl w sub) (σ u)).length ≤ ms) → wY_replace_74 post (nI (100 + w)) (nI ad) (nI sub.length) g_maxLevel g_maxCalls (nI ms) g_terms g_goals g_searching g_query g_read g_level (nI nf) g_neqs g_numbered g_kept (d + 1) (nI v) b_termToken b_termLen b_kind b_goalSize b_part b_relation b_outcome b_val b_len b_neqT b_neqU b_neqF b_stackGoal b_stackFrame b_buf b_bufLen b_tmp b_base b_baseLen b_num b_relevant b_implies b_keptAt := by
  have e6 : nI nf * 6 = nI (6 * nf) := by rw [show (6 : Int32) = nI 6 from rfl, pk_mul, Nat.mul_comm]
  intro d
  induction d with
  | zero =>
    intro v b_val b_len b_tmp hv hV hu
    refine br_t (by rw [e6]; exact nI_le (by omega) (by omega)) (k1 (fun u h => hu u (by omega)) _ _ _ ?_)
    intro u h
    have := hV u h
    simp only [if_pos (show u < v by omega)] at this
    exact this
  | succ d ih =>
    intro v b_val b_len b_tmp hv hV hu
    have hVv := hV v (by omega)
    simp only [if_neg (Nat.lt_irrefl v)] at hVv
    obtain ⟨q1, q2, q3⟩ := hVv
    refine br_f (by rw [e6]; exact nI_ge (by omega) (by omega)) ⟨(σ v).length + 1, ?_⟩
    refine yw_rep_92 (σ := σ) (by omega) hw hms hsz hat hS q1 q2 q3 (hb v · (by omega)) ?_ ?_ (σ v) [] _ b_tmp rfl (by omega) rs_A_nil (Nat.zero_le _)
    · intro hle b_tmp hT
      refine ih (v + 1) _ _ b_tmp (by omega) ?_ ?_
      · intro u hu6
        by_cases e : u = v
        · subst e
          simp only [if_pos (show u < u + 1 by omega)]
          refine ⟨if_pos rfl, ?_, by omega⟩
          have := rs_cy_A (d := b_val) (i := 31 * u) hT
          exact this
        · have h1 := hV u hu6
          have ei : (if u < v + 1 then rs_s (rs_dl w sub) (σ u) else σ u) = (if u < v then rs_s (rs_dl w sub) (σ u) else σ u) := by
            by_cases z : u < v
            · rw [if_pos z, if_pos (by omega)]
            · rw [if_neg z, if_neg (by omega)]
          simp only [ei]
          refine ⟨(if_neg e).trans h1.1, ?_, h1.2.2⟩
          have hl3 := h1.2.2
          refine rs_A_keep h1.2.1 (fun i i1 i2 => rs_cy_out ?_)
          simp only at i2 hl3
          omega
      · intro u hu'
        by_cases e : u = v
        · rw [e]; exact hle
        · exact hu u (by omega)
    · intro hgt b_tmp
      exact k0 ⟨v, by omega, hgt⟩ _ _ _
theorem yw_rep_8 (hw : w < 66) (hat : ad + sub.length ≤ 512) (hS : rs_A b_buf ad sub) (hb : ∀ x, x ∈ sub → x < 1000)
    (ko : 100 + w ∈ sub → post 0 (g_maxLevel, g_maxCalls, g_maxSize, g_terms, g_goals, g_searching, g_query, g_read, g_level, g_frames, g_neqs, g_numbered, g_kept, b_termToken, b_termLen, b_kind, b_goalSize, b_part, b_relation, b_outcome, b_val, b_len, b_neqT, b_neqU, b_neqF, b_stackGoal, b_stackFrame, b_buf, b_bufLen, b_tmp, b_base, b_baseLen, b_num, b_relevant, b_implies, b_keptAt)) (kg : 100 + w ∉ sub → wY_replace_60 post (nI (100 + w)) (nI ad) (nI sub.length) g_maxLevel g_maxCalls g_maxSize g_terms g_goals g_searching g_query g_read g_level g_frames g_neqs g_numbered g_kept b_termToken b_termLen b_kind b_goalSize b_part b_relation b_outcome b_val b_len b_neqT b_neqU b_neqF b_stackGoal b_stackFrame b_buf b_bufLen b_tmp b_base b_baseLen b_num b_relevant b_implies b_keptAt) :
    ∀ (suf pre : List Nat) (k n : Nat), sub = pre ++ suf → rs_W k suf → suf.length < n → 100 + w ∉ pre → wY_replace_8 post (nI (100 + w)) (nI ad) g_maxLevel g_maxCalls g_maxSize g_terms g_goals g_searching g_query g_read g_level g_frames g_neqs g_numbered g_kept b_termToken b_termLen b_kind b_goalSize b_part b_relation b_outcome b_val b_len b_neqT b_neqU b_neqF b_stackGoal b_stackFrame b_buf b_bufLen b_tmp b_base b_baseLen b_num b_relevant b_implies b_keptAt n (nI k) (nI pre.length) (nI (ad + pre.length)) := by
  intro suf
  induction suf with
  | nil =>
    intro pre k n e hk hn hp
    obtain ⟨n, rfl⟩ : ∃ m, n = m + 1 := ⟨n - 1, by omega⟩
    rw [List.append_nil] at e
    subst e
    have hk0 : k = 0 := hk
    subst hk0
    by_cases z : 512 ≤ ad + sub.length
    · exact br_t (nI_le (a := 512) z (by omega)) (kg hp)
    · exact br_f (nI_ge (b := 512) (by omega) (by decide)) (br_t (by decide) (kg hp))
  | cons tk suf ih =>
    intro pre k n e hk hn hp
    obtain ⟨n, rfl⟩ : ∃ m, n = m + 1 := ⟨n - 1, by omega⟩
    have hlen : sub.length = pre.length + (suf.length + 1) := by rw [e, List.length_append, List.length_cons]
    have hkl := rs_W_le _ _ hk
    rw [List.length_cons] at hkl hn
    obtain ⟨hk0, hk⟩ := hk
    have hmem : tk ∈ sub := by rw [e]; exact List.mem_append_right _ (List.mem_cons_self ..)
    have hbt := hb tk hmem
    have et : b_buf (ad + pre.length) = nI tk := by
      have h := hS
      rw [e] at h
      exact rs_A_mid h
    have hpl : (pre ++ [tk]).length = pre.length + 1 := by rw [List.length_append]; rfl
    refine br_f (nI_ge (b := 512) (by omega) (by decide)) (br_f (nI_nle hk0 (by omega)) ⟨vp_in_nI (by omega) (by decide), ?_⟩)
    rw [nI_clamp (n := ad + pre.length) (by omega), et]
    by_cases hx : tk = 100 + w
    · exact br_t (by rw [hx]) (ko (hx ▸ hmem))
    · refine br_f (fun z => hx ((nI_eq (by omega) (by omega)).mp z)) ⟨vp_in_nI (by omega) (by decide), ?_⟩
      have key := fun k h => ih (pre ++ [tk]) k n (by rw [e, List.append_assoc]; rfl) h (by omega) (fun z => by
        rcases List.mem_append.mp z with z | z
        · exact hp z
        · rw [List.mem_singleton] at z; exact hx z.symm)
      rw [hpl, ← Nat.add_assoc] at key
      by_cases h0 : tk = 0
      · rw [if_pos h0] at hk
        exact br_t (by rw [h0]; rfl) (nm_r (nI_1 _) (nm_r (nI_1 _) (nm_r (nI_1 _) (key _ hk))))
      · rw [if_neg h0] at hk
        obtain ⟨k, rfl⟩ : ∃ m, k = m + 1 := ⟨k - 1, by omega⟩
        rw [Nat.add_sub_cancel] at hk
        exact br_f (nI_ne0 (by omega) (by omega)) (nm_r (pk_m1 k) (nm_r (nI_1 _) (nm_r (nI_1 _) (key _ hk))))
theorem yw_replace (hf : nf ≤ 11) (hw : w < 66) (hms : ms ≤ 31) (hsub : rs_W 1 sub) (hsz : sub.length ≤ 255) (hat : ad + sub.length ≤ 512) (hS : rs_A b_buf ad sub) (hbs : ∀ x, x ∈ sub → x < 1000) (h31 : ∀ v, (σ v).length ≤ 31) (hb : ∀ v x, v < 6 * nf → x ∈ σ v → x < 1000) (hV : rs_VA (6 * nf) σ b_val b_len)
    (k1 : 100 + w ∉ sub → (∀ v, v < 6 * nf → (rs_s (rs_dl w sub) (σ v)).length ≤ ms) → ∀ b_val b_len b_tmp, rs_VA (6 * nf) (fun v => rs_s (rs_dl w sub) (σ v)) b_val b_len → post 1 (g_maxLevel, g_maxCalls, nI ms, g_terms, g_goals, g_searching, g_query, g_read, g_level, nI nf, g_neqs, g_numbered, g_kept, b_termToken, b_termLen, b_kind, b_goalSize, b_part, b_relation, b_outcome, b_val, b_len, b_neqT, b_neqU, b_neqF, b_stackGoal, b_stackFrame, b_buf, b_bufLen, b_tmp, b_base, b_baseLen, b_num, b_relevant, b_implies, b_keptAt))
    (k0 : (100 + w ∈ sub ∨ ms < sub.length ∨ ∃ v, v < 6 * nf ∧ ms < (rs_s (rs_dl w sub) (σ v)).length) → ∀ b_val b_len b_tmp, post 0 (g_maxLevel, g_maxCalls, nI ms, g_terms, g_goals, g_searching, g_query, g_read, g_level, nI nf, g_neqs, g_numbered, g_kept, b_termToken, b_termLen, b_kind, b_goalSize, b_part, b_relation, b_outcome, b_val, b_len, b_neqT, b_neqU, b_neqF, b_stackGoal, b_stackFrame, b_buf, b_bufLen, b_tmp, b_base, b_baseLen, b_num, b_relevant, b_implies, b_keptAt)) :
    wpY_replace post (g_maxLevel, g_maxCalls, nI ms, g_terms, g_goals, g_searching, g_query, g_read, g_level, nI nf, g_neqs, g_numbered, g_kept, b_termToken, b_termLen, b_kind, b_goalSize, b_part, b_relation, b_outcome, b_val, b_len, b_neqT, b_neqU, b_neqF, b_stackGoal, b_stackFrame, b_buf, b_bufLen, b_tmp, b_base, b_baseLen, b_num, b_relevant, b_implies, b_keptAt) (nI (100 + w)) (nI ad) := by
  refine ⟨sub.length + 1, ?_⟩
  refine yw_rep_8 hw hat hS hbs (fun z => k0 (Or.inl z) _ _ _) (fun z => ?_) sub [] 1 _ rfl hsub (by omega) List.not_mem_nil
  by_cases h : sub.length ≤ ms
  · refine br_t (nI_le h (by omega)) ⟨6 * nf + 1, ?_⟩
    refine yw_rep_74 hf hw hms (by omega) hat hS h31 hb (k1 z) (fun y => k0 (Or.inr (Or.inr y))) (6 * nf) 0 _ _ _ (by omega) ?_ (fun u hu => absurd hu (by omega))
    intro u hu
    simp only [if_neg (Nat.not_lt_zero u)]
    exact hV u hu
  · exact br_f (nI_ge (by omega) (by omega)) (k0 (Or.inr (Or.inl (by omega))) _ _ _)
end
end
section
/-! the reference: unifying -/
/-- the reference's disequalities -/
def rs_NY (tc nf : Nat) (ts : Nat → List Nat) (ne : List (List Nat × List Nat)) (nT nU nF : Nat → Int32) : Prop :=
  ∀ i, i < ne.length → ∃ t u f, t < tc ∧ u < tc ∧ f < nf ∧ nT i = nI t ∧ nU i = nI u ∧ nF i = nI f ∧ ne[i]? = some (rs_sh f (ts t), rs_sh f (ts u))
theorem rs_Y_b {ms nf : Nat} {C : rs_V} {σ : Nat → List Nat} (h : rs_Y ms nf C σ) (hf : nf ≤ 11) : ∀ v x, v < 6 * nf → x ∈ σ v → x < 1000 := by
  intro v x hv hx
  rcases h.2.2.2.1 v x hv hx with z | ⟨w, z1, z2, _⟩ <;> omega
section
variable {g_maxLevel g_maxCalls g_maxSize g_terms g_goals g_searching g_query g_read g_level g_frames g_neqs g_numbered g_kept : Int32} {b_termToken b_termLen b_kind b_goalSize b_part b_relation b_outcome b_val b_len b_neqT b_neqU b_neqF b_stackGoal b_stackFrame b_buf b_bufLen b_tmp b_base b_baseLen b_num b_relevant b_implies b_keptAt : Nat → Int32}
variable {tc nf ms t u f : Nat} {ts : Nat → List Nat} {E : rs_V} {post : Int32 → SY → Prop}
theorem yw_unify_84 {J3 : Int32 → Int32 → Int32 → Int32 → Int32 → Int32 → Int32 → Int32 → Int32 → Int32 → Int32 → Int32 → Int32 → Int32 → (Nat → Int32) → (Nat → Int32) → (Nat → Int32) → (Nat → Int32) → (Nat → Int32) → (Nat → Int32) → (Nat → Int32) → (Nat → Int32) → (Nat → Int32) → (Nat → Int32) → (Nat → Int32) → (Nat → Int32) → (Nat → Int32) → (Nat → Int32) → (Nat → Int32) → (Nat → Int32) → (Nat → Int32) → (Nat → Int32) → (Nat → Int32) → (Nat → Int32) → (Nat → Int32) → (Nat → Int32) → (Nat → Int32) → Prop} {x1 x2 x3 : Int32} {i w ad : Nat} {P A' B' sub : List Nat} {σ : Nat → List Nat} {C : rs_V} {A0 B0 : List Nat} (hf : nf ≤ 11) (hms : ms ≤ 31) (hY : rs_YU ms nf A0 B0 E C σ) (hV : rs_VA (6 * nf) σ b_val b_len)
    (hw : w < 6 * nf) (hσw : σ w = [100 + w]) (hsub : rs_W 1 sub) (hsz : sub.length ≤ 255) (hat : ad + sub.length ≤ 512) (hS : rs_A b_buf ad sub) (htok : ∀ x, x ∈ sub → x < 17 ∨ ∃ u, u < 6 * nf ∧ x = 100 + u ∧ σ u = [100 + u]) (hne : sub ≠ [100 + w])
    (hAB : (rs_s σ A0 = P ++ (100 + w) :: A' ∧ rs_s σ B0 = P ++ (sub ++ B')) ∨ (rs_s σ B0 = P ++ (100 + w) :: A' ∧ rs_s σ A0 = P ++ (sub ++ B')))
    (k1 : ∀ (σ' : Nat → List Nat) (C' : rs_V) (b_val b_len b_tmp : Nat → Int32), rs_YU ms nf A0 B0 E C' σ' → rs_VA (6 * nf) σ' b_val b_len → rs_uk σ' 66 < rs_uk σ 66 → J3 (nI (i + 1)) g_maxLevel g_maxCalls (nI ms) g_terms g_goals g_searching g_query g_read g_level (nI nf) g_neqs g_numbered g_kept b_termToken b_termLen b_kind b_goalSize b_part b_relation b_outcome b_val b_len b_neqT b_neqU b_neqF b_stackGoal b_stackFrame b_buf b_bufLen b_tmp b_base b_baseLen b_num b_relevant b_implies b_keptAt)
    (k0 : ¬ rs_Sat ms (6 * nf) E → ∀ (b_val b_len b_tmp : Nat → Int32), post 0 (g_maxLevel, g_maxCalls, nI ms, g_terms, g_goals, g_searching, g_query, g_read, g_level, nI nf, g_neqs, g_numbered, g_kept, b_termToken, b_termLen, b_kind, b_goalSize, b_part, b_relation, b_outcome, b_val, b_len, b_neqT, b_neqU, b_neqF, b_stackGoal, b_stackFrame, b_buf, b_bufLen, b_tmp, b_base, b_baseLen, b_num, b_relevant, b_implies, b_keptAt)) :
    wY_unify_84 post J3 x1 x2 x3 (nI i) (nI (100 + w)) (nI ad) g_maxLevel g_maxCalls (nI ms) g_terms g_goals g_searching g_query g_read g_level (nI nf) g_neqs g_numbered g_kept b_termToken b_termLen b_kind b_goalSize b_part b_relation b_outcome b_val b_len b_neqT b_neqU b_neqF b_stackGoal b_stackFrame b_buf b_bufLen b_tmp b_base b_baseLen b_num b_relevant b_implies b_keptAt := by
  have hq : ∀ θ, rs_cp θ → E θ → C θ ∧ θ w = rs_s θ sub := fun θ hθ hE => rs_YU_x hY hsub hAB hθ hE
  refine br_t (nI_le (a := 100) (by omega) (by omega)) ?_
  refine yw_replace hf (by omega) hms hsub hsz hat hS (fun x hx => by rcases htok x hx with z | ⟨u, z1, z2, _⟩ <;> omega) (rs_Y_31 hY.1 hms) (rs_Y_b hY.1 hf) hV ?_ ?_
  · intro hx hsz' b_val b_len b_tmp hV'
    refine br_f (by decide) (nm_r (nI_1 i) ?_)
    exact k1 _ _ b_val b_len b_tmp (rs_YU_rep hY hσw hw hsub htok hx hsz' hq) hV' (rs_Y_rep_uk hY.1 hσw hsub htok hx (by omega))
  · intro hbad b_val b_len b_tmp
    refine br_t rfl (k0 ?_ b_val b_len b_tmp)
    rcases hbad with z | z | ⟨v, z1, z2⟩
    · rintro ⟨θ, hθ, hE, _⟩
      exact rs_YU_occ hY hq z hne θ hθ hE
    · exact rs_YU_big hY hw hq z
    · exact rs_YU_big2 hY z1 hq z2
theorem yw_unify_3 (hT : rs_TB tc ts b_termToken b_termLen) (ht : t < tc) (hu : u < tc) (htc : tc ≤ 64) (hf : f < nf) (hnf : nf ≤ 11) (hms : ms ≤ 31)
    (k1 : ∀ (σ : Nat → List Nat) (b_val b_len b_buf b_bufLen b_tmp : Nat → Int32), rs_Y ms nf E σ → rs_VA (6 * nf) σ b_val b_len → post 1 (g_maxLevel, g_maxCalls, nI ms, g_terms, g_goals, g_searching, g_query, g_read, g_level, nI nf, g_neqs, g_numbered, g_kept, b_termToken, b_termLen, b_kind, b_goalSize, b_part, b_relation, b_outcome, b_val, b_len, b_neqT, b_neqU, b_neqF, b_stackGoal, b_stackFrame, b_buf, b_bufLen, b_tmp, b_base, b_baseLen, b_num, b_relevant, b_implies, b_keptAt))
    (k0 : ¬ rs_Sat ms (6 * nf) E → ∀ (b_val b_len b_buf b_bufLen b_tmp : Nat → Int32), post 0 (g_maxLevel, g_maxCalls, nI ms, g_terms, g_goals, g_searching, g_query, g_read, g_level, nI nf, g_neqs, g_numbered, g_kept, b_termToken, b_termLen, b_kind, b_goalSize, b_part, b_relation, b_outcome, b_val, b_len, b_neqT, b_neqU, b_neqF, b_stackGoal, b_stackFrame, b_buf, b_bufLen, b_tmp, b_base, b_baseLen, b_num, b_relevant, b_implies, b_keptAt)) :
    ∀ (n i : Nat) (σ : Nat → List Nat) (C : rs_V) (b_val b_len b_buf b_bufLen b_tmp : Nat → Int32), rs_YU ms nf (rs_sh f (ts t)) (rs_sh f (ts u)) E C σ → rs_VA (6 * nf) σ b_val b_len → rs_uk σ 66 + i < 70 → rs_uk σ 66 < n → wY_unify_3 post (nI t) (nI u) (nI f) n (nI i) g_maxLevel g_maxCalls (nI ms) g_terms g_goals g_searching g_query g_read g_level (nI nf) g_neqs g_numbered g_kept b_termToken b_termLen b_kind b_goalSize b_part b_relation b_outcome b_val b_len b_neqT b_neqU b_neqF b_stackGoal b_stackFrame b_buf b_bufLen b_tmp b_base b_baseLen b_num b_relevant b_implies b_keptAt := by
  intro n
  induction n with
  | zero => intro i σ C b_val b_len b_buf b_bufLen b_tmp _ _ _ h; omega
  | succ n ih =>
    intro i σ C b_val b_len b_buf b_bufLen b_tmp hY hV hi hn
    have tA := rs_Y_val hY.1 hf (hT t ht).2.2.2.2
    have tB := rs_Y_val hY.1 hf (hT u hu).2.2.2.2
    have lA := rs_val_len (rs_Y_31 hY.1 hms) (f := f) (hT t ht).2.2.2.1 (hT t ht).2.2.1
    have lB := rs_val_len (rs_Y_31 hY.1 hms) (f := f) (hT u hu).2.2.2.1 (hT u hu).2.2.1
    have wA := rs_s_W hY.1.1 _ 1 (rs_sh_W f _ 1 (hT t ht).2.2.1)
    have wB := rs_s_W hY.1.1 _ 1 (rs_sh_W f _ 1 (hT u hu).2.2.1)
    refine br_f (nI_ge (b := 70) (by omega) (by decide)) ?_
    refine yw_difference hT ht hu htc hf hnf hV hY.1.1 (rs_Y_31 hY.1 hms) (rs_Y_b hY.1 hnf) ?_ ?_
    · intro e b_buf b_bufLen
      exact br_f (by decide) (k1 σ _ _ _ _ _ (rs_YU_done hY e) hV)
    · intro P a b A' B' eA eB hab b_buf b_bufLen hA hB
      rw [eA] at lA tA wA
      rw [eB] at lB tB wB
      have ea := rs_A_mid hA
      have eb := rs_A_mid hB
      rw [Nat.zero_add] at ea
      have lA' := lA
      have lB' := lB
      rw [List.length_append, List.length_cons] at lA' lB'
      have ha2 : a < 1000 := by
        rcases tA a (List.mem_append_right _ (List.mem_cons_self ..)) with z | ⟨w, w1, w2, _⟩ <;> omega
      have ei : 256 + nI P.length = nI (256 + P.length) := nI_add 256 P.length
      have hJ : ∀ (σ' : Nat → List Nat) (C' : rs_V) (b_val b_len b_tmp : Nat → Int32), rs_YU ms nf (rs_sh f (ts t)) (rs_sh f (ts u)) E C' σ' → rs_VA (6 * nf) σ' b_val b_len → rs_uk σ' 66 < rs_uk σ 66 → wY_unify_3 post (nI t) (nI u) (nI f) n (nI (i + 1)) g_maxLevel g_maxCalls (nI ms) g_terms g_goals g_searching g_query g_read g_level (nI nf) g_neqs g_numbered g_kept b_termToken b_termLen b_kind b_goalSize b_part b_relation b_outcome b_val b_len b_neqT b_neqU b_neqF b_stackGoal b_stackFrame b_buf b_bufLen b_tmp b_base b_baseLen b_num b_relevant b_implies b_keptAt :=
        fun σ' C' b_val b_len b_tmp h1 h2 h3 => ih (i + 1) σ' C' b_val b_len b_buf b_bufLen b_tmp h1 h2 (by omega) (by omega)
      refine br_t (nI_pos' (by omega)) ⟨vp_in_nI (by omega) (by decide), ?_⟩
      rw [nI_clamp (n := P.length) (by omega), ea, ei, nI_clamp (n := 256 + P.length) (by omega), eb]
      by_cases ha : a < 100
      · refine br_t (nI_lt (b := 100) ha (by decide)) ⟨vp_in_nI (by omega) (by decide), vp_in_nI (by omega) (by decide), ?_⟩
        rw [nI_clamp (n := P.length) (by omega), ea]
        refine br_t (nI_lt (b := 100) ha (by decide)) ?_
        rcases tB b (List.mem_append_right _ (List.mem_cons_self ..)) with z | ⟨w, w1, w2, w3⟩
        · refine br_f (nI_ge (b := 100) (by omega) (by decide)) (k0 ?_ _ _ _ _ _)
          rintro ⟨θ, hθ, hE, _⟩
          exact rs_YU_clash hY eA eB hab ha (by omega) θ hθ hE
        · subst w2
          obtain ⟨sub, rest, es, hsub⟩ := rs_W_tree wA
          have hmem : ∀ x, x ∈ sub → x ∈ P ++ a :: A' := fun x hx => List.mem_append_right _ (by rw [es]; exact List.mem_append_left _ hx)
          have hl : sub.length + rest.length = A'.length + 1 := by
            rw [← List.length_append, ← es, List.length_cons]
          refine yw_unify_84 (P := P) (A' := B') (B' := rest) hnf hms hY hV w1 w3 hsub (by omega) (by omega) ?_ (fun x hx => tA x (hmem x hx)) ?_ (Or.inr ⟨eB, by rw [eA, es]⟩) hJ (fun z _ _ _ => k0 z _ _ _ _ _)
          · rw [es] at hA
            have := rs_A_left (rs_A_right hA)
            rwa [Nat.zero_add] at this
          · intro z
            rw [z] at es
            injection es with es _
            exact hab es
      · refine br_f (nI_nlt (b := 100) (by omega) (by omega)) ⟨vp_in_nI (by omega) (by decide), vp_in_nI (by omega) (by decide), ?_⟩
        rw [nI_clamp (n := P.length) (by omega), ea, ei]
        refine br_f (nI_nlt (b := 100) (by omega) (by omega)) ?_
        rcases tA a (List.mem_append_right _ (List.mem_cons_self ..)) with z | ⟨w, w1, w2, w3⟩
        · omega
        · subst w2
          obtain ⟨sub, rest, es, hsub⟩ := rs_W_tree wB
          have hmem : ∀ x, x ∈ sub → x ∈ P ++ b :: B' := fun x hx => List.mem_append_right _ (by rw [es]; exact List.mem_append_left _ hx)
          have hl : sub.length + rest.length = B'.length + 1 := by
            rw [← List.length_append, ← es, List.length_cons]
          refine yw_unify_84 (P := P) (A' := A') (B' := rest) hnf hms hY hV w1 w3 hsub (by omega) (by omega) ?_ (fun x hx => tB x (hmem x hx)) ?_ (Or.inl ⟨eA, by rw [eB, es]⟩) hJ (fun z _ _ _ => k0 z _ _ _ _ _)
          · rw [es] at hB
            exact rs_A_left (rs_A_right hB)
          · intro z
            rw [z] at es
            injection es with es _
            exact hab es.symm
theorem yw_unify {C : rs_V} {σ : Nat → List Nat} (hT : rs_TB tc ts b_termToken b_termLen) (ht : t < tc) (hu : u < tc) (htc : tc ≤ 64) (hf : f < nf) (hnf : nf ≤ 11) (hms : ms ≤ 31) (hY : rs_Y ms nf C σ) (hV : rs_VA (6 * nf) σ b_val b_len)
    (k1 : ∀ (σ : Nat → List Nat) (b_val b_len b_buf b_bufLen b_tmp : Nat → Int32), rs_Y ms nf (rs_eqC C (rs_sh f (ts t)) (rs_sh f (ts u))) σ → rs_VA (6 * nf) σ b_val b_len → post 1 (g_maxLevel, g_maxCalls, nI ms, g_terms, g_goals, g_searching, g_query, g_read, g_level, nI nf, g_neqs, g_numbered, g_kept, b_termToken, b_termLen, b_kind, b_goalSize, b_part, b_relation, b_outcome, b_val, b_len, b_neqT, b_neqU, b_neqF, b_stackGoal, b_stackFrame, b_buf, b_bufLen, b_tmp, b_base, b_baseLen, b_num, b_relevant, b_implies, b_keptAt))
    (k0 : ¬ rs_Sat ms (6 * nf) (rs_eqC C (rs_sh f (ts t)) (rs_sh f (ts u))) → ∀ (b_val b_len b_buf b_bufLen b_tmp : Nat → Int32), post 0 (g_maxLevel, g_maxCalls, nI ms, g_terms, g_goals, g_searching, g_query, g_read, g_level, nI nf, g_neqs, g_numbered, g_kept, b_termToken, b_termLen, b_kind, b_goalSize, b_part, b_relation, b_outcome, b_val, b_len, b_neqT, b_neqU, b_neqF, b_stackGoal, b_stackFrame, b_buf, b_bufLen, b_tmp, b_base, b_baseLen, b_num, b_relevant, b_implies, b_keptAt)) :
    wpY_unify post (g_maxLevel, g_maxCalls, nI ms, g_terms, g_goals, g_searching, g_query, g_read, g_level, nI nf, g_neqs, g_numbered, g_kept, b_termToken, b_termLen, b_kind, b_goalSize, b_part, b_relation, b_outcome, b_val, b_len, b_neqT, b_neqU, b_neqF, b_stackGoal, b_stackFrame, b_buf, b_bufLen, b_tmp, b_base, b_baseLen, b_num, b_relevant, b_implies, b_keptAt) (nI t) (nI u) (nI f) := by
  have := rs_uk_le σ 66
  refine ⟨67, ?_⟩
  exact yw_unify_3 hT ht hu htc hf hnf hms k1 k0 67 0 σ C b_val b_len b_buf b_bufLen b_tmp (rs_YU_0 hY) hV (by omega) (by omega)
theorem yw_violated_2 {C : rs_V} {σ : Nat → List Nat} {ne : List (List Nat × List Nat)} (hT : rs_TB tc ts b_termToken b_termLen) (htc : tc ≤ 64) (hnf : nf ≤ 11) (hms : ms ≤ 31) (hY : rs_Y ms nf C σ) (hV : rs_VA (6 * nf) σ b_val b_len) (hN : rs_NY tc nf ts ne b_neqT b_neqU b_neqF) (hn : ne.length ≤ 24)
    (k1 : (∃ d, d ∈ ne ∧ rs_Same C d.1 d.2) → ∀ (b_buf b_bufLen : Nat → Int32), post 1 (g_maxLevel, g_maxCalls, g_maxSize, g_terms, g_goals, g_searching, g_query, g_read, g_level, g_frames, nI ne.length, g_numbered, g_kept, b_termToken, b_termLen, b_kind, b_goalSize, b_part, b_relation, b_outcome, b_val, b_len, b_neqT, b_neqU, b_neqF, b_stackGoal, b_stackFrame, b_buf, b_bufLen, b_tmp, b_base, b_baseLen, b_num, b_relevant, b_implies, b_keptAt))
    (k0 : ¬ (∃ d, d ∈ ne ∧ rs_Same C d.1 d.2) → ∀ (b_buf b_bufLen : Nat → Int32), post 0 (g_maxLevel, g_maxCalls, g_maxSize, g_terms, g_goals, g_searching, g_query, g_read, g_level, g_frames, nI ne.length, g_numbered, g_kept, b_termToken, b_termLen, b_kind, b_goalSize, b_part, b_relation, b_outcome, b_val, b_len, b_neqT, b_neqU, b_neqF, b_stackGoal, b_stackFrame, b_buf, b_bufLen, b_tmp, b_base, b_baseLen, b_num, b_relevant, b_implies, b_keptAt)) :
    ∀ (k i : Nat) (b_buf b_bufLen : Nat → Int32), i + k = ne.length → (∀ j d, j < i → ne[j]? = some d → ¬ rs_Same C d.1 d.2) → wY_violated_2 post (k + 1) (nI i) g_maxLevel g_maxCalls g_maxSize g_terms g_goals g_searching g_query g_read g_level g_frames (nI ne.length) g_numbered g_kept b_termToken b_termLen b_kind b_goalSize b_part b_relation b_outcome b_val b_len b_neqT b_neqU b_neqF b_stackGoal b_stackFrame b_buf b_bufLen b_tmp b_base b_baseLen b_num b_relevant b_implies b_keptAt := by
  intro k
  induction k with
  | zero =>
    intro i b_buf b_bufLen hi hB
    refine br_t (nI_le (by omega) (by omega)) (k0 ?_ _ _)
    rintro ⟨d, hd, hs⟩
    obtain ⟨j, hj⟩ := List.mem_iff_getElem?.mp hd
    have : j < ne.length := by
      rcases Nat.lt_or_ge j ne.length with z | z
      · exact z
      · rw [List.getElem?_eq_none z] at hj; exact absurd hj (by simp)
    exact hB j d (by omega) hj hs
  | succ k ih =>
    intro i b_buf b_bufLen hi hB
    obtain ⟨t, u, f, t1, t2, t3, e1, e2, e3, ed⟩ := hN i (by omega)
    have hsm := rs_MG_same (rs_Y_MG hY) (rs_sh f (ts t)) (rs_sh f (ts u))
    refine br_f (nI_ge (by omega) (by omega)) ⟨vp_in_nI (by omega) (by decide), vp_in_nI (by omega) (by decide), vp_in_nI (by omega) (by decide), ?_⟩
    rw [nI_clamp (n := i) (by omega), e1, e2, e3]
    refine yw_difference hT t1 t2 htc t3 hnf hV hY.1 (rs_Y_31 hY hms) (rs_Y_b hY hnf) ?_ ?_
    · intro e b_buf b_bufLen
      exact br_f (by decide) (k1 ⟨_, List.mem_iff_getElem?.mpr ⟨i, ed⟩, hsm.mpr e⟩ _ _)
    · intro P a b A' B' eA eB hab b_buf b_bufLen _ _
      have hl : P.length ≤ 255 := by
        have := rs_val_len (rs_Y_31 hY hms) (f := f) (hT t t1).2.2.2.1 (hT t t1).2.2.1
        rw [eA, List.length_append] at this
        omega
      refine br_t (nI_pos' (by omega)) (nm_r (nI_1 i) ?_)
      refine ih (i + 1) b_buf b_bufLen (by omega) (fun j d hj hd => ?_)
      by_cases e : j = i
      · subst e
        rw [ed] at hd
        injection hd with hd
        rw [← hd]
        show ¬ rs_Same C (rs_sh f (ts t)) (rs_sh f (ts u))
        rw [hsm, eA, eB]
        intro z
        have z := List.append_cancel_left z
        injection z with z _
        exact hab z
      · exact hB j d (by omega) hd
theorem yw_violated {C : rs_V} {σ : Nat → List Nat} {ne : List (List Nat × List Nat)} (hT : rs_TB tc ts b_termToken b_termLen) (htc : tc ≤ 64) (hnf : nf ≤ 11) (hms : ms ≤ 31) (hY : rs_Y ms nf C σ) (hV : rs_VA (6 * nf) σ b_val b_len) (hN : rs_NY tc nf ts ne b_neqT b_neqU b_neqF) (hn : ne.length ≤ 24)
    (k1 : (∃ d, d ∈ ne ∧ rs_Same C d.1 d.2) → ∀ (b_buf b_bufLen : Nat → Int32), post 1 (g_maxLevel, g_maxCalls, g_maxSize, g_terms, g_goals, g_searching, g_query, g_read, g_level, g_frames, nI ne.length, g_numbered, g_kept, b_termToken, b_termLen, b_kind, b_goalSize, b_part, b_relation, b_outcome, b_val, b_len, b_neqT, b_neqU, b_neqF, b_stackGoal, b_stackFrame, b_buf, b_bufLen, b_tmp, b_base, b_baseLen, b_num, b_relevant, b_implies, b_keptAt))
    (k0 : ¬ (∃ d, d ∈ ne ∧ rs_Same C d.1 d.2) → ∀ (b_buf b_bufLen : Nat → Int32), post 0 (g_maxLevel, g_maxCalls, g_maxSize, g_terms, g_goals, g_searching, g_query, g_read, g_level, g_frames, nI ne.length, g_numbered, g_kept, b_termToken, b_termLen, b_kind, b_goalSize, b_part, b_relation, b_outcome, b_val, b_len, b_neqT, b_neqU, b_neqF, b_stackGoal, b_stackFrame, b_buf, b_bufLen, b_tmp, b_base, b_baseLen, b_num, b_relevant, b_implies, b_keptAt)) :
    wpY_violated post (g_maxLevel, g_maxCalls, g_maxSize, g_terms, g_goals, g_searching, g_query, g_read, g_level, g_frames, nI ne.length, g_numbered, g_kept, b_termToken, b_termLen, b_kind, b_goalSize, b_part, b_relation, b_outcome, b_val, b_len, b_neqT, b_neqU, b_neqF, b_stackGoal, b_stackFrame, b_buf, b_bufLen, b_tmp, b_base, b_baseLen, b_num, b_relevant, b_implies, b_keptAt) :=
  ⟨ne.length + 1, yw_violated_2 hT htc hnf hms hY hV hN hn k1 k0 ne.length 0 b_buf b_bufLen (by omega) (fun j d hj => absurd hj (by omega))⟩
theorem yw_fresh {post : SY → Prop} {v : Nat} (hv : v < 66) (h : post (g_maxLevel, g_maxCalls, g_maxSize, g_terms, g_goals, g_searching, g_query, g_read, g_level, g_frames, g_neqs, g_numbered, g_kept, b_termToken, b_termLen, b_kind, b_goalSize, b_part, b_relation, b_outcome, upd b_val (31 * v) (nI (100 + v)), upd b_len v 1, b_neqT, b_neqU, b_neqF, b_stackGoal, b_stackFrame, b_buf, b_bufLen, b_tmp, b_base, b_baseLen, b_num, b_relevant, b_implies, b_keptAt)) : wpY_fresh post (g_maxLevel, g_maxCalls, g_maxSize, g_terms, g_goals, g_searching, g_query, g_read, g_level, g_frames, g_neqs, g_numbered, g_kept, b_termToken, b_termLen, b_kind, b_goalSize, b_part, b_relation, b_outcome, b_val, b_len, b_neqT, b_neqU, b_neqF, b_stackGoal, b_stackFrame, b_buf, b_bufLen, b_tmp, b_base, b_baseLen, b_num, b_relevant, b_implies, b_keptAt) (nI v) := by
  unfold wpY_fresh
  dsimp only
  have e1 : 100 + nI v = nI (100 + v) := nI_add 100 v
  rw [rs_n31', e1]
  exact ⟨vp_in_nI (by omega) (by decide), nm_r (e' := upd b_val (31 * v) (nI (100 + v))) (by rw [nI_clamp (by omega)]) ⟨vp_in_nI hv (by decide), nm_r (e' := upd b_len v 1) (by rw [nI_clamp (by omega)]) h⟩⟩
end
end
section
/-! the reference: a call -/
/-- the values with a new frame whose first k variables are set -/
def rs_nw (σ : Nat → List Nat) (n : Nat) (B1 B2 B3 : List Nat) : Nat → List Nat := fun v => if v = n then B1 else if v = n + 1 then B2 else if v = n + 2 then B3 else σ v
theorem rs_nw_0 {σ : Nat → List Nat} {n : Nat} {B1 B2 B3 : List Nat} : rs_nw σ n B1 B2 B3 n = B1 := if_pos rfl
theorem rs_nw_1 {σ : Nat → List Nat} {n : Nat} {B1 B2 B3 : List Nat} : rs_nw σ n B1 B2 B3 (n + 1) = B2 := by
  unfold rs_nw
  rw [if_neg (by omega), if_pos rfl]
theorem rs_nw_2 {σ : Nat → List Nat} {n : Nat} {B1 B2 B3 : List Nat} : rs_nw σ n B1 B2 B3 (n + 2) = B3 := by
  unfold rs_nw
  rw [if_neg (by omega), if_neg (by omega), if_pos rfl]
theorem rs_nw_o {σ : Nat → List Nat} {n v : Nat} {B1 B2 B3 : List Nat} (h : v < n ∨ n + 3 ≤ v) : rs_nw σ n B1 B2 B3 v = σ v := by
  unfold rs_nw
  rw [if_neg (by omega), if_neg (by omega), if_neg (by omega)]
theorem rs_nw_all {σ : Nat → List Nat} {n : Nat} {B1 B2 B3 : List Nat} {Q : Nat → List Nat → Prop} (h0 : Q n B1) (h1 : Q (n + 1) B2) (h2 : Q (n + 2) B3) (h : ∀ v, (v < n ∨ n + 3 ≤ v) → Q v (σ v)) (v : Nat) : Q v (rs_nw σ n B1 B2 B3 v) := by
  by_cases e0 : v = n
  · subst e0; rw [rs_nw_0]; exact h0
  · by_cases e1 : v = n + 1
    · subst e1; rw [rs_nw_1]; exact h1
    · by_cases e2 : v = n + 2
      · subst e2; rw [rs_nw_2]; exact h2
      · rw [rs_nw_o (by omega)]; exact h v (by omega)
theorem rs_Y_call {ms nf : Nat} {C : rs_V} {σ : Nat → List Nat} (h : rs_Y ms nf C σ) (h1 : 1 ≤ ms) {A1 A2 A3 : List Nat} (w1 : rs_W 1 A1) (w2 : rs_W 1 A2) (w3 : rs_W 1 A3)
    (t1 : ∀ t, t ∈ rs_s σ A1 → t < 17 ∨ ∃ u, u < 6 * nf ∧ t = 100 + u ∧ σ u = [100 + u]) (t2 : ∀ t, t ∈ rs_s σ A2 → t < 17 ∨ ∃ u, u < 6 * nf ∧ t = 100 + u ∧ σ u = [100 + u]) (t3 : ∀ t, t ∈ rs_s σ A3 → t < 17 ∨ ∃ u, u < 6 * nf ∧ t = 100 + u ∧ σ u = [100 + u])
    (l1 : (rs_s σ A1).length ≤ ms) (l2 : (rs_s σ A2).length ≤ ms) (l3 : (rs_s σ A3).length ≤ ms) : rs_Y ms (nf + 1) (rs_callC C (6 * nf) A1 A2 A3) (rs_nw σ (6 * nf) (rs_s σ A1) (rs_s σ A2) (rs_s σ A3)) := by
  have tok : ∀ t, (t < 17 ∨ ∃ u, u < 6 * nf ∧ t = 100 + u ∧ σ u = [100 + u]) → t < 17 ∨ ∃ u, u < 6 * (nf + 1) ∧ t = 100 + u ∧ rs_nw σ (6 * nf) (rs_s σ A1) (rs_s σ A2) (rs_s σ A3) u = [100 + u] := by
    rintro t (z | ⟨u, z1, z2, z3⟩)
    · exact Or.inl z
    · exact Or.inr ⟨u, by omega, z2, by rw [rs_nw_o (Or.inl z1)]; exact z3⟩
  refine ⟨?_, ?_, ?_, ?_, ?_⟩
  · exact rs_nw_all (Q := fun _ l => rs_W 1 l) (rs_s_W h.1 _ 1 w1) (rs_s_W h.1 _ 1 w2) (rs_s_W h.1 _ 1 w3) (fun v _ => h.1 v)
  · intro v hv
    rw [rs_nw_o (by omega)]
    exact h.2.1 v (by omega)
  · intro v _
    refine rs_nw_all (Q := fun _ l => l.length ≤ ms) l1 l2 l3 (fun v _ => ?_) v
    by_cases z : v < 6 * nf
    · exact h.2.2.1 v z
    · rw [h.2.1 v (by omega)]; exact h1
  · intro v t hv
    refine rs_nw_all (Q := fun v l => v < 6 * (nf + 1) → t ∈ l → t < 17 ∨ ∃ u, u < 6 * (nf + 1) ∧ t = 100 + u ∧ rs_nw σ (6 * nf) (rs_s σ A1) (rs_s σ A2) (rs_s σ A3) u = [100 + u]) (fun _ z => tok t (t1 t z)) (fun _ z => tok t (t2 t z)) (fun _ z => tok t (t3 t z)) (fun v hv hv6 z => ?_) v hv
    by_cases y : v < 6 * nf
    · exact tok t (h.2.2.2.1 v t y z)
    · rw [h.2.1 v (by omega), List.mem_singleton] at z
      exact Or.inr ⟨v, hv6, z, by rw [rs_nw_o hv]; exact h.2.1 v (by omega)⟩
  · intro θ hθ
    constructor
    · rintro ⟨hC, e1, e2, e3⟩
      have hs := fun l => rs_MG_s (rs_Y_MG h) hθ hC l
      exact rs_nw_all (Q := fun v l => θ v = rs_s θ l) (by rw [hs]; exact e1) (by rw [hs]; exact e2) (by rw [hs]; exact e3) (fun v _ => (h.2.2.2.2 θ hθ).mp hC v)
    · intro hv
      have hC : C θ := by
        refine (h.2.2.2.2 θ hθ).mpr (fun v => ?_)
        by_cases z : v < 6 * nf
        · have := hv v
          rwa [rs_nw_o (Or.inl z)] at this
        · rw [h.2.1 v (by omega), rs_s_1]
      have hs := fun l => rs_MG_s (rs_Y_MG h) hθ hC l
      refine ⟨hC, ?_, ?_, ?_⟩
      · have := hv (6 * nf)
        rwa [rs_nw_0, hs] at this
      · have := hv (6 * nf + 1)
        rwa [rs_nw_1, hs] at this
      · have := hv (6 * nf + 2)
        rwa [rs_nw_2, hs] at this
theorem rs_Y_callbig {ms nf k : Nat} {C : rs_V} {σ : Nat → List Nat} (h : rs_Y ms nf C σ) {A1 A2 A3 A : List Nat} (hk : (k = 0 ∧ A = A1) ∨ (k = 1 ∧ A = A2) ∨ (k = 2 ∧ A = A3)) (l : ms < (rs_s σ A).length) : ¬ rs_Sat ms (6 * (nf + 1)) (rs_callC C (6 * nf) A1 A2 A3) := by
  rintro ⟨θ, hθ, ⟨hC, e1, e2, e3⟩, hl⟩
  have e : θ (6 * nf + k) = rs_s θ A := by
    rcases hk with ⟨z1, z2⟩ | ⟨z1, z2⟩ | ⟨z1, z2⟩
    · rw [z1, z2]; exact e1
    · rw [z1, z2]; exact e2
    · rw [z1, z2]; exact e3
  have h1 := hl (6 * nf + k) (by omega)
  rw [e, ← rs_MG_s (rs_Y_MG h) hθ hC A] at h1
  have := rs_s_len hθ (rs_s σ A)
  omega
def rs_YR (tc : Nat) (ts : Nat → List Nat) (ms : Nat) (C : rs_V) (nf : Nat) (ne : List (List Nat × List Nat)) (g_frames g_neqs : Int32) (b_val b_len b_neqT b_neqU b_neqF : Nat → Int32) : Prop :=
  ∃ σ, g_frames = nI nf ∧ g_neqs = nI ne.length ∧ rs_Y ms nf C σ ∧ rs_VA (6 * nf) σ b_val b_len ∧ ne.length ≤ 24 ∧ rs_NY tc nf ts ne b_neqT b_neqU b_neqF
/-- goals of the reference -/
def rs_GB (gc : Nat) (G : rs_G) (kd pt rl : Nat → Int32) : Prop :=
  (∀ g, g < gc → kd g = nI (G.1 g) ∧ pt (4 * g) = nI (G.2.1 g) ∧ pt (4 * g + 1) = nI (G.2.2.1 g) ∧ pt (4 * g + 2) = nI (G.2.2.2.1 g) ∧ pt (4 * g + 3) = nI (G.2.2.2.2.1 g)) ∧
  ∀ r, r < 8 → (G.2.2.2.2.2.2.1 r = none ∧ rl r = -1) ∨ ∃ b, G.2.2.2.2.2.2.1 r = some b ∧ rl r = nI b
section
variable {g_maxLevel g_maxCalls g_maxSize g_terms g_goals g_searching g_query g_read g_level g_frames g_neqs g_numbered g_kept : Int32} {b_termToken b_termLen b_kind b_goalSize b_part b_relation b_outcome b_val b_len b_neqT b_neqU b_neqF b_stackGoal b_stackFrame b_buf b_bufLen b_tmp b_base b_baseLen b_num b_relevant b_implies b_keptAt : Nat → Int32}
variable {tc gc nf ms mc lf g f p q : Nat} {ts : Nat → List Nat} {C : rs_V} {ne : List (List Nat × List Nat)} {st : List (Nat × Nat)} {G : rs_G} {post : Int32 → SY → Prop}
theorem yw_run_415 {J75 : Int32 → Int32 → Int32 → Int32 → Int32 → Int32 → Int32 → Int32 → Int32 → Int32 → Int32 → Int32 → Int32 → Int32 → Int32 → Int32 → (Nat → Int32) → (Nat → Int32) → (Nat → Int32) → (Nat → Int32) → (Nat → Int32) → (Nat → Int32) → (Nat → Int32) → (Nat → Int32) → (Nat → Int32) → (Nat → Int32) → (Nat → Int32) → (Nat → Int32) → (Nat → Int32) → (Nat → Int32) → (Nat → Int32) → (Nat → Int32) → (Nat → Int32) → (Nat → Int32) → (Nat → Int32) → (Nat → Int32) → (Nat → Int32) → (Nat → Int32) → (Nat → Int32) → Prop} {J360 : Int32 → Int32 → Int32 → Int32 → Int32 → Int32 → Int32 → Int32 → Int32 → Int32 → Int32 → Int32 → Int32 → Int32 → (Nat → Int32) → (Nat → Int32) → (Nat → Int32) → (Nat → Int32) → (Nat → Int32) → (Nat → Int32) → (Nat → Int32) → (Nat → Int32) → (Nat → Int32) → (Nat → Int32) → (Nat → Int32) → (Nat → Int32) → (Nat → Int32) → (Nat → Int32) → (Nat → Int32) → (Nat → Int32) → (Nat → Int32) → (Nat → Int32) → (Nat → Int32) → (Nat → Int32) → (Nat → Int32) → (Nat → Int32) → (Nat → Int32) → Prop} {x1 x2 x3 x4 x5 x7 x8 : Int32} {i v n : Nat} (hv : v + 3 < 66) (hn : n ≤ 31) (hl : b_bufLen 0 = nI n)
    (k : J360 (nI (i + 1)) g_maxLevel g_maxCalls g_maxSize g_terms g_goals g_searching g_query g_read g_level g_frames g_neqs g_numbered g_kept b_termToken b_termLen b_kind b_goalSize b_part b_relation b_outcome (upd (rs_cy b_val (31 * v) b_buf 0 n) (31 * (v + 3)) (nI (100 + (v + 3)))) (upd (upd b_len v (nI n)) (v + 3) 1) b_neqT b_neqU b_neqF b_stackGoal b_stackFrame b_buf b_bufLen b_tmp b_base b_baseLen b_num b_relevant b_implies b_keptAt) :
    ∀ (d j : Nat) (b1 : Nat → Int32), j + d = n → b1 = rs_cy b_val (31 * v) b_buf 0 j → wY_run_415 post J75 J360 x1 x2 x3 x4 x5 x7 x8 (nI i) (nI v) g_maxLevel g_maxCalls g_maxSize g_terms g_goals g_searching g_query g_read g_level g_frames g_neqs g_numbered g_kept (d + 1) (nI j) b_termToken b_termLen b_kind b_goalSize b_part b_relation b_outcome b1 b_len b_neqT b_neqU b_neqF b_stackGoal b_stackFrame b_buf b_bufLen b_tmp b_base b_baseLen b_num b_relevant b_implies b_keptAt := by
  intro d
  induction d with
  | zero =>
    intro j b1 hj hb
    obtain rfl : j = n := by omega
    subst hb
    have e3 : nI v + 3 = nI (v + 3) := nI_add v 3
    refine br_t (by rw [hl]; exact nI_le (Nat.le_refl _) (by omega)) ⟨vp_in_nI (by omega) (by decide), nm_r (e' := upd b_len v (nI j)) (by rw [nI_clamp (by omega), hl]) ?_⟩
    rw [e3]
    exact yw_fresh (by omega) (nm_r (nI_1 i) k)
  | succ d ih =>
    intro j b1 hj hb
    refine br_f (by rw [hl]; exact nI_ge (by omega) (by omega)) ⟨vp_in_nI (by omega) (by decide), ?_⟩
    rw [rs_n31]
    refine ⟨vp_in_nI (by omega) (by decide), nm_r (e' := rs_cy b_val (31 * v) b_buf 0 (j + 1)) ?_ (nm_r (nI_1 j) (ih (j + 1) _ (by omega) rfl))⟩
    rw [nI_clamp (n := 31 * v + j) (by omega), nI_clamp (n := j) (by omega), ← rs_cy_s, Nat.zero_add, hb]
/-- a new frame while it is filled -/
def rs_Q (nf ms : Nat) (σ : Nat → List Nat) (BB : Nat → List Nat) (val len : Nat → Int32) (i : Nat) : Prop :=
  rs_VA (6 * nf) σ val len ∧ ∀ k, k < i → len (6 * nf + k) = nI (BB k).length ∧ rs_A val (31 * (6 * nf + k)) (BB k) ∧ (BB k).length ≤ ms ∧ len (6 * nf + k + 3) = 1 ∧ val (31 * (6 * nf + k + 3)) = nI (100 + (6 * nf + k + 3))
theorem rs_Q_s {nf ms : Nat} {σ BB : Nat → List Nat} {val len buf : Nat → Int32} {i : Nat} (h : rs_Q nf ms σ BB val len i) (hi : i < 3) (hms : ms ≤ 31) (hB : rs_A buf 0 (BB i)) (hl : (BB i).length ≤ ms) :
    rs_Q nf ms σ BB (upd (rs_cy val (31 * (6 * nf + i)) buf 0 (BB i).length) (31 * (6 * nf + i + 3)) (nI (100 + (6 * nf + i + 3)))) (upd (upd len (6 * nf + i) (nI (BB i).length)) (6 * nf + i + 3) 1) (i + 1) := by
  obtain ⟨hV, hQ⟩ := h
  refine ⟨?_, ?_⟩
  · intro v hv
    obtain ⟨a1, a2, a3⟩ := hV v hv
    refine ⟨(if_neg (by omega)).trans ((if_neg (by omega)).trans a1), ?_, a3⟩
    exact rs_A_keep a2 (fun j j1 j2 => (if_neg (by omega)).trans (rs_cy_out (by omega)))
  · intro k hk
    by_cases e : k = i
    · subst e
      refine ⟨(if_neg (by omega)).trans (if_pos rfl), ?_, hl, if_pos rfl, if_pos rfl⟩
      exact rs_A_keep (rs_cy_A hB) (fun j j1 j2 => if_neg (by omega))
    · obtain ⟨a1, a2, a3, a4, a5⟩ := hQ k (by omega)
      refine ⟨(if_neg (by omega)).trans ((if_neg (by omega)).trans a1), ?_, a3, (if_neg (by omega)).trans ((if_neg (by omega)).trans a4), (if_neg (by omega)).trans ((rs_cy_out (by omega)).trans a5)⟩
      exact rs_A_keep a2 (fun j j1 j2 => (if_neg (by omega)).trans (rs_cy_out (by omega)))
theorem rs_Q_VA {nf ms : Nat} {C : rs_V} {σ BB : Nat → List Nat} {val len : Nat → Int32} (hY : rs_Y ms nf C σ) (hms : ms ≤ 31) (h : rs_Q nf ms σ BB val len 3) : rs_VA (6 * (nf + 1)) (rs_nw σ (6 * nf) (BB 0) (BB 1) (BB 2)) val len := by
  obtain ⟨hV, hQ⟩ := h
  have q : ∀ k, k < 3 → len (6 * nf + k) = nI (BB k).length ∧ rs_A val (31 * (6 * nf + k)) (BB k) ∧ (BB k).length ≤ 31 := by
    intro k hk
    obtain ⟨a1, a2, a3, _, _⟩ := hQ k hk
    exact ⟨a1, a2, by omega⟩
  intro v hv
  refine rs_nw_all (Q := fun v l => v < 6 * (nf + 1) → len v = nI l.length ∧ rs_A val (31 * v) l ∧ l.length ≤ 31) (fun _ => q 0 (by omega)) (fun _ => q 1 (by omega)) (fun _ => q 2 (by omega)) (fun v hv hv6 => ?_) v hv
  by_cases z : v < 6 * nf
  · exact hV v z
  · obtain ⟨_, _, _, a4, a5⟩ := hQ (v - 6 * nf - 3) (by omega)
    rw [show 6 * nf + (v - 6 * nf - 3) + 3 = v by omega] at a4 a5
    rw [hY.2.1 v (by omega)]
    exact ⟨a4, rs_A_one a5, by simp⟩
theorem yw_run_360 {J75 : Int32 → Int32 → Int32 → Int32 → Int32 → Int32 → Int32 → Int32 → Int32 → Int32 → Int32 → Int32 → Int32 → Int32 → Int32 → Int32 → (Nat → Int32) → (Nat → Int32) → (Nat → Int32) → (Nat → Int32) → (Nat → Int32) → (Nat → Int32) → (Nat → Int32) → (Nat → Int32) → (Nat → Int32) → (Nat → Int32) → (Nat → Int32) → (Nat → Int32) → (Nat → Int32) → (Nat → Int32) → (Nat → Int32) → (Nat → Int32) → (Nat → Int32) → (Nat → Int32) → (Nat → Int32) → (Nat → Int32) → (Nat → Int32) → (Nat → Int32) → (Nat → Int32) → Prop} {x1 x2 : Int32} {top x4 r b : Nat} {σ : Nat → List Nat} {pp : Nat → Nat} (hT : rs_TB tc ts b_termToken b_termLen) (htc : tc ≤ 64) (hf : f < nf) (hnf : nf ≤ 10) (hms : ms ≤ 31) (hY : rs_Y ms nf C σ) (hg : g < 48) (hpp : ∀ i, i < 3 → b_part (4 * g + 1 + i) = nI (pp i) ∧ pp i < tc) (hr : r < 8) (hb : b_relation r = nI b) (htop : top < 256)
    (k1 : ∀ (b_val b_len b_buf b_bufLen : Nat → Int32), rs_Q nf ms σ (fun i => rs_s σ (rs_sh f (ts (pp i)))) b_val b_len 3 → J75 x2 (nI (top + 1)) (nI (x4 + 1)) g_maxLevel g_maxCalls (nI ms) g_terms g_goals g_searching g_query g_read g_level (nI (nf + 1)) g_neqs g_numbered g_kept b_termToken b_termLen b_kind b_goalSize b_part b_relation b_outcome b_val b_len b_neqT b_neqU b_neqF (upd b_stackGoal top (nI b)) (upd b_stackFrame top (nI nf)) b_buf b_bufLen b_tmp b_base b_baseLen b_num b_relevant b_implies b_keptAt)
    (k0 : ∀ i, i < 3 → ms < (rs_s σ (rs_sh f (ts (pp i)))).length → ∀ (b_val b_len b_buf b_bufLen : Nat → Int32), post 2 (g_maxLevel, g_maxCalls, nI ms, g_terms, g_goals, g_searching, g_query, g_read, g_level, nI nf, g_neqs, g_numbered, g_kept, b_termToken, b_termLen, b_kind, b_goalSize, b_part, b_relation, b_outcome, b_val, b_len, b_neqT, b_neqU, b_neqF, b_stackGoal, b_stackFrame, b_buf, b_bufLen, b_tmp, b_base, b_baseLen, b_num, b_relevant, b_implies, b_keptAt)) :
    ∀ (d i : Nat) (b_val b_len b_buf b_bufLen : Nat → Int32), i + d = 3 → rs_Q nf ms σ (fun i => rs_s σ (rs_sh f (ts (pp i)))) b_val b_len i → wY_run_360 post J75 x1 x2 (nI top) (nI x4) (nI f) (nI (4 * g)) (nI r) (d + 1) (nI i) g_maxLevel g_maxCalls (nI ms) g_terms g_goals g_searching g_query g_read g_level (nI nf) g_neqs g_numbered g_kept b_termToken b_termLen b_kind b_goalSize b_part b_relation b_outcome b_val b_len b_neqT b_neqU b_neqF b_stackGoal b_stackFrame b_buf b_bufLen b_tmp b_base b_baseLen b_num b_relevant b_implies b_keptAt := by
  have e6 : nI nf * 6 = nI (6 * nf) := by rw [show (6 : Int32) = nI 6 from rfl, pk_mul, Nat.mul_comm]
  intro d
  induction d with
  | zero =>
    intro i b_val b_len b_buf b_bufLen hi hQ
    obtain rfl : i = 3 := by omega
    refine br_t (by decide) ⟨vp_in_nI hr (by decide), ?_⟩
    rw [nI_clamp (n := r) (by omega), hb]
    exact ⟨vp_in_nI htop (by decide), nm_r (e' := upd b_stackGoal top (nI b)) (by rw [nI_clamp (by omega)]) ⟨vp_in_nI htop (by decide), nm_r (e' := upd b_stackFrame top (nI nf)) (by rw [nI_clamp (by omega)]) (nm_r (nI_1 top) (nm_r (nI_1 nf) (nm_r (nI_1 x4) (k1 _ _ _ _ hQ))))⟩⟩
  | succ d ih =>
    intro i b_val b_len b_buf b_bufLen hi hQ
    obtain ⟨hp1, hp2⟩ := hpp i (by omega)
    have e1 : nI (4 * g) + 1 + nI i = nI (4 * g + 1 + i) := by rw [nI_1, nI_add]
    refine br_f (nI_ge (b := 3) (by omega) (by decide)) (nm_r (e' := nI (6 * nf + i)) (by rw [e6, nI_add]) ?_)
    rw [e1]
    refine ⟨vp_in_nI (by omega) (by decide), ?_⟩
    rw [nI_clamp (n := 4 * g + 1 + i) (by omega), hp1]
    have l255 := rs_val_len (rs_Y_31 hY hms) (f := f) (hT _ hp2).2.2.2.1 (hT _ hp2).2.2.1
    refine yw_value (sd := 0) hT hp2 htc hf (by omega) hQ.1 (by omega) (rs_Y_31 hY hms) (fun b_buf' hA _ => ?_)
    have el : upd b_bufLen 0 (nI (rs_s σ (rs_sh f (ts (pp i)))).length) 0 = nI (rs_s σ (rs_sh f (ts (pp i)))).length := if_pos rfl
    by_cases z : (rs_s σ (rs_sh f (ts (pp i)))).length ≤ ms
    · refine br_t (by rw [el]; exact nI_le z (by omega)) ⟨(rs_s σ (rs_sh f (ts (pp i)))).length + 1, ?_⟩
      exact yw_run_415 (by omega) (by omega) el (ih (i + 1) _ _ _ _ (by omega) (rs_Q_s hQ (by omega) hms hA z)) (rs_s σ (rs_sh f (ts (pp i)))).length 0 b_val (by omega) rs_cy_0.symm
    · exact br_f (by rw [el]; exact nI_ge (by omega) (by omega)) (k0 i (by omega) (by omega) _ _ _ _)
theorem yw_run_75 (hT : rs_TB tc ts b_termToken b_termLen) (hG : rs_GB gc G b_kind b_part b_relation) (hGX : rs_GX tc gc G) (htc : tc ≤ 64) (hgc : gc ≤ 48) (ems : G.2.2.2.2.2.2.2.2 = ms) (emc : G.2.2.2.2.2.2.2.1 = mc) (hp : p < 256) :
    ∀ (n i j : Nat) (C : rs_V) (nf : Nat) (ne : List (List Nat × List Nat)) (st : List (Nat × Nat)) (lf : Nat) (g_frames g_neqs : Int32) (b_val b_len b_neqT b_neqU b_neqF b_stackGoal b_stackFrame b_buf b_bufLen b_tmp : Nat → Int32), rs_RI gc G n nf st → n + i ≤ 165 → n < j → lf ≤ 30 → rs_YR tc ts ms C nf ne g_frames g_neqs b_val b_len b_neqT b_neqU b_neqF → rs_SK b_stackGoal b_stackFrame st →
      (∀ (g_frames g_neqs : Int32) (b_val b_len b_neqT b_neqU b_neqF b_stackGoal b_stackFrame b_buf b_bufLen b_tmp : Nat → Int32), ((rs_run ts G p n C nf ne st lf).1 = 1 → rs_YR tc ts ms (rs_run ts G p n C nf ne st lf).2.1 (rs_run ts G p n C nf ne st lf).2.2.1 (rs_run ts G p n C nf ne st lf).2.2.2.1 g_frames g_neqs b_val b_len b_neqT b_neqU b_neqF) → post (nI (rs_run ts G p n C nf ne st lf).1) (g_maxLevel, nI mc, nI ms, g_terms, g_goals, g_searching, g_query, g_read, g_level, g_frames, g_neqs, g_numbered, g_kept, b_termToken, b_termLen, b_kind, b_goalSize, b_part, b_relation, b_outcome, b_val, b_len, b_neqT, b_neqU, b_neqF, b_stackGoal, b_stackFrame, b_buf, b_bufLen, b_tmp, b_base, b_baseLen, b_num, b_relevant, b_implies, b_keptAt)) →
      wY_run_75 post (nI p) j (nI lf) (nI st.length) (nI i) g_maxLevel (nI mc) (nI ms) g_terms g_goals g_searching g_query g_read g_level g_frames g_neqs g_numbered g_kept b_termToken b_termLen b_kind b_goalSize b_part b_relation b_outcome b_val b_len b_neqT b_neqU b_neqF b_stackGoal b_stackFrame b_buf b_bufLen b_tmp b_base b_baseLen b_num b_relevant b_implies b_keptAt := by
  intro n
  induction n with
  | zero =>
    intro i j C nf ne st lf g_frames g_neqs b_val b_len b_neqT b_neqU b_neqF b_stackGoal b_stackFrame b_buf b_bufLen b_tmp hRI hi hj hlf hYR hSK k
    obtain ⟨j, rfl⟩ : ∃ m, j = m + 1 := ⟨j - 1, by omega⟩
    have hst : st = [] := by
      have h1 := rs_ms_len hGX hRI.2.2.1
      have h2 := hRI.2.2.2
      cases st with
      | nil => rfl
      | cons a l => rw [List.length_cons] at h1; omega
    subst hst
    exact br_f (nI_ge (b := 200) (by omega) (by decide)) (br_t (by decide) (k _ _ _ _ _ _ _ _ _ _ _ _ (fun _ => hYR)))
  | succ n ih =>
    intro i j C nf ne st lf g_frames g_neqs b_val b_len b_neqT b_neqU b_neqF b_stackGoal b_stackFrame b_buf b_bufLen b_tmp hRI hi hj hlf hYR hSK k
    obtain ⟨j, rfl⟩ : ∃ m, j = m + 1 := ⟨j - 1, by omega⟩
    cases st with
    | nil => exact br_f (nI_ge (b := 200) (by omega) (by decide)) (br_t (by decide) (k _ _ _ _ _ _ _ _ _ _ _ _ (fun _ => hYR)))
    | cons gf st =>
      obtain ⟨g, f⟩ := gf
      obtain ⟨σ, rfl, rfl, hY, hV, hn24, hN⟩ := hYR
      obtain ⟨sA, sB, hSK⟩ := hSK
      have hlen := rs_ms_len hGX hRI.2.2.1
      have hRI4 := hRI.2.2.2
      have hRI2 := hRI.2.1
      obtain ⟨hg, hf⟩ := hRI.2.2.1 (g, f) (List.mem_cons_self ..)
      have hg : g < gc := hg
      have hf : f < nf := hf
      obtain ⟨hA, hB, m1, m2, m3, m4⟩ := hGX
      obtain ⟨s1, s2, hk⟩ := hA g hg
      obtain ⟨e0, e1, e2, e3, e4⟩ := hG.1 g hg
      rw [emc] at hRI2 m2
      rw [ems] at m3 m4
      rw [List.length_cons] at hlen ⊢
      have hperf := fun C' nf' ne' st' lf' (e : (rs_perf ts G p g f C nf ne st lf) = (0, (C', nf', ne', st', lf'))) => (show rs_RI gc G n nf' st' by
        have := rs_perf_RI (ts := ts) (p := p) (C := C) (ne := ne) (lf := lf) ⟨hA, hB, m1, by omega, by omega, by omega⟩ hRI (by rw [e])
        rw [e] at this
        exact this)
      unfold rs_run at k
      have go : ∀ C' nf' ne' st' lf' , (rs_perf ts G p g f C nf ne st lf) = (0, (C', nf', ne', st', lf')) → lf' ≤ 30 → ∀ (g_frames g_neqs : Int32) (b_val b_len b_neqT b_neqU b_neqF b_stackGoal b_stackFrame b_buf b_bufLen b_tmp : Nat → Int32), rs_YR tc ts ms C' nf' ne' g_frames g_neqs b_val b_len b_neqT b_neqU b_neqF → rs_SK b_stackGoal b_stackFrame st' → wY_run_75 post (nI p) j (nI lf') (nI st'.length) (nI (i + 1)) g_maxLevel (nI mc) (nI ms) g_terms g_goals g_searching g_query g_read g_level g_frames g_neqs g_numbered g_kept b_termToken b_termLen b_kind b_goalSize b_part b_relation b_outcome b_val b_len b_neqT b_neqU b_neqF b_stackGoal b_stackFrame b_buf b_bufLen b_tmp b_base b_baseLen b_num b_relevant b_implies b_keptAt := by
        intro C' nf' ne' st' lf' e hlf' g_frames g_neqs b_val b_len b_neqT b_neqU b_neqF b_stackGoal b_stackFrame b_buf b_bufLen b_tmp hYR' hSK'
        refine ih (i + 1) j C' nf' ne' st' lf' _ _ _ _ _ _ _ _ _ _ _ _ (hperf _ _ _ _ _ e) (by omega) (by omega) hlf' hYR' hSK' ?_
        rw [e, if_pos rfl] at k
        exact k
      have stop : ∀ o, o ≠ 0 → o ≠ 1 → (rs_perf ts G p g f C nf ne st lf).1 = o → ∀ (g_frames g_neqs : Int32) (b_val b_len b_neqT b_neqU b_neqF b_stackGoal b_stackFrame b_buf b_bufLen b_tmp : Nat → Int32), post (nI o) (g_maxLevel, nI mc, nI ms, g_terms, g_goals, g_searching, g_query, g_read, g_level, g_frames, g_neqs, g_numbered, g_kept, b_termToken, b_termLen, b_kind, b_goalSize, b_part, b_relation, b_outcome, b_val, b_len, b_neqT, b_neqU, b_neqF, b_stackGoal, b_stackFrame, b_buf, b_bufLen, b_tmp, b_base, b_baseLen, b_num, b_relevant, b_implies, b_keptAt) := by
        intro o ho ho1 e g_frames g_neqs b_val b_len b_neqT b_neqU b_neqF b_stackGoal b_stackFrame b_buf b_bufLen b_tmp
        rw [if_neg (by rw [e]; exact ho), e] at k
        exact k _ _ _ _ _ _ _ _ _ _ _ _ (fun z => absurd z ho1)
      clear k ih hperf
      refine br_f (nI_ge (b := 200) (by omega) (by decide)) (br_f (nI_nle (by omega) (by omega)) (nm_r (pk_m1 st.length) ⟨vp_in_nI (by omega) (by decide), nm_r (e' := nI f) (by rw [nI_clamp (by omega)]; exact sB) ⟨vp_in_nI (by omega) (by decide), ?_⟩⟩))
      rw [nI_clamp (n := st.length) (by omega), sA]
      refine ⟨vp_in_nI (by omega) (by decide), nm_r (e' := nI (G.1 g)) (by rw [nI_clamp (by omega)]; exact e0) ⟨vp_in_nI (by omega) (by decide), nm_r (e' := nI (4 * g)) (by rw [show (4 : Int32) = nI 4 from rfl, pk_mul, Nat.mul_comm]) ⟨vp_in_nI (by omega) (by decide), nm_r (e' := nI (G.2.1 g)) (by rw [nI_clamp (by omega)]; exact e1) ?_⟩⟩⟩
      rw [nI_1]
      refine ⟨vp_in_nI (by omega) (by decide), nm_r (e' := nI (G.2.2.1 g)) (by rw [nI_clamp (by omega)]; exact e2) ?_⟩
      rcases hk with ⟨kk, k1, k2⟩ | ⟨kk, k1, k2⟩ | ⟨kk, k1, k2, k3⟩ | ⟨kk, k1, k2, k3⟩ | ⟨kk, k1, k2, k3, k4⟩
      · have eP : (rs_perf ts G p g f C nf ne st lf) = rs_pEq ms (rs_sh f (ts (G.2.1 g))) (rs_sh f (ts (G.2.2.1 g))) C nf ne st lf := by
          unfold rs_perf
          rw [if_pos kk, ems]
        rw [eP] at go stop
        unfold rs_pEq at go stop
        refine br_t (by rw [kk]; rfl) ?_
        refine yw_unify hT k1 k2 htc hf (by omega) m4 hY hV ?_ ?_
        · intro σ' b_val b_len b_buf b_bufLen b_tmp hY' hV'
          have hS := (rs_MG_sat (rs_Y_MG hY') ms (6 * nf)).mpr hY'.2.2.1
          refine br_f (by decide) (yw_violated hT htc (by omega) m4 hY' hV' hN hn24 ?_ ?_)
          · intro hb b_buf b_bufLen
            exact br_f (by decide) (stop 2 (by omega) (by omega) (by rw [rs_if_t (Or.inr hb)]) _ _ _ _ _ _ _ _ _ _ _ _)
          · intro hb b_buf b_bufLen
            refine br_t rfl (nm_r (nI_1 i) ?_)
            exact go _ _ _ _ _ (rs_if_f (by rintro (z | z); exact z hS; exact hb z)) hlf _ _ _ _ _ _ _ _ _ _ _ _ ⟨σ', rfl, rfl, hY', hV', hn24, hN⟩ hSK
        · intro hS b_val b_len b_buf b_bufLen b_tmp
          exact br_t rfl (stop 2 (by omega) (by omega) (by rw [rs_if_t (Or.inl hS)]) _ _ _ _ _ _ _ _ _ _ _ _)
      · have eP : (rs_perf ts G p g f C nf ne st lf) = rs_pNeq (rs_sh f (ts (G.2.1 g))) (rs_sh f (ts (G.2.2.1 g))) C nf ne st lf := by
          unfold rs_perf
          rw [if_neg (by omega), if_pos kk]
        rw [eP] at go stop
        unfold rs_pNeq at go stop
        refine br_f (by rw [kk]; decide) (br_t (by rw [kk]; rfl) ?_)
        have hsm := rs_MG_same (rs_Y_MG hY) (rs_sh f (ts (G.2.1 g))) (rs_sh f (ts (G.2.2.1 g)))
        by_cases z24 : 24 ≤ ne.length
        · rw [if_pos z24] at stop
          exact br_f (nI_nlt (b := 24) z24 (by omega)) (stop 3 (by omega) (by omega) rfl _ _ _ _ _ _ _ _ _ _ _ _)
        · rw [if_neg z24] at stop go
          refine br_t (nI_lt (b := 24) (by omega) (by decide)) ?_
          refine yw_difference hT k1 k2 htc hf (by omega) hV hY.1 (rs_Y_31 hY m4) (rs_Y_b hY (by omega)) ?_ ?_
          · intro e b_buf b_bufLen
            exact br_f (by decide) (stop 2 (by omega) (by omega) (by rw [rs_if_t (hsm.mpr e)]) _ _ _ _ _ _ _ _ _ _ _ _)
          · intro P a b A' B' eA eB hab b_buf b_bufLen _ _
            have hl : P.length ≤ 255 := by
              have := rs_val_len (rs_Y_31 hY m4) (f := f) (hT _ k1).2.2.2.1 (hT _ k1).2.2.1
              rw [eA, List.length_append] at this
              omega
            have hns : ¬ rs_Same C (rs_sh f (ts (G.2.1 g))) (rs_sh f (ts (G.2.2.1 g))) := by
              rw [hsm, eA, eB]
              intro z
              have z := List.append_cancel_left z
              injection z with z _
              exact hab z
            refine br_t (nI_pos' (by omega)) ⟨vp_in_nI (by omega) (by decide), nm_r (e' := upd b_neqT ne.length (nI (G.2.1 g))) (by rw [nI_clamp (by omega)]) ⟨vp_in_nI (by omega) (by decide), nm_r (e' := upd b_neqU ne.length (nI (G.2.2.1 g))) (by rw [nI_clamp (by omega)]) ⟨vp_in_nI (by omega) (by decide), nm_r (e' := upd b_neqF ne.length (nI f)) (by rw [nI_clamp (by omega)]) (nm_r (nI_1 _) (nm_r (nI_1 i) ?_))⟩⟩⟩
            have hll : (ne ++ [(rs_sh f (ts (G.2.1 g)), rs_sh f (ts (G.2.2.1 g)))]).length = ne.length + 1 := by rw [List.length_append]; rfl
            refine go _ _ _ _ _ (rs_if_f hns) hlf _ _ _ _ _ _ _ _ _ _ _ _ ⟨σ, rfl, by rw [hll], hY, hV, by omega, ?_⟩ hSK
            intro x hx
            rw [hll] at hx
            by_cases e : x = ne.length
            · subst e
              refine ⟨G.2.1 g, G.2.2.1 g, f, k1, k2, hf, if_pos rfl, if_pos rfl, if_pos rfl, ?_⟩
              rw [List.getElem?_append_right (Nat.le_refl _), Nat.sub_self]
              rfl
            · obtain ⟨t', u', f', q1, q2, q3, q4, q5, q6, q7⟩ := hN x (by omega)
              refine ⟨t', u', f', q1, q2, q3, (if_neg e).trans q4, (if_neg e).trans q5, (if_neg e).trans q6, ?_⟩
              rw [List.getElem?_append_left (by omega)]
              exact q7
      · have eP : (rs_perf ts G p g f C nf ne st lf) = (0, (C, nf, ne, (G.2.1 g, f) :: (G.2.2.1 g, f) :: st, lf)) := by
          unfold rs_perf
          rw [if_neg (by omega), if_neg (by omega), if_pos kk]
        have e2' : nI st.length + 2 = nI (st.length + 2) := nI_add st.length 2
        refine br_f (by rw [kk]; decide) (br_f (by rw [kk]; decide) (br_t (by rw [kk]; rfl) ⟨vp_in_nI (by omega) (by decide), nm_e ?_⟩))
        rw [nI_1]
        refine ⟨vp_in_nI (by omega) (by decide), nm_r (e' := upd (upd b_stackGoal st.length (nI (G.2.2.1 g))) (st.length + 1) (nI (G.2.1 g))) (by rw [nI_clamp (by omega)]) ⟨vp_in_nI (by omega) (by decide), nm_r (e' := upd b_stackFrame (st.length + 1) (nI f)) (by rw [nI_clamp (by omega)]) (nm_r e2' (nm_r (nI_1 i) ?_))⟩⟩
        refine go _ _ _ _ _ eP hlf _ _ _ _ _ _ _ _ _ _ _ _ ⟨σ, rfl, rfl, hY, hV, hn24, hN⟩ ⟨if_pos rfl, if_pos rfl, ?_, ?_, ?_⟩
        · exact (if_neg (show st.length ≠ st.length + 1 by omega)).trans (if_pos rfl)
        · exact (if_neg (show st.length ≠ st.length + 1 by omega)).trans sB
        · exact rs_SK_up hSK (fun x hx => ⟨(if_neg (by omega)).trans (if_neg (by omega)), if_neg (by omega)⟩)
      · have eP : (rs_perf ts G p g f C nf ne st lf) = rs_pEi p (G.2.1 g) (G.2.2.1 g) f C nf ne st lf := by
          unfold rs_perf
          rw [if_neg (by omega), if_neg (by omega), if_neg (by omega), if_pos kk]
        rw [eP] at go stop
        unfold rs_pEi at go stop
        refine br_f (by rw [kk]; decide) (br_f (by rw [kk]; decide) (br_f (by rw [kk]; decide) (br_t (by rw [kk]; rfl) ?_)))
        by_cases z0 : lf = 0
        · rw [if_pos z0] at stop
          exact br_f (by rw [z0]; decide) (stop 4 (by omega) (by omega) rfl _ _ _ _ _ _ _ _ _ _ _ _)
        · obtain ⟨l, rfl⟩ : ∃ l, lf = l + 1 := ⟨lf - 1, by omega⟩
          rw [if_neg z0, Nat.add_sub_cancel] at go
          refine br_t (nI_lt (a := 0) (by omega) (by omega)) (nm_r (pk_m1 l) ?_)
          have hdiv : p / 2 ^ l < 2 ^ 31 := Nat.lt_of_le_of_lt (Nat.div_le_self _ _) (by omega)
          rw [xw_shr1 hp (by omega), xw_and1 hdiv]
          have fin : ∀ a, a = (if p / 2 ^ l % 2 = 0 then G.2.1 g else G.2.2.1 g) → wY_run_75 post (nI p) j (nI l) (nI (st.length + 1)) (nI (i + 1)) g_maxLevel (nI mc) (nI ms) g_terms g_goals g_searching g_query g_read g_level (nI nf) (nI ne.length) g_numbered g_kept b_termToken b_termLen b_kind b_goalSize b_part b_relation b_outcome b_val b_len b_neqT b_neqU b_neqF (upd b_stackGoal st.length (nI a)) b_stackFrame b_buf b_bufLen b_tmp b_base b_baseLen b_num b_relevant b_implies b_keptAt := by
            intro a ha
            refine go _ _ _ _ _ rfl (by omega) _ _ _ _ _ _ _ _ _ _ _ _ ⟨σ, rfl, rfl, hY, hV, hn24, hN⟩ ?_
            rw [← ha]
            exact ⟨if_pos rfl, sB, rs_SK_up hSK (fun x hx => ⟨if_neg (by omega), rfl⟩)⟩
          by_cases hb : p / 2 ^ l % 2 = 0
          · exact br_t (by rw [hb]; rfl) ⟨vp_in_nI (by omega) (by decide), nm_e (nm_r (nI_1 _) (nm_r (nI_1 i) (fin _ (by rw [if_pos hb]))))⟩
          · exact br_f (nI_ne0 (by omega) (by omega)) ⟨vp_in_nI (by omega) (by decide), nm_e (nm_r (nI_1 _) (nm_r (nI_1 i) (fin _ (by rw [if_neg hb]))))⟩
      · have eP : (rs_perf ts G p g f C nf ne st lf) = rs_pCall mc ms (G.2.2.2.2.2.2.1 (G.2.1 g)) (rs_sh f (ts (G.2.2.1 g))) (rs_sh f (ts (G.2.2.2.1 g))) (rs_sh f (ts (G.2.2.2.2.1 g))) C nf ne st lf := by
          unfold rs_perf
          rw [if_neg (by omega), if_neg (by omega), if_neg (by omega), if_neg (by omega), ems, emc]
        rw [eP] at go stop
        refine br_f (by rw [kk]; decide) (br_f (by rw [kk]; decide) (br_f (by rw [kk]; decide) (br_f (by rw [kk]; decide) ⟨vp_in_nI k1 (by decide), ?_⟩)))
        rw [nI_clamp (n := G.2.1 g) (by omega)]
        rcases hG.2 (G.2.1 g) k1 with ⟨eb, er⟩ | ⟨b, eb, er⟩
        · rw [eb] at stop
          exact br_f (by rw [er]; decide) (stop 2 (by omega) (by omega) rfl _ _ _ _ _ _ _ _ _ _ _ _)
        · rw [eb] at go stop
          have hbg := hB _ b eb
          refine br_t (by rw [er]; exact nI_pos' (by omega)) ?_
          have en : nI nf - 1 = nI (nf - 1) := pk_sub (b := 1) hRI.1
          rw [en]
          unfold rs_pCall at go stop
          dsimp only at go stop
          by_cases hc : mc ≤ nf - 1
          · rw [if_pos hc] at stop
            exact br_f (nI_nlt hc (by omega)) (stop 3 (by omega) (by omega) rfl _ _ _ _ _ _ _ _ _ _ _ _)
          · rw [if_neg hc] at go stop
            refine br_t (nI_lt (by omega) (by omega)) ⟨4, ?_⟩
            have h1f := hRI.1
            have tv : ∀ t, t < tc → ∀ x, x ∈ rs_s σ (rs_sh f (ts t)) → x < 17 ∨ ∃ u, u < 6 * nf ∧ x = 100 + u ∧ σ u = [100 + u] := fun t ht => rs_Y_val hY hf (hT t ht).2.2.2.2
            have tw : ∀ t, t < tc → rs_W 1 (rs_sh f (ts t)) := fun t ht => rs_sh_W f _ 1 (hT t ht).2.2.1
            refine yw_run_360 (pp := fun i => if i = 0 then G.2.2.1 g else if i = 1 then G.2.2.2.1 g else G.2.2.2.2.1 g) hT htc hf (by omega) m4 hY (by omega) ?_ k1 er (by omega) ?_ ?_ 3 0 b_val b_len b_buf b_bufLen (by omega) ⟨hV, fun k hk => absurd hk (by omega)⟩
            · intro x hx
              rcases (show x = 0 ∨ x = 1 ∨ x = 2 by omega) with rfl | rfl | rfl
              · exact ⟨e2, k2⟩
              · exact ⟨e3, k3⟩
              · exact ⟨e4, k4⟩
            · intro b_val b_len b_buf b_bufLen hQ
              have q0 := hQ.2 0 (by omega)
              have q1 := hQ.2 1 (by omega)
              have q2 := hQ.2 2 (by omega)
              have hY' := rs_Y_call hY (by omega) (tw _ k2) (tw _ k3) (tw _ k4) (tv _ k2) (tv _ k3) (tv _ k4) q0.2.2.1 q1.2.2.1 q2.2.2.1
              have hS := (rs_MG_sat (rs_Y_MG hY') ms (6 * (nf + 1))).mpr hY'.2.2.1
              refine go _ _ _ _ _ (rs_if_t hS) hlf _ _ _ _ _ _ _ _ _ _ _ _ ⟨_, rfl, rfl, hY', rs_Q_VA hY m4 hQ, hn24, ?_⟩ (rs_SK_push hSK)
              intro x hx
              obtain ⟨t', u', f', z1, z2, z3, z4⟩ := hN x hx
              exact ⟨t', u', f', z1, z2, by omega, z4⟩
            · intro x hx hbig b_val b_len b_buf b_bufLen
              refine stop 2 (by omega) (by omega) ?_ _ _ _ _ _ _ _ _ _ _ _ _
              rw [rs_if_f]
              refine rs_Y_callbig (k := x) hY ?_ hbig
              rcases (show x = 0 ∨ x = 1 ∨ x = 2 by omega) with rfl | rfl | rfl
              · exact Or.inl ⟨rfl, rfl⟩
              · exact Or.inr (Or.inl ⟨rfl, rfl⟩)
              · exact Or.inr (Or.inr ⟨rfl, rfl⟩)
end
end
section
/-! the reference's run of a path -/
section
variable {g_maxLevel g_maxCalls g_maxSize g_terms g_goals g_searching g_query g_read g_level g_frames g_neqs g_numbered g_kept : Int32} {b_termToken b_termLen b_kind b_goalSize b_part b_relation b_outcome b_val b_len b_neqT b_neqU b_neqF b_stackGoal b_stackFrame b_buf b_bufLen b_tmp b_base b_baseLen b_num b_relevant b_implies b_keptAt : Nat → Int32}
variable {tc gc ms mc p q : Nat} {ts : Nat → List Nat} {G : rs_G} {post : Int32 → SY → Prop}
theorem yw_run_33 (hp : p < 256) (hp1 : 1 ≤ p) (h : ∃ n, wY_run_75 post (nI p) n (nI p.log2) 1 0 g_maxLevel g_maxCalls g_maxSize g_terms g_goals g_searching g_query g_read g_level g_frames g_neqs g_numbered g_kept b_termToken b_termLen b_kind b_goalSize b_part b_relation b_outcome b_val b_len b_neqT b_neqU b_neqF (upd b_stackGoal 0 g_query) (upd b_stackFrame 0 0) b_buf b_bufLen b_tmp b_base b_baseLen b_num b_relevant b_implies b_keptAt) : ∀ (k i : Nat), i + k = 8 → 1 ≤ i → wY_run_33 post (nI p) g_maxLevel g_maxCalls g_maxSize g_terms g_goals g_searching g_query g_read g_level g_frames g_neqs g_numbered g_kept b_termToken b_termLen b_kind b_goalSize b_part b_relation b_outcome b_val b_len b_neqT b_neqU b_neqF b_stackGoal b_stackFrame b_buf b_bufLen b_tmp b_base b_baseLen b_num b_relevant b_implies b_keptAt (k + 1) (nI (min (i - 1) p.log2)) (nI i) := by
  have h1 := Nat.log2_self_le (n := p) (by omega)
  have h2 := Nat.lt_log2_self (n := p)
  have h8 : p.log2 < 8 := by
    rcases Nat.lt_or_ge p.log2 8 with z | z
    · exact z
    · have := Nat.pow_le_pow_right (n := 2) (by omega) z
      omega
  intro k
  induction k with
  | zero =>
    intro i hi h1
    rw [show min (i - 1) p.log2 = p.log2 by omega]
    exact br_t (nI_le (a := 8) (by omega) (by omega)) (nm_e (nm_e h))
  | succ k ih =>
    intro i hi hi1
    refine br_f (nI_ge (b := 8) (by omega) (by decide)) ?_
    rw [xw_shr1 hp (by omega)]
    have key := ih (i + 1) (by omega) (by omega)
    have hd : p / 2 ^ i < 2 ^ 31 := Nat.lt_of_le_of_lt (Nat.div_le_self _ _) (by omega)
    by_cases z : i ≤ p.log2
    · have h3 := Nat.pow_le_pow_right (n := 2) (by omega) z
      have : 0 < p / 2 ^ i := Nat.div_pos (by omega) (Nat.pow_pos (by omega))
      refine br_f (nI_nle this hd) (nm_r (nI_1 i) ?_)
      rw [show min (i + 1 - 1) p.log2 = i by omega] at key
      exact key
    · have h3 := Nat.pow_le_pow_right (n := 2) (by omega) (show p.log2 + 1 ≤ i by omega)
      have : p / 2 ^ i = 0 := Nat.div_eq_of_lt (by omega)
      rw [this]
      refine br_t (by decide) (nm_r (nI_1 i) ?_)
      rw [show min (i - 1) p.log2 = min (i + 1 - 1) p.log2 by omega]
      exact key
theorem yw_run_12 (h : ∀ b_val b_len, rs_VA 6 (fun v => [100 + v]) b_val b_len → ∃ n, wY_run_33 post (nI p) g_maxLevel g_maxCalls g_maxSize g_terms g_goals g_searching g_query g_read g_level g_frames g_neqs g_numbered g_kept b_termToken b_termLen b_kind b_goalSize b_part b_relation b_outcome b_val b_len b_neqT b_neqU b_neqF b_stackGoal b_stackFrame b_buf b_bufLen b_tmp b_base b_baseLen b_num b_relevant b_implies b_keptAt n 0 1) : ∀ (k i : Nat) (b_val b_len : Nat → Int32), i + k = 6 → rs_VA i (fun v => [100 + v]) b_val b_len → wY_run_12 post (nI p) (k + 1) (nI i) g_maxLevel g_maxCalls g_maxSize g_terms g_goals g_searching g_query g_read g_level g_frames g_neqs g_numbered g_kept b_termToken b_termLen b_kind b_goalSize b_part b_relation b_outcome b_val b_len b_neqT b_neqU b_neqF b_stackGoal b_stackFrame b_buf b_bufLen b_tmp b_base b_baseLen b_num b_relevant b_implies b_keptAt := by
  intro k
  induction k with
  | zero =>
    intro i b_val b_len hi hV
    obtain rfl : i = 6 := by omega
    exact br_t (by decide) (h _ _ hV)
  | succ k ih =>
    intro i b_val b_len hi hV
    refine br_f (nI_ge (b := 6) (by omega) (by decide)) (yw_fresh (by omega) (nm_r (nI_1 i) (ih (i + 1) _ _ (by omega) ?_)))
    intro v hv
    by_cases e : v = i
    · subst e
      exact ⟨if_pos rfl, rs_A_one (if_pos rfl), by simp⟩
    · obtain ⟨a1, a2, a3⟩ := hV v (by omega)
      exact ⟨(if_neg e).trans a1, rs_A_keep a2 (fun j j1 j2 => if_neg (by simp at j2; omega)), a3⟩
theorem rs_Y_0 (h1 : 1 ≤ ms) : rs_Y ms 1 (fun _ => True) (fun v => [100 + v]) := by
  refine ⟨fun v => rs_W_one (by omega), fun _ _ => rfl, fun _ _ => h1, ?_, ?_⟩
  · intro v t hv ht
    rw [List.mem_singleton] at ht
    exact Or.inr ⟨v, hv, ht, rfl⟩
  · intro θ _
    refine ⟨fun _ v => ?_, fun _ => trivial⟩
    rw [rs_s_1]
theorem yw_run (hT : rs_TB tc ts b_termToken b_termLen) (hG : rs_GB gc G b_kind b_part b_relation) (hGX : rs_GX tc gc G) (htc : tc ≤ 64) (hgc : gc ≤ 48) (ems : G.2.2.2.2.2.2.2.2 = ms) (emc : G.2.2.2.2.2.2.2.1 = mc) (hp : p < 256) (hp1 : 1 ≤ p) (hq : q < gc)
    (k : ∀ (g_frames g_neqs : Int32) (b_val b_len b_neqT b_neqU b_neqF b_stackGoal b_stackFrame b_buf b_bufLen b_tmp : Nat → Int32), ((rs_path ts G q p).1 = 1 → rs_YR tc ts ms (rs_path ts G q p).2.1 (rs_path ts G q p).2.2.1 (rs_path ts G q p).2.2.2.1 g_frames g_neqs b_val b_len b_neqT b_neqU b_neqF) → post (nI (rs_path ts G q p).1) (g_maxLevel, nI mc, nI ms, g_terms, g_goals, g_searching, nI q, g_read, g_level, g_frames, g_neqs, g_numbered, g_kept, b_termToken, b_termLen, b_kind, b_goalSize, b_part, b_relation, b_outcome, b_val, b_len, b_neqT, b_neqU, b_neqF, b_stackGoal, b_stackFrame, b_buf, b_bufLen, b_tmp, b_base, b_baseLen, b_num, b_relevant, b_implies, b_keptAt)) :
    wpY_run post (g_maxLevel, nI mc, nI ms, g_terms, g_goals, g_searching, nI q, g_read, g_level, g_frames, g_neqs, g_numbered, g_kept, b_termToken, b_termLen, b_kind, b_goalSize, b_part, b_relation, b_outcome, b_val, b_len, b_neqT, b_neqU, b_neqF, b_stackGoal, b_stackFrame, b_buf, b_bufLen, b_tmp, b_base, b_baseLen, b_num, b_relevant, b_implies, b_keptAt) (nI p) := by
  have h8 : p.log2 ≤ 30 := by
    have h1 := Nat.log2_self_le (n := p) (by omega)
    rcases Nat.lt_or_ge p.log2 8 with z | z
    · omega
    · have := Nat.pow_le_pow_right (n := 2) (by omega) z
      omega
  have hm3 := hGX.2.2.2.2.1
  refine ⟨7, yw_run_12 (fun b_val b_len hV => ⟨8, ?_⟩) 6 0 b_val b_len (by omega) (fun v hv => absurd hv (by omega))⟩
  refine yw_run_33 hp hp1 ⟨166, ?_⟩ 7 1 (by omega) (by omega)
  refine yw_run_75 hT hG hGX htc hgc ems emc hp 165 0 166 (fun _ => True) 1 [] [(q, 0)] p.log2 _ _ _ _ _ _ _ _ _ _ _ _ (rs_RI_0 hGX hq) (by omega) (by omega) h8 ⟨_, rfl, rfl, rs_Y_0 (by omega), hV, by simp, ?_⟩ ⟨if_pos rfl, if_pos rfl, trivial⟩ k
  intro i hi
  exact absurd hi (by simp)
end
end
section
/-! more terms: the component's run state stays what it was -/
def rs_TE (T T' : rs_T) : Prop := T.2.2.2.2 ≤ T'.2.2.2.2 ∧ (∀ t, t < T.2.2.2.2 → T'.1 t = T.1 t ∧ T'.2.1 t = T.2.1 t ∧ T'.2.2.1 t = T.2.2.1 t ∧ T'.2.2.2.1 t = T.2.2.2.1 t) ∧ ∀ t, T.2.2.2.2 ≤ t → t < 64 → T.1 t = 0
def rs_D (T : rs_T) (n : Nat) : Prop := 704 ≤ n ∨ n % 64 < T.2.2.2.2
section
variable {T T' : rs_T} {nf tt : Nat} {L : Nat → Option Nat}
theorem rs_D_op {n : Nat} (h : rs_op T nf n) : rs_D T n := by
  rcases h with ⟨_, h⟩ | h
  · exact Or.inr h
  · exact Or.inl h.1
theorem rs_te_nx (hE : rs_TE T T') {n : Nat} (h : rs_D T n) : rs_nx T' L n = rs_nx T L n := by
  unfold rs_nx
  by_cases h7 : 704 ≤ n
  · rw [if_neg (by omega), if_neg (by omega)]
  · have ht : n % 64 < T.2.2.2.2 := by rcases h with z | z <;> omega
    obtain ⟨e1, e2, _, _⟩ := hE.2.1 _ ht
    rw [e1, e2]
theorem rs_te_cl (hL : rs_LK T nf L tt) {n m : Nat} (e : rs_nx T L n = some m) : rs_D T m := by
  rcases rs_nx_some e with e | ⟨_, _, _, e⟩
  · exact rs_D_op (hL.2.1 n m e).2.1
  · exact Or.inl (by omega)
theorem rs_te_out (hL : rs_LK T nf L tt) {n : Nat} (h : ¬ rs_D T n) : L n = none := by
  cases e : L n with
  | none => rfl
  | some m => exact absurd (rs_D_op (hL.2.1 n m e).1) h
theorem rs_te_fd (hE : rs_TE T T') (hL : rs_LK T nf L tt) : ∀ k n, rs_D T n → rs_fd T' L k n = rs_fd T L k n
  | 0, _, _ => rfl
  | k + 1, n, hn => by
    have en := rs_te_nx (L := L) hE hn
    cases z : rs_nx T L n with
    | none => rw [rs_fd_stop z, rs_fd_stop (en.trans z)]
    | some m => rw [rs_fd_s z, rs_fd_s (en.trans z)]; exact rs_te_fd hE hL k m (rs_te_cl hL z)
theorem rs_te_ns (hE : rs_TE T T') {n : Nat} (h : rs_D T n) : rs_ns T' n = rs_ns T n := by
  unfold rs_ns
  by_cases h7 : n < 704
  · have ht : n % 64 < T.2.2.2.2 := by rcases h with z | z <;> omega
    rw [if_pos h7, if_pos h7, (hE.2.1 _ ht).2.2.2]
  · rw [if_neg h7, if_neg h7]
theorem rs_te_op (hE : rs_TE T T') {n : Nat} (h : rs_op T nf n) : rs_op T' nf n := by
  have := hE.1
  rcases h with ⟨h1, h2⟩ | h
  · exact Or.inl ⟨h1, by omega⟩
  · exact Or.inr h
theorem rs_te_LK (hE : rs_TE T T') (hL : rs_LK T nf L tt) : rs_LK T' nf L tt := by
  refine ⟨hL.1, ?_, ?_, hL.2.2.2⟩
  · intro n m e
    obtain ⟨o1, o2, hp⟩ := hL.2.1 n m e
    refine ⟨rs_te_op hE o1, rs_te_op hE o2, fun h7 => ?_⟩
    obtain ⟨p1, p2, p3⟩ := hp h7
    have t1 : n % 64 < T.2.2.2.2 := by rcases o1 with ⟨_, z⟩ | z <;> omega
    have t2 : m % 64 < T.2.2.2.2 := by rcases o2 with ⟨_, z⟩ | z <;> omega
    rw [(hE.2.1 _ t1).1, (hE.2.1 _ t2).1]
    exact ⟨p1, p2, p3⟩
  · intro n hn hs
    by_cases hD : rs_D T n
    · have hs' : n < 704 → T.1 (n % 64) ≠ 1 := by
        intro h7
        have ht : n % 64 < T.2.2.2.2 := by rcases hD with z | z <;> omega
        rw [← (hE.2.1 _ ht).1]
        exact hs h7
      rw [rs_te_fd hE hL _ n hD, rs_te_nx hE (rs_fd_ind (rs_D T) (fun _ _ _ e => rs_te_cl hL e) tt n hD)]
      exact hL.2.2.1 n hn hs'
    · have hx : rs_nx T' L n = none := by
        refine rs_nx_none (rs_te_out hL hD) ?_
        by_cases h7 : 704 ≤ n
        · exact Or.inl h7
        · exact Or.inr (hs (by omega))
      rw [rs_fd_stop hx]
      exact hx
theorem rs_te_lf (hE : rs_TE T T') {n : Nat} (h : n % 64 < T.2.2.2.2) : rs_lf T' n = rs_lf T n ∧ rs_rg T' n = rs_rg T n := by
  obtain ⟨_, e2, e3, _⟩ := hE.2.1 _ h
  unfold rs_lf rs_rg
  rw [e2, e3]
  exact ⟨rfl, rfl⟩
theorem rs_te_CC (hE : rs_TE T T') (hL : rs_LK T nf L tt) (hC : rs_CC T L []) : rs_CC T' L [] := by
  have htc := hE.1
  intro R r1 r2 r3 r4 r5 r6 n m hn e
  obtain ⟨o1, o2, hp⟩ := hL.2.1 n m e
  obtain ⟨_, m7, _⟩ := hp hn
  have t1 : n % 64 < T.2.2.2.2 := by rcases o1 with ⟨_, z⟩ | z <;> omega
  have t2 : m % 64 < T.2.2.2.2 := by rcases o2 with ⟨_, z⟩ | z <;> omega
  rw [(rs_te_lf hE t1).1, (rs_te_lf hE t1).2, (rs_te_lf hE t2).1, (rs_te_lf hE t2).2]
  refine hC R r1 r2 r3 ?_ ?_ r6 n m hn e
  · intro x y hx z
    refine r4 x y hx ?_
    rw [rs_te_nx hE]
    · exact z
    · by_cases h7 : 704 ≤ x
      · exact Or.inl h7
      · refine Or.inr ?_
        rcases Nat.lt_or_ge (x % 64) T.2.2.2.2 with w | w
        · exact w
        · have h0 := hE.2.2 (x % 64) w (by omega)
          have hD : ¬ rs_D T x := by
            rintro (z | z) <;> omega
          rw [rs_nx_none (rs_te_out hL hD) (Or.inr (by omega))] at z
          exact absurd z (by simp)
  · intro a b ha hb ta tb ka kb ks
    refine r5 a b ha hb (by omega) (by omega) ?_ ?_ ?_
    · rw [(hE.2.1 _ ta).1]; exact ka
    · rw [(hE.2.1 _ tb).1]; exact kb
    · rw [(hE.2.1 _ ta).2.1, (hE.2.1 _ tb).2.1]; exact ks
theorem rs_te_M (hE : rs_TE T T') (hL : rs_LK T nf L tt) (θ : Nat → List Nat) : rs_M T' L θ ↔ rs_M T L θ := by
  constructor
  · intro h n m e
    obtain ⟨o1, o2, _⟩ := hL.2.1 n m e
    have := h n m e
    unfold rs_EQ at this ⊢
    rwa [rs_te_ns hE (rs_D_op o1), rs_te_ns hE (rs_D_op o2)] at this
  · intro h n m e
    obtain ⟨o1, o2, _⟩ := hL.2.1 n m e
    have := h n m e
    unfold rs_EQ at this ⊢
    rwa [rs_te_ns hE (rs_D_op o1), rs_te_ns hE (rs_D_op o2)]
theorem rs_te_tk (hE : rs_TE T T') {r : Nat} (h : rs_D T r) : rs_tkn T' r = rs_tkn T r ∧ rs_kd T' r = rs_kd T r := by
  unfold rs_tkn rs_kd
  by_cases h7 : 704 ≤ r
  · rw [if_pos h7, if_pos h7, if_neg (by omega), if_neg (by omega)]
    exact ⟨rfl, rfl⟩
  · have ht : r % 64 < T.2.2.2.2 := by rcases h with z | z <;> omega
    obtain ⟨e1, e2, _, _⟩ := hE.2.1 _ ht
    rw [e1, e2, (rs_te_lf hE ht).1, (rs_te_lf hE ht).2]
    exact ⟨rfl, rfl⟩
theorem rs_kd_D (hT : rs_TX T) {r n : Nat} (hr : rs_D T r) (h : n ∈ rs_kd T r) : rs_D T n := by
  unfold rs_kd at h
  split at h
  · next hp =>
    obtain ⟨_, _, _, _, h5, h6, h7, h8⟩ := rs_lf_in hT hp.1 hp.2
    have ht : r % 64 < T.2.2.2.2 := by rcases hr with z | z <;> omega
    rcases List.mem_cons.mp h with h | h
    · rw [h]; exact Or.inr (by omega)
    · rw [List.mem_singleton] at h; rw [h]; exact Or.inr (by omega)
  · exact absurd h (List.not_mem_nil)
theorem rs_te_WK (hT : rs_TX T) (hE : rs_TE T T') (hL : rs_LK T nf L tt) : ∀ (l st : List Nat), (∀ n, n ∈ st → rs_D T n) → rs_WK T L st l → rs_WK T' L st l
  | [], _, _, h => h
  | a :: l, st, hs, h => by
    obtain ⟨n, st1, e0, e1, e2⟩ := h
    subst e0
    have hn := hs n (List.mem_cons_self ..)
    have er : rs_rt T' L n = rs_rt T L n := rs_te_fd hE hL 800 n hn
    have ob : rs_D T (rs_rt T L n) := rs_fd_ind (rs_D T) (fun _ _ _ e => rs_te_cl hL e) 800 n hn
    obtain ⟨k1, k2⟩ := rs_te_tk hE ob
    refine ⟨n, st1, rfl, by rw [er, k1]; exact e1, ?_⟩
    rw [er, k2]
    refine rs_te_WK hT hE hL l _ ?_ e2
    intro x hx
    rcases List.mem_append.mp hx with z | z
    · exact rs_kd_D hT ob z
    · exact hs x (List.mem_cons_of_mem _ z)
theorem rs_te_WKv (hT : rs_TX T) (hE : rs_TE T T') (hL : rs_LK T nf L tt) {v : Nat} {l : List Nat} (h : rs_WK T L [704 + v] l) : rs_WK T' L [704 + v] l := by
  refine rs_te_WK hT hE hL l _ ?_ h
  intro n hn
  rw [List.mem_singleton] at hn
  exact Or.inl (by omega)
theorem rs_te_XL {ms : Nat} {C : rs_V} {link : Nat → Int32} (hT : rs_TX T) (hE : rs_TE T T') (h : rs_XL T ms C nf link tt) : rs_XL T' ms C nf link tt := by
  obtain ⟨h1, h2, h3, h4, h5, h6⟩ := h
  refine ⟨h1, h2, rs_te_LK hE h3, rs_te_CC hE h3 h4, ?_, ?_⟩
  · intro θ hθ
    rw [h5 θ hθ, rs_te_M hE h3]
  · intro v hv
    obtain ⟨l, q1, q2⟩ := h6 v hv
    exact ⟨l, rs_te_WKv hT hE h3 q1, q2⟩
theorem rs_te_NQ {ne : List (List Nat × List Nat)} {nl nr : Nat → Int32} (hE : rs_TE T T') (h : rs_NQ T nf ne nl nr) : rs_NQ T' nf ne nl nr := by
  intro i hi
  obtain ⟨a, b, q1, q2, q3, q4, q5, q6, q7⟩ := h i hi
  refine ⟨a, b, rs_te_op hE q1, rs_te_op hE q2, q3, q4, q5, q6, ?_⟩
  rw [rs_te_ns hE (rs_D_op q1), rs_te_ns hE (rs_D_op q2)]
  exact q7
theorem rs_te_refl (h : ∀ t, T.2.2.2.2 ≤ t → t < 64 → T.1 t = 0) : rs_TE T T := ⟨Nat.le_refl _, fun _ _ => ⟨rfl, rfl, rfl, rfl⟩, h⟩
end
end
section
/-! numbering, renaming, what a disequality touches -/
def rs_Mg (n : Nat) (C : rs_V) (s : Nat → List Nat) : Prop := rs_MG C s ∧ ∀ x, x < n → ∀ w, 100 + w ∈ s x → w < n
theorem rs_MG_self {C : rs_V} {s : Nat → List Nat} (hs : rs_MG C s) {v w : Nat} (h : 100 + w ∈ s v) : s w = [100 + w] := by
  have h1 := rs_MG_one hs hs h
  have h2 := rs_map_id (rs_MG_map hs hs v) _ h
  rw [rs_rn_hi] at h2
  cases e : s w with
  | nil => rw [e] at h1; exact absurd h1 (by simp)
  | cons a l =>
    rw [e] at h1 h2
    cases l with
    | nil =>
      have : a = 100 + w := h2
      rw [this]
    | cons b l => simp at h1
def rs_nb : List Nat → List Nat → List Nat
  | acc, [] => acc
  | acc, t :: l => if 100 ≤ t ∧ t - 100 ∉ acc then rs_nb (acc ++ [t - 100]) l else rs_nb acc l
def rs_num (s : Nat → List Nat) : Nat → List Nat
  | 0 => []
  | w + 1 => rs_nb (rs_num s w) (s w)
theorem rs_nb_map {f ρ : Nat → Nat} {P : Nat → Prop} (hρ : ∀ a b, P a → P b → ρ a = ρ b → a = b) : ∀ (l acc : List Nat), (∀ x, x ∈ l → (100 ≤ x ↔ 100 ≤ f x) ∧ (100 ≤ x → f x = 100 + ρ (x - 100) ∧ P (x - 100))) → (∀ a, a ∈ acc → P a) →
    rs_nb (acc.map ρ) (l.map f) = (rs_nb acc l).map ρ ∧ ∀ a, a ∈ rs_nb acc l → P a
  | [], acc, _, ha => ⟨rfl, ha⟩
  | t :: l, acc, hl, ha => by
    obtain ⟨h1, h2⟩ := hl t (List.mem_cons_self ..)
    have hl' := fun x hx => hl x (List.mem_cons_of_mem t hx)
    show (if 100 ≤ f t ∧ f t - 100 ∉ acc.map ρ then rs_nb (acc.map ρ ++ [f t - 100]) (l.map f) else rs_nb (acc.map ρ) (l.map f)) = (if 100 ≤ t ∧ t - 100 ∉ acc then rs_nb (acc ++ [t - 100]) l else rs_nb acc l).map ρ ∧ ∀ a, a ∈ (if 100 ≤ t ∧ t - 100 ∉ acc then rs_nb (acc ++ [t - 100]) l else rs_nb acc l) → P a
    by_cases ht : 100 ≤ t
    · obtain ⟨e, hp⟩ := h2 ht
      have em : f t - 100 ∈ acc.map ρ ↔ t - 100 ∈ acc := by
        rw [e, Nat.add_sub_cancel_left, List.mem_map]
        constructor
        · rintro ⟨a, q1, q2⟩
          rw [← hρ a _ (ha a q1) hp q2]
          exact q1
        · intro q
          exact ⟨_, q, rfl⟩
      by_cases hm : t - 100 ∈ acc
      · rw [if_neg (fun z => z.2 (em.mpr hm)), if_neg (fun z => z.2 hm)]
        exact rs_nb_map hρ l acc hl' ha
      · rw [if_pos ⟨h1.mp ht, fun z => hm (em.mp z)⟩, if_pos ⟨ht, hm⟩]
        have := rs_nb_map hρ l (acc ++ [t - 100]) hl' (by
          intro a q
          rcases List.mem_append.mp q with q | q
          · exact ha a q
          · rw [List.mem_singleton] at q; rw [q]; exact hp)
        rw [List.map_append] at this
        rw [e, Nat.add_sub_cancel_left]
        exact this
    · rw [if_neg (fun z => ht (h1.mpr z.1)), if_neg (fun z => ht z.1)]
      exact rs_nb_map hρ l acc hl' ha
def rs_rv (s : Nat → List Nat) (a : Nat) : Nat := rs_rn s (100 + a) - 100
section
variable {C : rs_V} {s t : Nat → List Nat} {n : Nat}
theorem rs_rv_tok (hs : rs_MG C s) (ht : rs_MG C t) {v a : Nat} (h : 100 + a ∈ t v) : rs_rn s (100 + a) = 100 + rs_rv s a := by
  have := rs_MG_hi hs ht h
  unfold rs_rv
  omega
/-- an unknown of t is, in s, another unknown -/
theorem rs_rv_val (hs : rs_MG C s) (ht : rs_MG C t) {v a : Nat} (h : 100 + a ∈ t v) : s a = [100 + rs_rv s a] := by
  have e := rs_MG_self ht h
  have := rs_MG_map hs ht a
  rw [e, List.map_cons, List.map_nil, rs_rv_tok hs ht h] at this
  exact this
theorem rs_rv_inj (hs : rs_MG C s) (ht : rs_MG C t) {v w a b : Nat} (h : 100 + a ∈ t v) (h' : 100 + b ∈ t w) (e : rs_rv s a = rs_rv s b) : a = b := by
  have := rs_MG_inj hs ht h h' (by rw [rs_rv_tok hs ht h, rs_rv_tok hs ht h', e])
  omega
theorem rs_num_map (hs : rs_MG C s) (ht : rs_MG C t) (W : Nat) : ∀ w, w ≤ W → rs_num s w = (rs_num t w).map (rs_rv s) ∧ ∀ a, a ∈ rs_num t w → ∃ v, v < W ∧ 100 + a ∈ t v
  | 0, _ => ⟨rfl, fun a h => absurd h List.not_mem_nil⟩
  | w + 1, hw => by
    obtain ⟨h1, h2⟩ := rs_num_map hs ht W w (by omega)
    show rs_nb (rs_num s w) (s w) = (rs_nb (rs_num t w) (t w)).map (rs_rv s) ∧ _
    rw [h1, rs_MG_map hs ht w]
    refine rs_nb_map (P := fun a => ∃ v, v < W ∧ 100 + a ∈ t v) ?_ (t w) (rs_num t w) ?_ h2
    · rintro a b ⟨v, _, q1⟩ ⟨u, _, q2⟩ e
      exact rs_rv_inj hs ht q1 q2 e
    · intro x hx
      have := rs_MG_hi hs ht hx
      refine ⟨by omega, fun h => ?_⟩
      have e : x = 100 + (x - 100) := by omega
      refine ⟨?_, w, by omega, e ▸ hx⟩
      have hx' : 100 + (x - 100) ∈ t w := e ▸ hx
      have := rs_rv_tok hs ht hx'
      rwa [← e] at this
theorem rs_num_self (ht : rs_MG C t) {w a : Nat} (h : a ∈ rs_num t w) : t a = [100 + a] := by
  obtain ⟨v, _, q⟩ := (rs_num_map ht ht w w (Nat.le_refl _)).2 a h
  exact rs_MG_self ht q
theorem rs_num_lt (ht : rs_Mg n C t) {w a : Nat} (hw : w ≤ n) (h : a ∈ rs_num t w) : a < n := by
  obtain ⟨v, h1, q⟩ := (rs_num_map ht.1 ht.1 w w (Nat.le_refl _)).2 a h
  exact ht.2 v (by omega) a q
end
theorem rs_nb_nd : ∀ (l acc : List Nat), acc.Nodup → (rs_nb acc l).Nodup
  | [], _, h => h
  | t :: l, acc, h => by
    show (if 100 ≤ t ∧ t - 100 ∉ acc then rs_nb (acc ++ [t - 100]) l else rs_nb acc l).Nodup
    split
    · next z =>
      refine rs_nb_nd l _ ?_
      rw [List.nodup_append]
      refine ⟨h, List.nodup_cons.mpr ⟨List.not_mem_nil, List.nodup_nil⟩, ?_⟩
      intro a ha b hb
      rw [List.mem_singleton] at hb
      intro e
      rw [e, hb] at ha
      exact z.2 ha
    · exact rs_nb_nd l acc h
theorem rs_num_nd (s : Nat → List Nat) : ∀ w, (rs_num s w).Nodup
  | 0 => List.nodup_nil
  | w + 1 => rs_nb_nd _ _ (rs_num_nd s w)
theorem rs_nd_len {n : Nat} {l : List Nat} (h : l.Nodup) (hl : ∀ a, a ∈ l → a < n) : l.length ≤ n := by
  have := List.Nodup.length_le_of_subset h (l₂ := List.range n) (fun a ha => List.mem_range.mpr (hl a ha))
  rwa [List.length_range] at this
/-- the place of a in l -/
def rs_ix (a : Nat) : List Nat → Nat
  | [] => 0
  | b :: l => if b = a then 0 else rs_ix a l + 1
theorem rs_ix_mem {a : Nat} : ∀ {l : List Nat}, a ∈ l ↔ rs_ix a l < l.length
  | [] => ⟨fun h => absurd h List.not_mem_nil, fun h => absurd h (by simp [rs_ix])⟩
  | b :: l => by
    show a ∈ b :: l ↔ (if b = a then 0 else rs_ix a l + 1) < (b :: l).length
    rw [List.length_cons, List.mem_cons]
    by_cases e : b = a
    · rw [if_pos e]
      exact ⟨fun _ => by omega, fun _ => Or.inl e.symm⟩
    · rw [if_neg e]
      have ih := rs_ix_mem (a := a) (l := l)
      constructor
      · rintro (z | z)
        · exact absurd z.symm e
        · have := ih.mp z; omega
      · intro z
        exact Or.inr (ih.mpr (by omega))
theorem rs_ix_app {a : Nat} {m : List Nat} : ∀ {l : List Nat}, a ∈ l → rs_ix a (l ++ m) = rs_ix a l
  | [], h => absurd h List.not_mem_nil
  | b :: l, h => by
    show (if b = a then 0 else rs_ix a (l ++ m) + 1) = (if b = a then 0 else rs_ix a l + 1)
    by_cases e : b = a
    · rw [if_pos e, if_pos e]
    · rw [if_neg e, if_neg e]
      rcases List.mem_cons.mp h with z | z
      · exact absurd z.symm e
      · rw [rs_ix_app z]
theorem rs_ix_new {a : Nat} : ∀ {l : List Nat}, a ∉ l → rs_ix a (l ++ [a]) = l.length
  | [], _ => by
    show (if a = a then 0 else _) = 0
    rw [if_pos rfl]
  | b :: l, h => by
    show (if b = a then 0 else rs_ix a (l ++ [a]) + 1) = l.length + 1
    rw [if_neg (fun e => h (by rw [e]; exact List.mem_cons_self ..)), rs_ix_new (fun z => h (List.mem_cons_of_mem _ z))]
theorem rs_ix_get {a : Nat} : ∀ {l : List Nat}, a ∈ l → l.getD (rs_ix a l) 0 = a
  | [], h => absurd h List.not_mem_nil
  | b :: l, h => by
    show (b :: l).getD (if b = a then 0 else rs_ix a l + 1) 0 = a
    by_cases e : b = a
    · rw [if_pos e]; exact e
    · rw [if_neg e]
      rcases List.mem_cons.mp h with z | z
      · exact absurd z.symm e
      · exact rs_ix_get z
theorem rs_ix_map {a : Nat} {ρ : Nat → Nat} : ∀ {l : List Nat}, (∀ b, b ∈ l → ρ b = ρ a → b = a) → rs_ix (ρ a) (l.map ρ) = rs_ix a l
  | [], _ => rfl
  | b :: l, h => by
    show (if ρ b = ρ a then 0 else rs_ix (ρ a) (l.map ρ) + 1) = (if b = a then 0 else rs_ix a l + 1)
    by_cases e : b = a
    · rw [if_pos e, if_pos (by rw [e])]
    · rw [if_neg e, if_neg (fun z => e (h b (List.mem_cons_self ..) z)), rs_ix_map (fun b hb => h b (List.mem_cons_of_mem _ hb))]
/-! what is touched -/
def rs_Tch (s s' : Nat → List Nat) (n x : Nat) : Prop := (∀ y, s' x ≠ [100 + y]) ∨ ∃ z y, z < n ∧ z ≠ x ∧ s z = [100 + z] ∧ s' x = [100 + y] ∧ 100 + y ∈ s' z
def rs_Unt (s s' : Nat → List Nat) (n wd : Nat) : Prop := ∀ x, x < n → s x = [100 + x] → x ∉ rs_num s wd → ¬ rs_Tch s s' n x
section
variable {C C' : rs_V} {s t s' t' : Nat → List Nat} {n wd : Nat}
theorem rs_sub_val (hs : rs_MG C s) (hs' : rs_MG C' s') (hC : ∀ θ, rs_cp θ → C' θ → C θ) {x x' : Nat} (e : s x = [100 + x']) : s' x = s' x' := by
  have := hs.2.2 s' hs'.1 (hC s' hs'.1 hs'.2.1) x
  rw [e, rs_s_1] at this
  exact this
theorem rs_Unt_tr (hs : rs_Mg n C s) (ht : rs_Mg n C t) (hs' : rs_MG C' s') (ht' : rs_MG C' t') (hC : ∀ θ, rs_cp θ → C' θ → C θ) (h : rs_Unt s s' n wd) : rs_Unt t t' n wd := by
  intro x hx tx hnum htch
  have mem : ∀ z, t z = [100 + z] → 100 + z ∈ t z := fun z e => by rw [e]; exact List.mem_cons_self ..
  have key : ∀ z, z < n → t z = [100 + z] → rs_rv s z < n ∧ s z = [100 + rs_rv s z] ∧ s (rs_rv s z) = [100 + rs_rv s z] ∧ s' z = s' (rs_rv s z) := by
    intro z hz e
    have e1 := rs_rv_val hs.1 ht.1 (mem z e)
    have m1 : 100 + rs_rv s z ∈ s z := by rw [e1]; exact List.mem_cons_self ..
    exact ⟨hs.2 z hz _ m1, e1, rs_MG_self hs.1 m1, rs_sub_val hs.1 hs' hC e1⟩
  obtain ⟨k1, k2, k3, k4⟩ := key x hx tx
  refine h (rs_rv s x) k1 k3 ?_ ?_
  · rw [(rs_num_map hs.1 ht.1 wd wd (Nat.le_refl _)).1, List.mem_map]
    rintro ⟨a, q1, q2⟩
    obtain ⟨v, _, q3⟩ := (rs_num_map hs.1 ht.1 wd wd (Nat.le_refl _)).2 a q1
    rw [rs_rv_inj hs.1 ht.1 q3 (mem x tx) q2] at q1
    exact hnum q1
  · rcases htch with z | ⟨z, y, z1, z2, z3, z4, z5⟩
    · left
      intro y' e
      rw [← k4] at e
      have := rs_MG_map ht' hs' x
      rw [e, List.map_cons, List.map_nil] at this
      have m1 : 100 + y' ∈ s' x := by rw [e]; exact List.mem_cons_self ..
      rw [rs_rv_tok ht' hs' m1] at this
      exact z _ this
    · right
      obtain ⟨j1, j2, j3, j4⟩ := key z z1 z3
      have my : 100 + y ∈ t' x := by rw [z4]; exact List.mem_cons_self ..
      refine ⟨rs_rv s z, rs_rv s' y, j1, ?_, j3, ?_, ?_⟩
      · intro e
        exact z2 (rs_rv_inj hs.1 ht.1 (mem z z3) (mem x tx) e)
      · rw [← k4, rs_MG_map hs' ht' x, z4, List.map_cons, List.map_nil, rs_rv_tok hs' ht' my]
      · rw [← j4, rs_MG_map hs' ht' z, ← rs_rv_tok hs' ht' my]
        exact List.mem_map.mpr ⟨_, z5, rfl⟩
end
/-- the disequality A, B is relevant -/
def rs_Rel (ms nf wd : Nat) (C : rs_V) (d : List Nat × List Nat) : Prop := rs_Sat ms (6 * nf) (rs_eqC C d.1 d.2) ∧ ∃ s s', rs_Mg (6 * nf) C s ∧ rs_MG (rs_eqC C d.1 d.2) s' ∧ rs_Unt s s' (6 * nf) wd
theorem rs_Rel_iff {ms nf wd : Nat} {C : rs_V} {d : List Nat × List Nat} {s s' : Nat → List Nat} (hs : rs_Mg (6 * nf) C s) (hs' : rs_MG (rs_eqC C d.1 d.2) s') (hS : rs_Sat ms (6 * nf) (rs_eqC C d.1 d.2)) : rs_Rel ms nf wd C d ↔ rs_Unt s s' (6 * nf) wd := by
  constructor
  · rintro ⟨_, t, t', h1, h2, h3⟩
    exact rs_Unt_tr h1 hs h2 hs' (fun θ _ z => z.1) h3
  · intro h
    exact ⟨hS, s, s', hs, hs', h⟩
def rs_Imp (C : rs_V) (d e : List Nat × List Nat) : Prop := rs_Same (rs_eqC C d.1 d.2) e.1 e.2
/-- the disequality at place i is kept -/
def rs_Kept (ms nf wd : Nat) (C : rs_V) (ne : List (List Nat × List Nat)) (i : Nat) : Prop :=
  ∃ d, ne[i]? = some d ∧ rs_Rel ms nf wd C d ∧ ∀ j e, ne[j]? = some e → j ≠ i → rs_Rel ms nf wd C e → rs_Imp C d e → ¬ (j < i ∨ ¬ rs_Imp C e d)
end
section
/-! the relation -/
def rs_iv : Nat → Nat → List Nat
  | _, 0 => []
  | a, n + 1 => a :: rs_iv (a + 1) n
/-- the paths with outcome w -/
def rs_sel (oc : Nat → Nat) (w : Nat) : List Nat := (rs_iv 0 256).filter (fun p => decide (oc p = w))
/-- the pending paths of level lv -/
def rs_pd (oc : Nat → Nat) (lv : Nat) : List Nat := (rs_iv 0 256).filter (fun p => decide (2 ^ lv ≤ p ∧ oc p = 4))
def rs_OC (ts : Nat → List Nat) (G : rs_G) (q lv : Nat) (oc : Nat → Nat) : Prop :=
  oc 0 = 0 ∧ oc 1 = (rs_path ts G q 1).1 ∧ ∀ p, 2 ≤ p → p < 256 → (p < 2 ^ (lv + 1) ∧ oc (p / 2) = 4 → oc p = (rs_path ts G q p).1) ∧ (¬ (p < 2 ^ (lv + 1) ∧ oc (p / 2) = 4) → oc p = 0)
/-- the places from a on where P holds -/
noncomputable def rs_fl (P : Nat → Prop) : Nat → Nat → List Nat
  | _, 0 => []
  | a, n + 1 => rs_if (P a) (a :: rs_fl P (a + 1) n) (rs_fl P (a + 1) n)
def rs_eu (nf : Nat) (link : Nat → Int32) : List Nat := (rs_iv 0 66).filter (fun v => decide (v < 6 * nf ∧ rs_lk link (704 + v) = none))
def rs_NU (s : Nat → List Nat) (wd : Nat) (cnt : Int32) (no nm : Nat → Int32) : Prop :=
  cnt = nI (rs_num s wd).length ∧ rs_A nm 0 (rs_num s wd) ∧ ∀ v, v < 66 → (v ∈ rs_num s wd → no v = nI (rs_ix v (rs_num s wd))) ∧ (v ∉ rs_num s wd → no v = -1)
def rs_LS (T : rs_T) (ms wd : Nat) (C : rs_V) (nf : Nat) (ne : List (List Nat × List Nat)) (f_trailTop f_callsDone f_neqCount f_numberedCount f_endUnknownCount : Int32) (a_link a_neqLeft a_neqRight a_numberOf a_numbered a_endUnknown : Nat → Int32) : Prop :=
  ∃ tt s, f_trailTop = nI tt ∧ f_callsDone = nI (nf - 1) ∧ f_neqCount = nI ne.length ∧ rs_XL T ms C nf a_link tt ∧ ne.length ≤ 24 ∧ rs_NQ T nf ne a_neqLeft a_neqRight ∧ (∀ v, rs_WK T (rs_lk a_link) [704 + v] (s v)) ∧ rs_NU s wd f_numberedCount a_numberOf a_numbered ∧
    f_endUnknownCount = nI (rs_eu nf a_link).length ∧ rs_A a_endUnknown 0 (rs_eu nf a_link)
def rs_KP (ms nf wd : Nat) (C : rs_V) (ne : List (List Nat × List Nat)) (f_constraintsReady f_keptCount : Int32) (a_kept : Nat → Int32) : Prop :=
  f_constraintsReady = 0 ∨ (f_constraintsReady ≠ 0 ∧ f_keptCount = nI (rs_fl (rs_Kept ms nf wd C ne) 0 ne.length).length ∧ rs_A a_kept 0 (rs_fl (rs_Kept ms nf wd C ne) 0 ne.length))
def rs_WF (T : rs_T) (G : rs_G) (gc ml : Nat) : Prop := 1 ≤ ml ∧ ml ≤ 7 ∧ T.2.2.2.2 ≤ 64 ∧ gc ≤ 48 ∧ (∀ t, T.2.2.2.2 ≤ t → t < 64 → T.1 t = 0) ∧ rs_GX T.2.2.2.2 gc G
def rs_TBX (T : rs_T) (G : rs_G) (gc ml : Nat) (f_maxLevel f_maxCalls f_maxSize f_termCount f_goalCount : Int32) (a_termKind a_termLeft a_termRight a_termSize a_goalKind a_goalFirst a_goalSecond a_goalThird a_goalFourth a_goalSize a_relationGoal : Nat → Int32) : Prop :=
  f_maxLevel = nI ml ∧ f_maxCalls = nI G.2.2.2.2.2.2.2.1 ∧ f_maxSize = nI G.2.2.2.2.2.2.2.2 ∧ f_termCount = nI T.2.2.2.2 ∧ f_goalCount = nI gc ∧ rs_TA T a_termKind a_termLeft a_termRight ∧ (∀ t, t < T.2.2.2.2 → a_termSize t = nI (T.2.2.2.1 t).length) ∧
  rs_GA gc G a_goalKind a_goalFirst a_goalSecond a_goalThird a_goalFourth a_relationGoal ∧ ∀ g, g < gc → a_goalSize g = nI (G.2.2.2.2.2.1 g)
def rs_TBY (T : rs_T) (G : rs_G) (gc ml : Nat) (g_maxLevel g_maxCalls g_maxSize g_terms g_goals : Int32) (b_termToken b_termLen b_kind b_goalSize b_part b_relation : Nat → Int32) : Prop :=
  g_maxLevel = nI ml ∧ g_maxCalls = nI G.2.2.2.2.2.2.2.1 ∧ g_maxSize = nI G.2.2.2.2.2.2.2.2 ∧ g_terms = nI T.2.2.2.2 ∧ g_goals = nI gc ∧ rs_TB T.2.2.2.2 T.2.2.2.1 b_termToken b_termLen ∧ rs_GB gc G b_kind b_part b_relation ∧ ∀ g, g < gc → b_goalSize g = nI (G.2.2.2.2.2.1 g)
def rs_LO (T : rs_T) (G : rs_G) (q wd : Nat) (oc : Nat → Nat) (f_trailTop f_callsDone f_neqCount f_loaded f_numberedCount f_endUnknownCount f_constraintsReady f_keptCount : Int32) (a_link a_neqLeft a_neqRight a_numberOf a_numbered a_endUnknown a_kept : Nat → Int32) : Prop :=
  f_loaded = -1 ∨ ∃ k, k < (rs_sel oc 1).length ∧ f_loaded = nI k ∧
    rs_LS T G.2.2.2.2.2.2.2.2 wd (rs_path T.2.2.2.1 G q ((rs_sel oc 1).getD k 0)).2.1 (rs_path T.2.2.2.1 G q ((rs_sel oc 1).getD k 0)).2.2.1 (rs_path T.2.2.2.1 G q ((rs_sel oc 1).getD k 0)).2.2.2.1 f_trailTop f_callsDone f_neqCount f_numberedCount f_endUnknownCount a_link a_neqLeft a_neqRight a_numberOf a_numbered a_endUnknown ∧
    rs_KP G.2.2.2.2.2.2.2.2 (rs_path T.2.2.2.1 G q ((rs_sel oc 1).getD k 0)).2.2.1 wd (rs_path T.2.2.2.1 G q ((rs_sel oc 1).getD k 0)).2.1 (rs_path T.2.2.2.1 G q ((rs_sel oc 1).getD k 0)).2.2.2.1 f_constraintsReady f_keptCount a_kept
def rs_SS (T : rs_T) (G : rs_G) (gc ml q wd lv : Nat) (oc : Nat → Nat) (f_queryGoal f_queryWidth f_levelNow f_pendingCount f_answerCount f_failureCount f_cutCount : Int32) (a_pendingPath a_answerPath : Nat → Int32) (g_query g_read g_level : Int32) (b_outcome : Nat → Int32) : Prop :=
  q < gc ∧ 1 ≤ wd ∧ wd ≤ 6 ∧ lv ≤ ml ∧ rs_OC T.2.2.2.1 G q lv oc ∧ f_queryGoal = nI q ∧ f_queryWidth = nI wd ∧ f_levelNow = nI lv ∧
  f_pendingCount = nI (rs_pd oc lv).length ∧ f_answerCount = nI (rs_sel oc 1).length ∧ f_failureCount = nI (rs_sel oc 2).length ∧ f_cutCount = nI (rs_sel oc 3).length ∧ rs_A a_pendingPath 0 (rs_pd oc lv) ∧ rs_A a_answerPath 0 (rs_sel oc 1) ∧
  g_query = nI q ∧ g_read = nI wd ∧ g_level = nI lv ∧ ∀ p, p < 256 → b_outcome p = nI (oc p)
def rs_SP (T : rs_T) (G : rs_G) (gc ml : Nat) (f_searching f_queryGoal f_queryWidth f_levelNow f_pendingCount f_answerCount f_failureCount f_cutCount f_trailTop f_callsDone f_neqCount f_loaded f_numberedCount f_endUnknownCount f_constraintsReady f_keptCount : Int32) (a_pendingPath a_answerPath a_link a_neqLeft a_neqRight a_numberOf a_numbered a_endUnknown a_kept : Nat → Int32) (g_searching g_query g_read g_level : Int32) (b_outcome : Nat → Int32) : Prop :=
  g_searching = f_searching ∧ (f_searching = 0 ∨ (f_searching = 1 ∧ ∃ q wd lv oc, rs_SS T G gc ml q wd lv oc f_queryGoal f_queryWidth f_levelNow f_pendingCount f_answerCount f_failureCount f_cutCount a_pendingPath a_answerPath g_query g_read g_level b_outcome ∧
    rs_LO T G q wd oc f_trailTop f_callsDone f_neqCount f_loaded f_numberedCount f_endUnknownCount f_constraintsReady f_keptCount a_link a_neqLeft a_neqRight a_numberOf a_numbered a_endUnknown a_kept))
def rs_REL (f_kindSymbol f_kindSlot f_kindPair f_goalEq f_goalNeq f_goalBoth f_goalEither f_goalCall f_goOn f_outAnswer f_outFailure f_outCut f_outPending f_firstVariable f_maxLevel f_maxCalls f_maxSize f_termCount f_goalCount f_searching f_queryGoal f_queryWidth f_levelNow f_pendingCount f_nextCount f_answerCount f_failureCount f_cutCount f_trailTop f_callsDone f_choicesLeft f_neqCount f_workTop f_walkTop f_loaded f_numberedCount f_endUnknownCount f_constraintsReady f_relevantMask f_keptCount : Int32) (a_termKind a_termLeft a_termRight a_termSize a_goalKind a_goalFirst a_goalSecond a_goalThird a_goalFourth a_goalSize a_relationGoal a_pendingPath a_nextPath a_answerPath a_link a_trail a_neqLeft a_neqRight a_workGoal a_workFrame a_stackA a_stackB a_walk a_numberOf a_numbered a_endUnknown a_implied a_kept a_sightings a_lastSeen : Nat → Int32) (g_maxLevel g_maxCalls g_maxSize g_terms g_goals g_searching g_query g_read g_level g_frames g_neqs g_numbered g_kept : Int32) (b_termToken b_termLen b_kind b_goalSize b_part b_relation b_outcome b_val b_len b_neqT b_neqU b_neqF b_stackGoal b_stackFrame b_buf b_bufLen b_tmp b_base b_baseLen b_num b_relevant b_implies b_keptAt : Nat → Int32) : Prop :=
  ∃ (T : rs_T) (G : rs_G) (gc ml : Nat), rs_WF T G gc ml ∧ rs_TBX T G gc ml f_maxLevel f_maxCalls f_maxSize f_termCount f_goalCount a_termKind a_termLeft a_termRight a_termSize a_goalKind a_goalFirst a_goalSecond a_goalThird a_goalFourth a_goalSize a_relationGoal ∧
    rs_TBY T G gc ml g_maxLevel g_maxCalls g_maxSize g_terms g_goals b_termToken b_termLen b_kind b_goalSize b_part b_relation ∧ rs_SP T G gc ml f_searching f_queryGoal f_queryWidth f_levelNow f_pendingCount f_answerCount f_failureCount f_cutCount f_trailTop f_callsDone f_neqCount f_loaded f_numberedCount f_endUnknownCount f_constraintsReady f_keptCount a_pendingPath a_answerPath a_link a_neqLeft a_neqRight a_numberOf a_numbered a_endUnknown a_kept g_searching g_query g_read g_level b_outcome
/-- the relation at the head of a turn -/
def i_Rel (_ : Nat) (u : SX) (v : SY) : Prop := rs_REL u.1 u.2.1 u.2.2.1 u.2.2.2.1 u.2.2.2.2.1 u.2.2.2.2.2.1 u.2.2.2.2.2.2.1 u.2.2.2.2.2.2.2.1 u.2.2.2.2.2.2.2.2.1 u.2.2.2.2.2.2.2.2.2.1 u.2.2.2.2.2.2.2.2.2.2.1 u.2.2.2.2.2.2.2.2.2.2.2.1 u.2.2.2.2.2.2.2.2.2.2.2.2.1 u.2.2.2.2.2.2.2.2.2.2.2.2.2.1 u.2.2.2.2.2.2.2.2.2.2.2.2.2.2.1 u.2.2.2.2.2.2.2.2.2.2.2.2.2.2.2.1 u.2.2.2.2.2.2.2.2.2.2.2.2.2.2.2.2.1 u.2.2.2.2.2.2.2.2.2.2.2.2.2.2.2.2.2.1 u.2.2.2.2.2.2.2.2.2.2.2.2.2.2.2.2.2.2.1 u.2.2.2.2.2.2.2.2.2.2.2.2.2.2.2.2.2.2.2.1 u.2.2.2.2.2.2.2.2.2.2.2.2.2.2.2.2.2.2.2.2.1 u.2.2.2.2.2.2.2.2.2.2.2.2.2.2.2.2.2.2.2.2.2.1 u.2.2.2.2.2.2.2.2.2.2.2.2.2.2.2.2.2.2.2.2.2.2.1 u.2.2.2.2.2.2.2.2.2.2.2.2.2.2.2.2.2.2.2.2.2.2.2.1 u.2.2.2.2.2.2.2.2.2.2.2.2.2.2.2.2.2.2.2.2.2.2.2.2.1 u.2.2.2.2.2.2.2.2.2.2.2.2.2.2.2.2.2.2.2.2.2.2.2.2.2.1 u.2.2.2.2.2.2.2.2.2.2.2.2.2.2.2.2.2.2.2.2.2.2.2.2.2.2.1 u.2.2.2.2.2.2.2.2.2.2.2.2.2.2.2.2.2.2.2.2.2.2.2.2.2.2.2.1 u.2.2.2.2.2.2.2.2.2.2.2.2.2.2.2.2.2.2.2.2.2.2.2.2.2.2.2.2.1 u.2.2.2.2.2.2.2.2.2.2.2.2.2.2.2.2.2.2.2.2.2.2.2.2.2.2.2.2.2.1 u.2.2.2.2.2.2.2.2.2.2.2.2.2.2.2.2.2.2.2.2.2.2.2.2.2.2.2.2.2.2.1 u.2.2.2.2.2.2.2.2.2.2.2.2.2.2.2.2.2.2.2.2.2.2.2.2.2.2.2.2.2.2.2.1 u.2.2.2.2.2.2.2.2.2.2.2.2.2.2.2.2.2.2.2.2.2.2.2.2.2.2.2.2.2.2.2.2.1 u.2.2.2.2.2.2.2.2.2.2.2.2.2.2.2.2.2.2.2.2.2.2.2.2.2.2.2.2.2.2.2.2.2.1 u.2.2.2.2.2.2.2.2.2.2.2.2.2.2.2.2.2.2.2.2.2.2.2.2.2.2.2.2.2.2.2.2.2.2.1 u.2.2.2.2.2.2.2.2.2.2.2.2.2.2.2.2.2.2.2.2.2.2.2.2.2.2.2.2.2.2.2.2.2.2.2.1 u.2.2.2.2.2.2.2.2.2.2.2.2.2.2.2.2.2.2.2.2.2.2.2.2.2.2.2.2.2.2.2.2.2.2.2.2.1 u.2.2.2.2.2.2.2.2.2.2.2.2.2.2.2.2.2.2.2.2.2.2.2.2.2.2.2.2.2.2.2.2.2.2.2.2.2.1 u.2.2.2.2.2.2.2.2.2.2.2.2.2.2.2.2.2.2.2.2.2.2.2.2.2.2.2.2.2.2.2.2.2.2.2.2.2.2.1 u.2.2.2.2.2.2.2.2.2.2.2.2.2.2.2.2.2.2.2.2.2.2.2.2.2.2.2.2.2.2.2.2.2.2.2.2.2.2.2.1 u.2.2.2.2.2.2.2.2.2.2.2.2.2.2.2.2.2.2.2.2.2.2.2.2.2.2.2.2.2.2.2.2.2.2.2.2.2.2.2.2.1 u.2.2.2.2.2.2.2.2.2.2.2.2.2.2.2.2.2.2.2.2.2.2.2.2.2.2.2.2.2.2.2.2.2.2.2.2.2.2.2.2.2.1 u.2.2.2.2.2.2.2.2.2.2.2.2.2.2.2.2.2.2.2.2.2.2.2.2.2.2.2.2.2.2.2.2.2.2.2.2.2.2.2.2.2.2.1 u.2.2.2.2.2.2.2.2.2.2.2.2.2.2.2.2.2.2.2.2.2.2.2.2.2.2.2.2.2.2.2.2.2.2.2.2.2.2.2.2.2.2.2.1 u.2.2.2.2.2.2.2.2.2.2.2.2.2.2.2.2.2.2.2.2.2.2.2.2.2.2.2.2.2.2.2.2.2.2.2.2.2.2.2.2.2.2.2.2.1 u.2.2.2.2.2.2.2.2.2.2.2.2.2.2.2.2.2.2.2.2.2.2.2.2.2.2.2.2.2.2.2.2.2.2.2.2.2.2.2.2.2.2.2.2.2.1 u.2.2.2.2.2.2.2.2.2.2.2.2.2.2.2.2.2.2.2.2.2.2.2.2.2.2.2.2.2.2.2.2.2.2.2.2.2.2.2.2.2.2.2.2.2.2.1 u.2.2.2.2.2.2.2.2.2.2.2.2.2.2.2.2.2.2.2.2.2.2.2.2.2.2.2.2.2.2.2.2.2.2.2.2.2.2.2.2.2.2.2.2.2.2.2.1 u.2.2.2.2.2.2.2.2.2.2.2.2.2.2.2.2.2.2.2.2.2.2.2.2.2.2.2.2.2.2.2.2.2.2.2.2.2.2.2.2.2.2.2.2.2.2.2.2.1 u.2.2.2.2.2.2.2.2.2.2.2.2.2.2.2.2.2.2.2.2.2.2.2.2.2.2.2.2.2.2.2.2.2.2.2.2.2.2.2.2.2.2.2.2.2.2.2.2.2.1 u.2.2.2.2.2.2.2.2.2.2.2.2.2.2.2.2.2.2.2.2.2.2.2.2.2.2.2.2.2.2.2.2.2.2.2.2.2.2.2.2.2.2.2.2.2.2.2.2.2.2.1 u.2.2.2.2.2.2.2.2.2.2.2.2.2.2.2.2.2.2.2.2.2.2.2.2.2.2.2.2.2.2.2.2.2.2.2.2.2.2.2.2.2.2.2.2.2.2.2.2.2.2.2.1 u.2.2.2.2.2.2.2.2.2.2.2.2.2.2.2.2.2.2.2.2.2.2.2.2.2.2.2.2.2.2.2.2.2.2.2.2.2.2.2.2.2.2.2.2.2.2.2.2.2.2.2.2.1 u.2.2.2.2.2.2.2.2.2.2.2.2.2.2.2.2.2.2.2.2.2.2.2.2.2.2.2.2.2.2.2.2.2.2.2.2.2.2.2.2.2.2.2.2.2.2.2.2.2.2.2.2.2.1 u.2.2.2.2.2.2.2.2.2.2.2.2.2.2.2.2.2.2.2.2.2.2.2.2.2.2.2.2.2.2.2.2.2.2.2.2.2.2.2.2.2.2.2.2.2.2.2.2.2.2.2.2.2.2.1 u.2.2.2.2.2.2.2.2.2.2.2.2.2.2.2.2.2.2.2.2.2.2.2.2.2.2.2.2.2.2.2.2.2.2.2.2.2.2.2.2.2.2.2.2.2.2.2.2.2.2.2.2.2.2.2.1 u.2.2.2.2.2.2.2.2.2.2.2.2.2.2.2.2.2.2.2.2.2.2.2.2.2.2.2.2.2.2.2.2.2.2.2.2.2.2.2.2.2.2.2.2.2.2.2.2.2.2.2.2.2.2.2.2.1 u.2.2.2.2.2.2.2.2.2.2.2.2.2.2.2.2.2.2.2.2.2.2.2.2.2.2.2.2.2.2.2.2.2.2.2.2.2.2.2.2.2.2.2.2.2.2.2.2.2.2.2.2.2.2.2.2.2.1 u.2.2.2.2.2.2.2.2.2.2.2.2.2.2.2.2.2.2.2.2.2.2.2.2.2.2.2.2.2.2.2.2.2.2.2.2.2.2.2.2.2.2.2.2.2.2.2.2.2.2.2.2.2.2.2.2.2.2.1 u.2.2.2.2.2.2.2.2.2.2.2.2.2.2.2.2.2.2.2.2.2.2.2.2.2.2.2.2.2.2.2.2.2.2.2.2.2.2.2.2.2.2.2.2.2.2.2.2.2.2.2.2.2.2.2.2.2.2.2.1 u.2.2.2.2.2.2.2.2.2.2.2.2.2.2.2.2.2.2.2.2.2.2.2.2.2.2.2.2.2.2.2.2.2.2.2.2.2.2.2.2.2.2.2.2.2.2.2.2.2.2.2.2.2.2.2.2.2.2.2.2.1 u.2.2.2.2.2.2.2.2.2.2.2.2.2.2.2.2.2.2.2.2.2.2.2.2.2.2.2.2.2.2.2.2.2.2.2.2.2.2.2.2.2.2.2.2.2.2.2.2.2.2.2.2.2.2.2.2.2.2.2.2.2.1 u.2.2.2.2.2.2.2.2.2.2.2.2.2.2.2.2.2.2.2.2.2.2.2.2.2.2.2.2.2.2.2.2.2.2.2.2.2.2.2.2.2.2.2.2.2.2.2.2.2.2.2.2.2.2.2.2.2.2.2.2.2.2.1 u.2.2.2.2.2.2.2.2.2.2.2.2.2.2.2.2.2.2.2.2.2.2.2.2.2.2.2.2.2.2.2.2.2.2.2.2.2.2.2.2.2.2.2.2.2.2.2.2.2.2.2.2.2.2.2.2.2.2.2.2.2.2.2.1 u.2.2.2.2.2.2.2.2.2.2.2.2.2.2.2.2.2.2.2.2.2.2.2.2.2.2.2.2.2.2.2.2.2.2.2.2.2.2.2.2.2.2.2.2.2.2.2.2.2.2.2.2.2.2.2.2.2.2.2.2.2.2.2.2.1 u.2.2.2.2.2.2.2.2.2.2.2.2.2.2.2.2.2.2.2.2.2.2.2.2.2.2.2.2.2.2.2.2.2.2.2.2.2.2.2.2.2.2.2.2.2.2.2.2.2.2.2.2.2.2.2.2.2.2.2.2.2.2.2.2.2.1 u.2.2.2.2.2.2.2.2.2.2.2.2.2.2.2.2.2.2.2.2.2.2.2.2.2.2.2.2.2.2.2.2.2.2.2.2.2.2.2.2.2.2.2.2.2.2.2.2.2.2.2.2.2.2.2.2.2.2.2.2.2.2.2.2.2.2.1 u.2.2.2.2.2.2.2.2.2.2.2.2.2.2.2.2.2.2.2.2.2.2.2.2.2.2.2.2.2.2.2.2.2.2.2.2.2.2.2.2.2.2.2.2.2.2.2.2.2.2.2.2.2.2.2.2.2.2.2.2.2.2.2.2.2.2.2.1 u.2.2.2.2.2.2.2.2.2.2.2.2.2.2.2.2.2.2.2.2.2.2.2.2.2.2.2.2.2.2.2.2.2.2.2.2.2.2.2.2.2.2.2.2.2.2.2.2.2.2.2.2.2.2.2.2.2.2.2.2.2.2.2.2.2.2.2.2.1 u.2.2.2.2.2.2.2.2.2.2.2.2.2.2.2.2.2.2.2.2.2.2.2.2.2.2.2.2.2.2.2.2.2.2.2.2.2.2.2.2.2.2.2.2.2.2.2.2.2.2.2.2.2.2.2.2.2.2.2.2.2.2.2.2.2.2.2.2.2 v.1 v.2.1 v.2.2.1 v.2.2.2.1 v.2.2.2.2.1 v.2.2.2.2.2.1 v.2.2.2.2.2.2.1 v.2.2.2.2.2.2.2.1 v.2.2.2.2.2.2.2.2.1 v.2.2.2.2.2.2.2.2.2.1 v.2.2.2.2.2.2.2.2.2.2.1 v.2.2.2.2.2.2.2.2.2.2.2.1 v.2.2.2.2.2.2.2.2.2.2.2.2.1 v.2.2.2.2.2.2.2.2.2.2.2.2.2.1 v.2.2.2.2.2.2.2.2.2.2.2.2.2.2.1 v.2.2.2.2.2.2.2.2.2.2.2.2.2.2.2.1 v.2.2.2.2.2.2.2.2.2.2.2.2.2.2.2.2.1 v.2.2.2.2.2.2.2.2.2.2.2.2.2.2.2.2.2.1 v.2.2.2.2.2.2.2.2.2.2.2.2.2.2.2.2.2.2.1 v.2.2.2.2.2.2.2.2.2.2.2.2.2.2.2.2.2.2.2.1 v.2.2.2.2.2.2.2.2.2.2.2.2.2.2.2.2.2.2.2.2.1 v.2.2.2.2.2.2.2.2.2.2.2.2.2.2.2.2.2.2.2.2.2.1 v.2.2.2.2.2.2.2.2.2.2.2.2.2.2.2.2.2.2.2.2.2.2.1 v.2.2.2.2.2.2.2.2.2.2.2.2.2.2.2.2.2.2.2.2.2.2.2.1 v.2.2.2.2.2.2.2.2.2.2.2.2.2.2.2.2.2.2.2.2.2.2.2.2.1 v.2.2.2.2.2.2.2.2.2.2.2.2.2.2.2.2.2.2.2.2.2.2.2.2.2.1 v.2.2.2.2.2.2.2.2.2.2.2.2.2.2.2.2.2.2.2.2.2.2.2.2.2.2.1 v.2.2.2.2.2.2.2.2.2.2.2.2.2.2.2.2.2.2.2.2.2.2.2.2.2.2.2.1 v.2.2.2.2.2.2.2.2.2.2.2.2.2.2.2.2.2.2.2.2.2.2.2.2.2.2.2.2.1 v.2.2.2.2.2.2.2.2.2.2.2.2.2.2.2.2.2.2.2.2.2.2.2.2.2.2.2.2.2.1 v.2.2.2.2.2.2.2.2.2.2.2.2.2.2.2.2.2.2.2.2.2.2.2.2.2.2.2.2.2.2.1 v.2.2.2.2.2.2.2.2.2.2.2.2.2.2.2.2.2.2.2.2.2.2.2.2.2.2.2.2.2.2.2.1 v.2.2.2.2.2.2.2.2.2.2.2.2.2.2.2.2.2.2.2.2.2.2.2.2.2.2.2.2.2.2.2.2.1 v.2.2.2.2.2.2.2.2.2.2.2.2.2.2.2.2.2.2.2.2.2.2.2.2.2.2.2.2.2.2.2.2.2.1 v.2.2.2.2.2.2.2.2.2.2.2.2.2.2.2.2.2.2.2.2.2.2.2.2.2.2.2.2.2.2.2.2.2.2.1 v.2.2.2.2.2.2.2.2.2.2.2.2.2.2.2.2.2.2.2.2.2.2.2.2.2.2.2.2.2.2.2.2.2.2.2
theorem i_up {k : Nat} {u : SX} {v : SY} (h : i_Rel k u v) : i_Rel (k + 5) u v := h
theorem rs_el {P : SX → SY → Prop} {k : Nat} {u : SX} {v : SY} (h : ∀ (f_kindSymbol f_kindSlot f_kindPair f_goalEq f_goalNeq f_goalBoth f_goalEither f_goalCall f_goOn f_outAnswer f_outFailure f_outCut f_outPending f_firstVariable f_maxLevel f_maxCalls f_maxSize f_termCount f_goalCount f_searching f_queryGoal f_queryWidth f_levelNow f_pendingCount f_nextCount f_answerCount f_failureCount f_cutCount f_trailTop f_callsDone f_choicesLeft f_neqCount f_workTop f_walkTop f_loaded f_numberedCount f_endUnknownCount f_constraintsReady f_relevantMask f_keptCount : Int32) (a_termKind a_termLeft a_termRight a_termSize a_goalKind a_goalFirst a_goalSecond a_goalThird a_goalFourth a_goalSize a_relationGoal a_pendingPath a_nextPath a_answerPath a_link a_trail a_neqLeft a_neqRight a_workGoal a_workFrame a_stackA a_stackB a_walk a_numberOf a_numbered a_endUnknown a_implied a_kept a_sightings a_lastSeen : Nat → Int32) (g_maxLevel g_maxCalls g_maxSize g_terms g_goals g_searching g_query g_read g_level g_frames g_neqs g_numbered g_kept : Int32) (b_termToken b_termLen b_kind b_goalSize b_part b_relation b_outcome b_val b_len b_neqT b_neqU b_neqF b_stackGoal b_stackFrame b_buf b_bufLen b_tmp b_base b_baseLen b_num b_relevant b_implies b_keptAt : Nat → Int32), rs_REL f_kindSymbol f_kindSlot f_kindPair f_goalEq f_goalNeq f_goalBoth f_goalEither f_goalCall f_goOn f_outAnswer f_outFailure f_outCut f_outPending f_firstVariable f_maxLevel f_maxCalls f_maxSize f_termCount f_goalCount f_searching f_queryGoal f_queryWidth f_levelNow f_pendingCount f_nextCount f_answerCount f_failureCount f_cutCount f_trailTop f_callsDone f_choicesLeft f_neqCount f_workTop f_walkTop f_loaded f_numberedCount f_endUnknownCount f_constraintsReady f_relevantMask f_keptCount a_termKind a_termLeft a_termRight a_termSize a_goalKind a_goalFirst a_goalSecond a_goalThird a_goalFourth a_goalSize a_relationGoal a_pendingPath a_nextPath a_answerPath a_link a_trail a_neqLeft a_neqRight a_workGoal a_workFrame a_stackA a_stackB a_walk a_numberOf a_numbered a_endUnknown a_implied a_kept a_sightings a_lastSeen g_maxLevel g_maxCalls g_maxSize g_terms g_goals g_searching g_query g_read g_level g_frames g_neqs g_numbered g_kept b_termToken b_termLen b_kind b_goalSize b_part b_relation b_outcome b_val b_len b_neqT b_neqU b_neqF b_stackGoal b_stackFrame b_buf b_bufLen b_tmp b_base b_baseLen b_num b_relevant b_implies b_keptAt → P (f_kindSymbol, f_kindSlot, f_kindPair, f_goalEq, f_goalNeq, f_goalBoth, f_goalEither, f_goalCall, f_goOn, f_outAnswer, f_outFailure, f_outCut, f_outPending, f_firstVariable, f_maxLevel, f_maxCalls, f_maxSize, f_termCount, f_goalCount, f_searching, f_queryGoal, f_queryWidth, f_levelNow, f_pendingCount, f_nextCount, f_answerCount, f_failureCount, f_cutCount, f_trailTop, f_callsDone, f_choicesLeft, f_neqCount, f_workTop, f_walkTop, f_loaded, f_numberedCount, f_endUnknownCount, f_constraintsReady, f_relevantMask, f_keptCount, a_termKind, a_termLeft, a_termRight, a_termSize, a_goalKind, a_goalFirst, a_goalSecond, a_goalThird, a_goalFourth, a_goalSize, a_relationGoal, a_pendingPath, a_nextPath, a_answerPath, a_link, a_trail, a_neqLeft, a_neqRight, a_workGoal, a_workFrame, a_stackA, a_stackB, a_walk, a_numberOf, a_numbered, a_endUnknown, a_implied, a_kept, a_sightings, a_lastSeen) (g_maxLevel, g_maxCalls, g_maxSize, g_terms, g_goals, g_searching, g_query, g_read, g_level, g_frames, g_neqs, g_numbered, g_kept, b_termToken, b_termLen, b_kind, b_goalSize, b_part, b_relation, b_outcome, b_val, b_len, b_neqT, b_neqU, b_neqF, b_stackGoal, b_stackFrame, b_buf, b_bufLen, b_tmp, b_base, b_baseLen, b_num, b_relevant, b_implies, b_keptAt)) (I : i_Rel k u v) : P u v := h u.1 u.2.1 u.2.2.1 u.2.2.2.1 u.2.2.2.2.1 u.2.2.2.2.2.1 u.2.2.2.2.2.2.1 u.2.2.2.2.2.2.2.1 u.2.2.2.2.2.2.2.2.1 u.2.2.2.2.2.2.2.2.2.1 u.2.2.2.2.2.2.2.2.2.2.1 u.2.2.2.2.2.2.2.2.2.2.2.1 u.2.2.2.2.2.2.2.2.2.2.2.2.1 u.2.2.2.2.2.2.2.2.2.2.2.2.2.1 u.2.2.2.2.2.2.2.2.2.2.2.2.2.2.1 u.2.2.2.2.2.2.2.2.2.2.2.2.2.2.2.1 u.2.2.2.2.2.2.2.2.2.2.2.2.2.2.2.2.1 u.2.2.2.2.2.2.2.2.2.2.2.2.2.2.2.2.2.1 u.2.2.2.2.2.2.2.2.2.2.2.2.2.2.2.2.2.2.1 u.2.2.2.2.2.2.2.2.2.2.2.2.2.2.2.2.2.2.2.1 u.2.2.2.2.2.2.2.2.2.2.2.2.2.2.2.2.2.2.2.2.1 u.2.2.2.2.2.2.2.2.2.2.2.2.2.2.2.2.2.2.2.2.2.1 u.2.2.2.2.2.2.2.2.2.2.2.2.2.2.2.2.2.2.2.2.2.2.1 u.2.2.2.2.2.2.2.2.2.2.2.2.2.2.2.2.2.2.2.2.2.2.2.1 u.2.2.2.2.2.2.2.2.2.2.2.2.2.2.2.2.2.2.2.2.2.2.2.2.1 u.2.2.2.2.2.2.2.2.2.2.2.2.2.2.2.2.2.2.2.2.2.2.2.2.2.1 u.2.2.2.2.2.2.2.2.2.2.2.2.2.2.2.2.2.2.2.2.2.2.2.2.2.2.1 u.2.2.2.2.2.2.2.2.2.2.2.2.2.2.2.2.2.2.2.2.2.2.2.2.2.2.2.1 u.2.2.2.2.2.2.2.2.2.2.2.2.2.2.2.2.2.2.2.2.2.2.2.2.2.2.2.2.1 u.2.2.2.2.2.2.2.2.2.2.2.2.2.2.2.2.2.2.2.2.2.2.2.2.2.2.2.2.2.1 u.2.2.2.2.2.2.2.2.2.2.2.2.2.2.2.2.2.2.2.2.2.2.2.2.2.2.2.2.2.2.1 u.2.2.2.2.2.2.2.2.2.2.2.2.2.2.2.2.2.2.2.2.2.2.2.2.2.2.2.2.2.2.2.1 u.2.2.2.2.2.2.2.2.2.2.2.2.2.2.2.2.2.2.2.2.2.2.2.2.2.2.2.2.2.2.2.2.1 u.2.2.2.2.2.2.2.2.2.2.2.2.2.2.2.2.2.2.2.2.2.2.2.2.2.2.2.2.2.2.2.2.2.1 u.2.2.2.2.2.2.2.2.2.2.2.2.2.2.2.2.2.2.2.2.2.2.2.2.2.2.2.2.2.2.2.2.2.2.1 u.2.2.2.2.2.2.2.2.2.2.2.2.2.2.2.2.2.2.2.2.2.2.2.2.2.2.2.2.2.2.2.2.2.2.2.1 u.2.2.2.2.2.2.2.2.2.2.2.2.2.2.2.2.2.2.2.2.2.2.2.2.2.2.2.2.2.2.2.2.2.2.2.2.1 u.2.2.2.2.2.2.2.2.2.2.2.2.2.2.2.2.2.2.2.2.2.2.2.2.2.2.2.2.2.2.2.2.2.2.2.2.2.1 u.2.2.2.2.2.2.2.2.2.2.2.2.2.2.2.2.2.2.2.2.2.2.2.2.2.2.2.2.2.2.2.2.2.2.2.2.2.2.1 u.2.2.2.2.2.2.2.2.2.2.2.2.2.2.2.2.2.2.2.2.2.2.2.2.2.2.2.2.2.2.2.2.2.2.2.2.2.2.2.1 u.2.2.2.2.2.2.2.2.2.2.2.2.2.2.2.2.2.2.2.2.2.2.2.2.2.2.2.2.2.2.2.2.2.2.2.2.2.2.2.2.1 u.2.2.2.2.2.2.2.2.2.2.2.2.2.2.2.2.2.2.2.2.2.2.2.2.2.2.2.2.2.2.2.2.2.2.2.2.2.2.2.2.2.1 u.2.2.2.2.2.2.2.2.2.2.2.2.2.2.2.2.2.2.2.2.2.2.2.2.2.2.2.2.2.2.2.2.2.2.2.2.2.2.2.2.2.2.1 u.2.2.2.2.2.2.2.2.2.2.2.2.2.2.2.2.2.2.2.2.2.2.2.2.2.2.2.2.2.2.2.2.2.2.2.2.2.2.2.2.2.2.2.1 u.2.2.2.2.2.2.2.2.2.2.2.2.2.2.2.2.2.2.2.2.2.2.2.2.2.2.2.2.2.2.2.2.2.2.2.2.2.2.2.2.2.2.2.2.1 u.2.2.2.2.2.2.2.2.2.2.2.2.2.2.2.2.2.2.2.2.2.2.2.2.2.2.2.2.2.2.2.2.2.2.2.2.2.2.2.2.2.2.2.2.2.1 u.2.2.2.2.2.2.2.2.2.2.2.2.2.2.2.2.2.2.2.2.2.2.2.2.2.2.2.2.2.2.2.2.2.2.2.2.2.2.2.2.2.2.2.2.2.2.1 u.2.2.2.2.2.2.2.2.2.2.2.2.2.2.2.2.2.2.2.2.2.2.2.2.2.2.2.2.2.2.2.2.2.2.2.2.2.2.2.2.2.2.2.2.2.2.2.1 u.2.2.2.2.2.2.2.2.2.2.2.2.2.2.2.2.2.2.2.2.2.2.2.2.2.2.2.2.2.2.2.2.2.2.2.2.2.2.2.2.2.2.2.2.2.2.2.2.1 u.2.2.2.2.2.2.2.2.2.2.2.2.2.2.2.2.2.2.2.2.2.2.2.2.2.2.2.2.2.2.2.2.2.2.2.2.2.2.2.2.2.2.2.2.2.2.2.2.2.1 u.2.2.2.2.2.2.2.2.2.2.2.2.2.2.2.2.2.2.2.2.2.2.2.2.2.2.2.2.2.2.2.2.2.2.2.2.2.2.2.2.2.2.2.2.2.2.2.2.2.2.1 u.2.2.2.2.2.2.2.2.2.2.2.2.2.2.2.2.2.2.2.2.2.2.2.2.2.2.2.2.2.2.2.2.2.2.2.2.2.2.2.2.2.2.2.2.2.2.2.2.2.2.2.1 u.2.2.2.2.2.2.2.2.2.2.2.2.2.2.2.2.2.2.2.2.2.2.2.2.2.2.2.2.2.2.2.2.2.2.2.2.2.2.2.2.2.2.2.2.2.2.2.2.2.2.2.2.1 u.2.2.2.2.2.2.2.2.2.2.2.2.2.2.2.2.2.2.2.2.2.2.2.2.2.2.2.2.2.2.2.2.2.2.2.2.2.2.2.2.2.2.2.2.2.2.2.2.2.2.2.2.2.1 u.2.2.2.2.2.2.2.2.2.2.2.2.2.2.2.2.2.2.2.2.2.2.2.2.2.2.2.2.2.2.2.2.2.2.2.2.2.2.2.2.2.2.2.2.2.2.2.2.2.2.2.2.2.2.1 u.2.2.2.2.2.2.2.2.2.2.2.2.2.2.2.2.2.2.2.2.2.2.2.2.2.2.2.2.2.2.2.2.2.2.2.2.2.2.2.2.2.2.2.2.2.2.2.2.2.2.2.2.2.2.2.1 u.2.2.2.2.2.2.2.2.2.2.2.2.2.2.2.2.2.2.2.2.2.2.2.2.2.2.2.2.2.2.2.2.2.2.2.2.2.2.2.2.2.2.2.2.2.2.2.2.2.2.2.2.2.2.2.2.1 u.2.2.2.2.2.2.2.2.2.2.2.2.2.2.2.2.2.2.2.2.2.2.2.2.2.2.2.2.2.2.2.2.2.2.2.2.2.2.2.2.2.2.2.2.2.2.2.2.2.2.2.2.2.2.2.2.2.1 u.2.2.2.2.2.2.2.2.2.2.2.2.2.2.2.2.2.2.2.2.2.2.2.2.2.2.2.2.2.2.2.2.2.2.2.2.2.2.2.2.2.2.2.2.2.2.2.2.2.2.2.2.2.2.2.2.2.2.1 u.2.2.2.2.2.2.2.2.2.2.2.2.2.2.2.2.2.2.2.2.2.2.2.2.2.2.2.2.2.2.2.2.2.2.2.2.2.2.2.2.2.2.2.2.2.2.2.2.2.2.2.2.2.2.2.2.2.2.2.1 u.2.2.2.2.2.2.2.2.2.2.2.2.2.2.2.2.2.2.2.2.2.2.2.2.2.2.2.2.2.2.2.2.2.2.2.2.2.2.2.2.2.2.2.2.2.2.2.2.2.2.2.2.2.2.2.2.2.2.2.2.1 u.2.2.2.2.2.2.2.2.2.2.2.2.2.2.2.2.2.2.2.2.2.2.2.2.2.2.2.2.2.2.2.2.2.2.2.2.2.2.2.2.2.2.2.2.2.2.2.2.2.2.2.2.2.2.2.2.2.2.2.2.2.1 u.2.2.2.2.2.2.2.2.2.2.2.2.2.2.2.2.2.2.2.2.2.2.2.2.2.2.2.2.2.2.2.2.2.2.2.2.2.2.2.2.2.2.2.2.2.2.2.2.2.2.2.2.2.2.2.2.2.2.2.2.2.2.1 u.2.2.2.2.2.2.2.2.2.2.2.2.2.2.2.2.2.2.2.2.2.2.2.2.2.2.2.2.2.2.2.2.2.2.2.2.2.2.2.2.2.2.2.2.2.2.2.2.2.2.2.2.2.2.2.2.2.2.2.2.2.2.2.1 u.2.2.2.2.2.2.2.2.2.2.2.2.2.2.2.2.2.2.2.2.2.2.2.2.2.2.2.2.2.2.2.2.2.2.2.2.2.2.2.2.2.2.2.2.2.2.2.2.2.2.2.2.2.2.2.2.2.2.2.2.2.2.2.2.1 u.2.2.2.2.2.2.2.2.2.2.2.2.2.2.2.2.2.2.2.2.2.2.2.2.2.2.2.2.2.2.2.2.2.2.2.2.2.2.2.2.2.2.2.2.2.2.2.2.2.2.2.2.2.2.2.2.2.2.2.2.2.2.2.2.2.1 u.2.2.2.2.2.2.2.2.2.2.2.2.2.2.2.2.2.2.2.2.2.2.2.2.2.2.2.2.2.2.2.2.2.2.2.2.2.2.2.2.2.2.2.2.2.2.2.2.2.2.2.2.2.2.2.2.2.2.2.2.2.2.2.2.2.2.1 u.2.2.2.2.2.2.2.2.2.2.2.2.2.2.2.2.2.2.2.2.2.2.2.2.2.2.2.2.2.2.2.2.2.2.2.2.2.2.2.2.2.2.2.2.2.2.2.2.2.2.2.2.2.2.2.2.2.2.2.2.2.2.2.2.2.2.2.1 u.2.2.2.2.2.2.2.2.2.2.2.2.2.2.2.2.2.2.2.2.2.2.2.2.2.2.2.2.2.2.2.2.2.2.2.2.2.2.2.2.2.2.2.2.2.2.2.2.2.2.2.2.2.2.2.2.2.2.2.2.2.2.2.2.2.2.2.2.1 u.2.2.2.2.2.2.2.2.2.2.2.2.2.2.2.2.2.2.2.2.2.2.2.2.2.2.2.2.2.2.2.2.2.2.2.2.2.2.2.2.2.2.2.2.2.2.2.2.2.2.2.2.2.2.2.2.2.2.2.2.2.2.2.2.2.2.2.2.2 v.1 v.2.1 v.2.2.1 v.2.2.2.1 v.2.2.2.2.1 v.2.2.2.2.2.1 v.2.2.2.2.2.2.1 v.2.2.2.2.2.2.2.1 v.2.2.2.2.2.2.2.2.1 v.2.2.2.2.2.2.2.2.2.1 v.2.2.2.2.2.2.2.2.2.2.1 v.2.2.2.2.2.2.2.2.2.2.2.1 v.2.2.2.2.2.2.2.2.2.2.2.2.1 v.2.2.2.2.2.2.2.2.2.2.2.2.2.1 v.2.2.2.2.2.2.2.2.2.2.2.2.2.2.1 v.2.2.2.2.2.2.2.2.2.2.2.2.2.2.2.1 v.2.2.2.2.2.2.2.2.2.2.2.2.2.2.2.2.1 v.2.2.2.2.2.2.2.2.2.2.2.2.2.2.2.2.2.1 v.2.2.2.2.2.2.2.2.2.2.2.2.2.2.2.2.2.2.1 v.2.2.2.2.2.2.2.2.2.2.2.2.2.2.2.2.2.2.2.1 v.2.2.2.2.2.2.2.2.2.2.2.2.2.2.2.2.2.2.2.2.1 v.2.2.2.2.2.2.2.2.2.2.2.2.2.2.2.2.2.2.2.2.2.1 v.2.2.2.2.2.2.2.2.2.2.2.2.2.2.2.2.2.2.2.2.2.2.1 v.2.2.2.2.2.2.2.2.2.2.2.2.2.2.2.2.2.2.2.2.2.2.2.1 v.2.2.2.2.2.2.2.2.2.2.2.2.2.2.2.2.2.2.2.2.2.2.2.2.1 v.2.2.2.2.2.2.2.2.2.2.2.2.2.2.2.2.2.2.2.2.2.2.2.2.2.1 v.2.2.2.2.2.2.2.2.2.2.2.2.2.2.2.2.2.2.2.2.2.2.2.2.2.2.1 v.2.2.2.2.2.2.2.2.2.2.2.2.2.2.2.2.2.2.2.2.2.2.2.2.2.2.2.1 v.2.2.2.2.2.2.2.2.2.2.2.2.2.2.2.2.2.2.2.2.2.2.2.2.2.2.2.2.1 v.2.2.2.2.2.2.2.2.2.2.2.2.2.2.2.2.2.2.2.2.2.2.2.2.2.2.2.2.2.1 v.2.2.2.2.2.2.2.2.2.2.2.2.2.2.2.2.2.2.2.2.2.2.2.2.2.2.2.2.2.2.1 v.2.2.2.2.2.2.2.2.2.2.2.2.2.2.2.2.2.2.2.2.2.2.2.2.2.2.2.2.2.2.2.1 v.2.2.2.2.2.2.2.2.2.2.2.2.2.2.2.2.2.2.2.2.2.2.2.2.2.2.2.2.2.2.2.2.1 v.2.2.2.2.2.2.2.2.2.2.2.2.2.2.2.2.2.2.2.2.2.2.2.2.2.2.2.2.2.2.2.2.2.1 v.2.2.2.2.2.2.2.2.2.2.2.2.2.2.2.2.2.2.2.2.2.2.2.2.2.2.2.2.2.2.2.2.2.2.1 v.2.2.2.2.2.2.2.2.2.2.2.2.2.2.2.2.2.2.2.2.2.2.2.2.2.2.2.2.2.2.2.2.2.2.2 I
/-! more terms or goals: the search stays -/
section
variable {T T' : rs_T} {G G' : rs_G} {gc gc' ml : Nat} {f_searching f_queryGoal f_queryWidth f_levelNow f_pendingCount f_answerCount f_failureCount f_cutCount f_trailTop f_callsDone f_neqCount f_loaded f_numberedCount f_endUnknownCount f_constraintsReady f_keptCount : Int32} {a_pendingPath a_answerPath a_link a_neqLeft a_neqRight a_numberOf a_numbered a_endUnknown a_kept : Nat → Int32} {g_searching g_query g_read g_level : Int32} {b_outcome : Nat → Int32}
theorem rs_SP_ext (hT : rs_TX T) (hG : rs_GX T.2.2.2.2 gc G) (hE : rs_TE T T') (hX : rs_Ext T.2.2.2.2 gc T.2.2.2.1 T'.2.2.2.1 G G') (hgc : gc ≤ gc') (h : rs_SP T G gc ml f_searching f_queryGoal f_queryWidth f_levelNow f_pendingCount f_answerCount f_failureCount f_cutCount f_trailTop f_callsDone f_neqCount f_loaded f_numberedCount f_endUnknownCount f_constraintsReady f_keptCount a_pendingPath a_answerPath a_link a_neqLeft a_neqRight a_numberOf a_numbered a_endUnknown a_kept g_searching g_query g_read g_level b_outcome) : rs_SP T' G' gc' ml f_searching f_queryGoal f_queryWidth f_levelNow f_pendingCount f_answerCount f_failureCount f_cutCount f_trailTop f_callsDone f_neqCount f_loaded f_numberedCount f_endUnknownCount f_constraintsReady f_keptCount a_pendingPath a_answerPath a_link a_neqLeft a_neqRight a_numberOf a_numbered a_endUnknown a_kept g_searching g_query g_read g_level b_outcome := by
  obtain ⟨h0, h⟩ := h
  refine ⟨h0, ?_⟩
  rcases h with h | ⟨h1, q, wd, lv, oc, hS, hL⟩
  · exact Or.inl h
  · refine Or.inr ⟨h1, q, wd, lv, oc, ?_, ?_⟩
    · obtain ⟨s1, s2, s3, s4, ⟨o1, o2, o3⟩, s6⟩ := hS
      refine ⟨by omega, s2, s3, s4, ⟨o1, ?_, ?_⟩, s6⟩
      · rw [rs_path_ext hG hX s1]; exact o2
      · intro p hp hp2
        rw [rs_path_ext hG hX s1]; exact o3 p hp hp2
    · have hq := hS.1
      rcases hL with hL | ⟨k, k1, k2, hLS, hKP⟩
      · exact Or.inl hL
      · refine Or.inr ⟨k, k1, k2, ?_, ?_⟩
        · rw [rs_path_ext hG hX hq, hX.2.2.2.2]
          obtain ⟨tt, s, e1, e2, e3, e4, e5, e6, e7, e8⟩ := hLS
          exact ⟨tt, s, e1, e2, e3, rs_te_XL hT hE e4, e5, rs_te_NQ hE e6, fun v => rs_te_WKv hT hE e4.2.2.1 (e7 v), e8⟩
        · rw [rs_path_ext hG hX hq, hX.2.2.2.2]
          exact hKP
end
end
section
/-! making terms and goals -/
def rs_add (T : rs_T) (k l r : Nat) (str : List Nat) : rs_T := (fun t => if t = T.2.2.2.2 then k else T.1 t, fun t => if t = T.2.2.2.2 then l else T.2.1 t, fun t => if t = T.2.2.2.2 then r else T.2.2.1 t, fun t => if t = T.2.2.2.2 then str else T.2.2.2.1 t, T.2.2.2.2 + 1)
def rs_addG (G : rs_G) (gc k a b c d z : Nat) : rs_G := (fun t => if t = gc then k else G.1 t, fun t => if t = gc then a else G.2.1 t, fun t => if t = gc then b else G.2.2.1 t, fun t => if t = gc then c else G.2.2.2.1 t, fun t => if t = gc then d else G.2.2.2.2.1 t, fun t => if t = gc then z else G.2.2.2.2.2.1 t, G.2.2.2.2.2.2)
section
variable {T : rs_T} {G : rs_G} {gc ml k l r : Nat} {str : List Nat}
theorem rs_add_TE (h : ∀ t, T.2.2.2.2 ≤ t → t < 64 → T.1 t = 0) : rs_TE T (rs_add T k l r str) :=
  ⟨Nat.le_succ _, fun t ht => ⟨if_neg (by omega), if_neg (by omega), if_neg (by omega), if_neg (by omega)⟩, h⟩
theorem rs_add_TX (hT : rs_TX T) (h : ∀ t, T.2.2.2.2 ≤ t → t < 64 → T.1 t = 0) (hs : str.length ≤ 15) (hv : (k = 0 ∧ l < 16 ∧ str = [1 + l]) ∨ (k = 1 ∧ l < 6 ∧ str = [100 + l]) ∨ (k = 2 ∧ l < T.2.2.2.2 ∧ r < T.2.2.2.2 ∧ str = 0 :: (T.2.2.2.1 l ++ T.2.2.2.1 r))) : rs_TX (rs_add T k l r str) := by
  intro t ht
  show (if t = T.2.2.2.2 then str else T.2.2.2.1 t).length ≤ 15 ∧ (((if t = T.2.2.2.2 then k else T.1 t) = 0 ∧ (if t = T.2.2.2.2 then l else T.2.1 t) < 16 ∧ (if t = T.2.2.2.2 then str else T.2.2.2.1 t) = [1 + (if t = T.2.2.2.2 then l else T.2.1 t)]) ∨ ((if t = T.2.2.2.2 then k else T.1 t) = 1 ∧ (if t = T.2.2.2.2 then l else T.2.1 t) < 6 ∧ (if t = T.2.2.2.2 then str else T.2.2.2.1 t) = [100 + (if t = T.2.2.2.2 then l else T.2.1 t)]) ∨
    ((if t = T.2.2.2.2 then k else T.1 t) = 2 ∧ (if t = T.2.2.2.2 then l else T.2.1 t) < t ∧ (if t = T.2.2.2.2 then r else T.2.2.1 t) < t ∧ (if t = T.2.2.2.2 then str else T.2.2.2.1 t) = 0 :: ((if (if t = T.2.2.2.2 then l else T.2.1 t) = T.2.2.2.2 then str else T.2.2.2.1 (if t = T.2.2.2.2 then l else T.2.1 t)) ++ (if (if t = T.2.2.2.2 then r else T.2.2.1 t) = T.2.2.2.2 then str else T.2.2.2.1 (if t = T.2.2.2.2 then r else T.2.2.1 t)))))
  by_cases e : t = T.2.2.2.2
  · simp only [if_pos e]
    refine ⟨hs, ?_⟩
    rcases hv with z | z | ⟨z1, z2, z3, z4⟩
    · exact Or.inl z
    · exact Or.inr (Or.inl z)
    · refine Or.inr (Or.inr ⟨z1, by omega, by omega, ?_⟩)
      rw [if_neg (show ¬ l = T.2.2.2.2 by omega), if_neg (show ¬ r = T.2.2.2.2 by omega)]
      exact z4
  · simp only [if_neg e]
    obtain ⟨q1, q2⟩ := hT t ht
    refine ⟨q1, ?_⟩
    rcases q2 with z | z | ⟨z1, z2, z3, z4⟩
    · exact Or.inl z
    · exact Or.inr (Or.inl z)
    · have htc : t < T.2.2.2.2 := by
        rcases Nat.lt_or_ge t T.2.2.2.2 with w | w
        · exact w
        · have := h t w ht
          omega
      refine Or.inr (Or.inr ⟨z1, z2, z3, ?_⟩)
      rw [if_neg (show ¬ T.2.1 t = T.2.2.2.2 by omega), if_neg (show ¬ T.2.2.1 t = T.2.2.2.2 by omega)]
      exact z4
theorem rs_GX_mono {tc tc' : Nat} (h : rs_GX tc gc G) (ht : tc ≤ tc') : rs_GX tc' gc G := by
  obtain ⟨h1, h2⟩ := h
  refine ⟨fun g hg => ?_, h2⟩
  obtain ⟨a, b, c⟩ := h1 g hg
  refine ⟨a, b, ?_⟩
  rcases c with ⟨c1, c2, c3⟩ | ⟨c1, c2, c3⟩ | c | c | ⟨c1, c2, c3, c4, c5⟩
  · exact Or.inl ⟨c1, by omega, by omega⟩
  · exact Or.inr (Or.inl ⟨c1, by omega, by omega⟩)
  · exact Or.inr (Or.inr (Or.inl c))
  · exact Or.inr (Or.inr (Or.inr (Or.inl c)))
  · exact Or.inr (Or.inr (Or.inr (Or.inr ⟨c1, c2, by omega, by omega, by omega⟩)))
theorem rs_add_WF (h : rs_WF T G gc ml) (ht : T.2.2.2.2 < 64) : rs_WF (rs_add T k l r str) G gc ml := by
  obtain ⟨h1, h2, h3, h4, h5, h6⟩ := h
  exact ⟨h1, h2, ht, h4, fun t q1 q2 => (if_neg (show ¬ t = T.2.2.2.2 from fun z => by rw [z] at q1; exact absurd q1 (Nat.not_succ_le_self _))).trans (h5 t (Nat.le_of_succ_le q1) q2), rs_GX_mono h6 (Nat.le_succ _)⟩
theorem rs_ext_T (G : rs_G) (tc gc : Nat) {ts ts' : Nat → List Nat} (h : ∀ t, t < tc → ts' t = ts t) : rs_Ext tc gc ts ts' G G := ⟨h, fun _ _ => ⟨rfl, rfl, rfl, rfl, rfl⟩, rfl, rfl, rfl⟩
variable {f_maxLevel f_maxCalls f_maxSize f_termCount f_goalCount : Int32} {a_termKind a_termLeft a_termRight a_termSize a_goalKind a_goalFirst a_goalSecond a_goalThird a_goalFourth a_goalSize a_relationGoal : Nat → Int32}
variable {g_maxLevel g_maxCalls g_maxSize g_terms g_goals : Int32} {b_termToken b_termLen b_kind b_goalSize b_part b_relation : Nat → Int32}
theorem rs_add_TBX (h : rs_TBX T G gc ml f_maxLevel f_maxCalls f_maxSize f_termCount f_goalCount a_termKind a_termLeft a_termRight a_termSize a_goalKind a_goalFirst a_goalSecond a_goalThird a_goalFourth a_goalSize a_relationGoal) (hT' : rs_TX (rs_add T k l r str)) : rs_TBX (rs_add T k l r str) G gc ml f_maxLevel f_maxCalls f_maxSize (nI (T.2.2.2.2 + 1)) f_goalCount (upd a_termKind T.2.2.2.2 (nI k)) (upd a_termLeft T.2.2.2.2 (nI l)) (upd a_termRight T.2.2.2.2 (nI r)) (upd a_termSize T.2.2.2.2 (nI str.length)) a_goalKind a_goalFirst a_goalSecond a_goalThird a_goalFourth a_goalSize a_relationGoal := by
  obtain ⟨h1, h2, h3, h4, h5, h6, h7, h8⟩ := h
  refine ⟨h1, h2, h3, rfl, h5, ⟨hT', ?_⟩, ?_, h8⟩
  · intro t ht
    show (if t = T.2.2.2.2 then nI k else a_termKind t) = nI (if t = T.2.2.2.2 then k else T.1 t) ∧ (if t = T.2.2.2.2 then nI l else a_termLeft t) = nI (if t = T.2.2.2.2 then l else T.2.1 t) ∧ (if t = T.2.2.2.2 then nI r else a_termRight t) = nI (if t = T.2.2.2.2 then r else T.2.2.1 t)
    by_cases e : t = T.2.2.2.2
    · simp only [if_pos e]; exact ⟨trivial, trivial, trivial⟩
    · simp only [if_neg e]; exact h6.2 t ht
  · intro t ht
    show (if t = T.2.2.2.2 then nI str.length else a_termSize t) = nI (if t = T.2.2.2.2 then str else T.2.2.2.1 t).length
    have ht' : t < T.2.2.2.2 + 1 := ht
    by_cases e : t = T.2.2.2.2
    · simp only [if_pos e]
    · simp only [if_neg e]; exact h7 t (by omega)
theorem rs_add_TBY (h : rs_TBY T G gc ml g_maxLevel g_maxCalls g_maxSize g_terms g_goals b_termToken b_termLen b_kind b_goalSize b_part b_relation) {tok : Nat → Int32} (h15 : str.length ≤ 15) (hW : rs_W 1 str) (hk : ∀ x, x ∈ str → x < 17 ∨ (100 ≤ x ∧ x < 106)) (hA : rs_A tok (15 * T.2.2.2.2) str) (hO : ∀ i, i < 15 * T.2.2.2.2 → tok i = b_termToken i) : rs_TBY (rs_add T k l r str) G gc ml g_maxLevel g_maxCalls g_maxSize (nI (T.2.2.2.2 + 1)) g_goals tok (upd b_termLen T.2.2.2.2 (nI str.length)) b_kind b_goalSize b_part b_relation := by
  obtain ⟨h1, h2, h3, h4, h5, h6, h7⟩ := h
  refine ⟨h1, h2, h3, rfl, h5, ?_, h7⟩
  intro t ht
  have ht' : t < T.2.2.2.2 + 1 := ht
  show (if t = T.2.2.2.2 then nI str.length else b_termLen t) = nI (if t = T.2.2.2.2 then str else T.2.2.2.1 t).length ∧ rs_A tok (15 * t) (if t = T.2.2.2.2 then str else T.2.2.2.1 t) ∧ rs_W 1 (if t = T.2.2.2.2 then str else T.2.2.2.1 t) ∧ (if t = T.2.2.2.2 then str else T.2.2.2.1 t).length ≤ 15 ∧ ∀ x, x ∈ (if t = T.2.2.2.2 then str else T.2.2.2.1 t) → x < 17 ∨ (100 ≤ x ∧ x < 106)
  by_cases e : t = T.2.2.2.2
  · subst e
    simp only [if_pos]
    exact ⟨trivial, hA, hW, h15, hk⟩
  · simp only [if_neg e]
    obtain ⟨q1, q2, q3, q4, q5⟩ := h6 t (by omega)
    exact ⟨q1, rs_A_keep q2 (fun i _ i2 => hO i (by omega)), q3, q4, q5⟩
theorem rs_addG_Ext (T : rs_T) {a b c d z : Nat} : rs_Ext T.2.2.2.2 gc T.2.2.2.1 T.2.2.2.1 G (rs_addG G gc k a b c d z) :=
  ⟨fun _ _ => rfl, fun g hg => ⟨if_neg (by omega), if_neg (by omega), if_neg (by omega), if_neg (by omega), if_neg (by omega)⟩, rfl, rfl, rfl⟩
theorem rs_addG_WF {a b c d z : Nat} (h : rs_WF T G gc ml) (hg : gc < 48) (z1 : 1 ≤ z) (z2 : z ≤ 15)
    (hk : (k = 0 ∧ a < T.2.2.2.2 ∧ b < T.2.2.2.2) ∨ (k = 1 ∧ a < T.2.2.2.2 ∧ b < T.2.2.2.2) ∨ (k = 2 ∧ a < gc ∧ b < gc ∧ z = 1 + G.2.2.2.2.2.1 a + G.2.2.2.2.2.1 b) ∨ (k = 3 ∧ a < gc ∧ b < gc ∧ z = 1 + G.2.2.2.2.2.1 a + G.2.2.2.2.2.1 b) ∨ (k = 4 ∧ a < 8 ∧ b < T.2.2.2.2 ∧ c < T.2.2.2.2 ∧ d < T.2.2.2.2)) : rs_WF T (rs_addG G gc k a b c d z) (gc + 1) ml := by
  obtain ⟨h1, h2, h3, h4, h5, g1, g2, g3⟩ := h
  refine ⟨h1, h2, h3, hg, h5, ?_, fun r b e => Nat.lt_succ_of_lt (g2 r b e), g3⟩
  intro g hg'
  show 1 ≤ (if g = gc then z else G.2.2.2.2.2.1 g) ∧ (if g = gc then z else G.2.2.2.2.2.1 g) ≤ 15 ∧
    (((if g = gc then k else G.1 g) = 0 ∧ (if g = gc then a else G.2.1 g) < T.2.2.2.2 ∧ (if g = gc then b else G.2.2.1 g) < T.2.2.2.2) ∨ ((if g = gc then k else G.1 g) = 1 ∧ (if g = gc then a else G.2.1 g) < T.2.2.2.2 ∧ (if g = gc then b else G.2.2.1 g) < T.2.2.2.2) ∨
     ((if g = gc then k else G.1 g) = 2 ∧ (if g = gc then a else G.2.1 g) < gc + 1 ∧ (if g = gc then b else G.2.2.1 g) < gc + 1 ∧ (if g = gc then z else G.2.2.2.2.2.1 g) = 1 + (if (if g = gc then a else G.2.1 g) = gc then z else G.2.2.2.2.2.1 (if g = gc then a else G.2.1 g)) + (if (if g = gc then b else G.2.2.1 g) = gc then z else G.2.2.2.2.2.1 (if g = gc then b else G.2.2.1 g))) ∨
     ((if g = gc then k else G.1 g) = 3 ∧ (if g = gc then a else G.2.1 g) < gc + 1 ∧ (if g = gc then b else G.2.2.1 g) < gc + 1 ∧ (if g = gc then z else G.2.2.2.2.2.1 g) = 1 + (if (if g = gc then a else G.2.1 g) = gc then z else G.2.2.2.2.2.1 (if g = gc then a else G.2.1 g)) + (if (if g = gc then b else G.2.2.1 g) = gc then z else G.2.2.2.2.2.1 (if g = gc then b else G.2.2.1 g))) ∨
     ((if g = gc then k else G.1 g) = 4 ∧ (if g = gc then a else G.2.1 g) < 8 ∧ (if g = gc then b else G.2.2.1 g) < T.2.2.2.2 ∧ (if g = gc then c else G.2.2.2.1 g) < T.2.2.2.2 ∧ (if g = gc then d else G.2.2.2.2.1 g) < T.2.2.2.2))
  by_cases e : g = gc
  · simp only [if_pos e]
    refine ⟨z1, z2, ?_⟩
    rcases hk with q | q | ⟨q1, q2, q3, q4⟩ | ⟨q1, q2, q3, q4⟩ | q
    · exact Or.inl q
    · exact Or.inr (Or.inl q)
    · refine Or.inr (Or.inr (Or.inl ⟨q1, by omega, by omega, ?_⟩))
      rw [if_neg (show ¬ a = gc by omega), if_neg (show ¬ b = gc by omega)]; exact q4
    · refine Or.inr (Or.inr (Or.inr (Or.inl ⟨q1, by omega, by omega, ?_⟩)))
      rw [if_neg (show ¬ a = gc by omega), if_neg (show ¬ b = gc by omega)]; exact q4
    · exact Or.inr (Or.inr (Or.inr (Or.inr q)))
  · simp only [if_neg e]
    obtain ⟨w1, w2, w3⟩ := g1 g (by omega)
    refine ⟨w1, w2, ?_⟩
    rcases w3 with q | q | ⟨q1, q2, q3, q4⟩ | ⟨q1, q2, q3, q4⟩ | q
    · exact Or.inl q
    · exact Or.inr (Or.inl q)
    · refine Or.inr (Or.inr (Or.inl ⟨q1, by omega, by omega, ?_⟩))
      rw [if_neg (show ¬ G.2.1 g = gc by omega), if_neg (show ¬ G.2.2.1 g = gc by omega)]; exact q4
    · refine Or.inr (Or.inr (Or.inr (Or.inl ⟨q1, by omega, by omega, ?_⟩)))
      rw [if_neg (show ¬ G.2.1 g = gc by omega), if_neg (show ¬ G.2.2.1 g = gc by omega)]; exact q4
    · exact Or.inr (Or.inr (Or.inr (Or.inr q)))
theorem rs_addG_TBX {a b c d z : Nat} (h : rs_TBX T G gc ml f_maxLevel f_maxCalls f_maxSize f_termCount f_goalCount a_termKind a_termLeft a_termRight a_termSize a_goalKind a_goalFirst a_goalSecond a_goalThird a_goalFourth a_goalSize a_relationGoal) : rs_TBX T (rs_addG G gc k a b c d z) (gc + 1) ml f_maxLevel f_maxCalls f_maxSize f_termCount (nI (gc + 1)) a_termKind a_termLeft a_termRight a_termSize (upd a_goalKind gc (nI k)) (upd a_goalFirst gc (nI a)) (upd a_goalSecond gc (nI b)) (upd a_goalThird gc (nI c)) (upd a_goalFourth gc (nI d)) (upd a_goalSize gc (nI z)) a_relationGoal := by
  obtain ⟨h1, h2, h3, h4, h5, h6, h7, ⟨h8, h9⟩, h10⟩ := h
  refine ⟨h1, h2, h3, h4, rfl, h6, h7, ⟨?_, h9⟩, ?_⟩
  · intro g hg
    show (if g = gc then nI k else a_goalKind g) = nI (if g = gc then k else G.1 g) ∧ (if g = gc then nI a else a_goalFirst g) = nI (if g = gc then a else G.2.1 g) ∧ (if g = gc then nI b else a_goalSecond g) = nI (if g = gc then b else G.2.2.1 g) ∧ (if g = gc then nI c else a_goalThird g) = nI (if g = gc then c else G.2.2.2.1 g) ∧ (if g = gc then nI d else a_goalFourth g) = nI (if g = gc then d else G.2.2.2.2.1 g)
    by_cases e : g = gc
    · simp only [if_pos e]; exact ⟨trivial, trivial, trivial, trivial, trivial⟩
    · simp only [if_neg e]; exact h8 g (by omega)
  · intro g hg
    show (if g = gc then nI z else a_goalSize g) = nI (if g = gc then z else G.2.2.2.2.2.1 g)
    by_cases e : g = gc
    · simp only [if_pos e]
    · simp only [if_neg e]; exact h10 g (by omega)
theorem rs_addG_TBY {a b c d z : Nat} (h : rs_TBY T G gc ml g_maxLevel g_maxCalls g_maxSize g_terms g_goals b_termToken b_termLen b_kind b_goalSize b_part b_relation) : rs_TBY T (rs_addG G gc k a b c d z) (gc + 1) ml g_maxLevel g_maxCalls g_maxSize g_terms (nI (gc + 1)) b_termToken b_termLen (upd b_kind gc (nI k)) (upd b_goalSize gc (nI z)) (upd (upd (upd (upd b_part (4 * gc) (nI a)) (4 * gc + 1) (nI b)) (4 * gc + 2) (nI c)) (4 * gc + 3) (nI d)) b_relation := by
  obtain ⟨h1, h2, h3, h4, h5, h6, ⟨h7, h8⟩, h9⟩ := h
  refine ⟨h1, h2, h3, h4, rfl, h6, ⟨?_, h8⟩, ?_⟩
  · intro g hg
    show (if g = gc then nI k else b_kind g) = nI (if g = gc then k else G.1 g) ∧ (upd (upd (upd (upd b_part (4 * gc) (nI a)) (4 * gc + 1) (nI b)) (4 * gc + 2) (nI c)) (4 * gc + 3) (nI d)) (4 * g) = nI (if g = gc then a else G.2.1 g) ∧ (upd (upd (upd (upd b_part (4 * gc) (nI a)) (4 * gc + 1) (nI b)) (4 * gc + 2) (nI c)) (4 * gc + 3) (nI d)) (4 * g + 1) = nI (if g = gc then b else G.2.2.1 g) ∧
      (upd (upd (upd (upd b_part (4 * gc) (nI a)) (4 * gc + 1) (nI b)) (4 * gc + 2) (nI c)) (4 * gc + 3) (nI d)) (4 * g + 2) = nI (if g = gc then c else G.2.2.2.1 g) ∧ (upd (upd (upd (upd b_part (4 * gc) (nI a)) (4 * gc + 1) (nI b)) (4 * gc + 2) (nI c)) (4 * gc + 3) (nI d)) (4 * g + 3) = nI (if g = gc then d else G.2.2.2.2.1 g)
    unfold upd
    by_cases e : g = gc
    · subst e
      simp
    · obtain ⟨q0, q1, q2, q3, q4⟩ := h7 g (by omega)
      rw [if_neg e, if_neg e, if_neg e, if_neg e, if_neg e, if_neg e]
      refine ⟨q0, ?_, ?_, ?_, ?_⟩
      · rw [if_neg (by omega), if_neg (by omega), if_neg (by omega), if_neg (by omega)]; exact q1
      · rw [if_neg (by omega), if_neg (by omega), if_neg (by omega), if_neg (by omega)]; exact q2
      · rw [if_neg (by omega), if_neg (by omega), if_neg (by omega), if_neg (by omega)]; exact q3
      · rw [if_neg (by omega), if_neg (by omega), if_neg (by omega), if_neg (by omega)]; exact q4
  · intro g hg
    show (if g = gc then nI z else b_goalSize g) = nI (if g = gc then z else G.2.2.2.2.2.1 g)
    by_cases e : g = gc
    · simp only [if_pos e]
    · simp only [if_neg e]; exact h9 g (by omega)
end
end
section
/-! the calls that make terms and goals -/
theorem rs_dec (v : Int32) {n : Nat} (hn : n < 2 ^ 31) : (v < 0 ∨ nI n ≤ v) ∨ ∃ j, j < n ∧ v = nI j := by
  rcases pk_ix v hn with h | h | h
  · exact Or.inl (Or.inl h)
  · exact Or.inl (Or.inr h)
  · exact Or.inr h
section
variable {f_kindSymbol f_kindSlot f_kindPair f_goalEq f_goalNeq f_goalBoth f_goalEither f_goalCall f_goOn f_outAnswer f_outFailure f_outCut f_outPending f_firstVariable f_maxLevel f_maxCalls f_maxSize f_termCount f_goalCount f_searching f_queryGoal f_queryWidth f_levelNow f_pendingCount f_nextCount f_answerCount f_failureCount f_cutCount f_trailTop f_callsDone f_choicesLeft f_neqCount f_workTop f_walkTop f_loaded f_numberedCount f_endUnknownCount f_constraintsReady f_relevantMask f_keptCount : Int32} {a_termKind a_termLeft a_termRight a_termSize a_goalKind a_goalFirst a_goalSecond a_goalThird a_goalFourth a_goalSize a_relationGoal a_pendingPath a_nextPath a_answerPath a_link a_trail a_neqLeft a_neqRight a_workGoal a_workFrame a_stackA a_stackB a_walk a_numberOf a_numbered a_endUnknown a_implied a_kept a_sightings a_lastSeen : Nat → Int32}
variable {g_maxLevel g_maxCalls g_maxSize g_terms g_goals g_searching g_query g_read g_level g_frames g_neqs g_numbered g_kept : Int32} {b_termToken b_termLen b_kind b_goalSize b_part b_relation b_outcome b_val b_len b_neqT b_neqU b_neqF b_stackGoal b_stackFrame b_buf b_bufLen b_tmp b_base b_baseLen b_num b_relevant b_implies b_keptAt : Nat → Int32}
variable {T : rs_T} {G : rs_G} {gc ml tc : Nat} {k : Nat}
theorem xw_isTerm_1 {post : Int32 → Prop} {j : Nat} (hj : j < tc) (htc : tc ≤ 64) (h : post 1) : wpX_isTerm post (f_kindSymbol, f_kindSlot, f_kindPair, f_goalEq, f_goalNeq, f_goalBoth, f_goalEither, f_goalCall, f_goOn, f_outAnswer, f_outFailure, f_outCut, f_outPending, f_firstVariable, f_maxLevel, f_maxCalls, f_maxSize, nI tc, f_goalCount, f_searching, f_queryGoal, f_queryWidth, f_levelNow, f_pendingCount, f_nextCount, f_answerCount, f_failureCount, f_cutCount, f_trailTop, f_callsDone, f_choicesLeft, f_neqCount, f_workTop, f_walkTop, f_loaded, f_numberedCount, f_endUnknownCount, f_constraintsReady, f_relevantMask, f_keptCount, a_termKind, a_termLeft, a_termRight, a_termSize, a_goalKind, a_goalFirst, a_goalSecond, a_goalThird, a_goalFourth, a_goalSize, a_relationGoal, a_pendingPath, a_nextPath, a_answerPath, a_link, a_trail, a_neqLeft, a_neqRight, a_workGoal, a_workFrame, a_stackA, a_stackB, a_walk, a_numberOf, a_numbered, a_endUnknown, a_implied, a_kept, a_sightings, a_lastSeen) (nI j) := br_f (nI_pos (by omega)) (br_f (nI_ge hj (by omega)) h)
theorem xw_isTerm_0 {post : Int32 → Prop} {v : Int32} (hv : v < 0 ∨ nI tc ≤ v) (h : post 0) : wpX_isTerm post (f_kindSymbol, f_kindSlot, f_kindPair, f_goalEq, f_goalNeq, f_goalBoth, f_goalEither, f_goalCall, f_goOn, f_outAnswer, f_outFailure, f_outCut, f_outPending, f_firstVariable, f_maxLevel, f_maxCalls, f_maxSize, nI tc, f_goalCount, f_searching, f_queryGoal, f_queryWidth, f_levelNow, f_pendingCount, f_nextCount, f_answerCount, f_failureCount, f_cutCount, f_trailTop, f_callsDone, f_choicesLeft, f_neqCount, f_workTop, f_walkTop, f_loaded, f_numberedCount, f_endUnknownCount, f_constraintsReady, f_relevantMask, f_keptCount, a_termKind, a_termLeft, a_termRight, a_termSize, a_goalKind, a_goalFirst, a_goalSecond, a_goalThird, a_goalFourth, a_goalSize, a_relationGoal, a_pendingPath, a_nextPath, a_answerPath, a_link, a_trail, a_neqLeft, a_neqRight, a_workGoal, a_workFrame, a_stackA, a_stackB, a_walk, a_numberOf, a_numbered, a_endUnknown, a_implied, a_kept, a_sightings, a_lastSeen) v := br_c (fun _ => h) (fun z => br_t (hv.resolve_left z) h)
theorem xw_isGoal_1 {post : Int32 → Prop} {j : Nat} (hj : j < gc) (htc : gc ≤ 48) (h : post 1) : wpX_isGoal post (f_kindSymbol, f_kindSlot, f_kindPair, f_goalEq, f_goalNeq, f_goalBoth, f_goalEither, f_goalCall, f_goOn, f_outAnswer, f_outFailure, f_outCut, f_outPending, f_firstVariable, f_maxLevel, f_maxCalls, f_maxSize, f_termCount, nI gc, f_searching, f_queryGoal, f_queryWidth, f_levelNow, f_pendingCount, f_nextCount, f_answerCount, f_failureCount, f_cutCount, f_trailTop, f_callsDone, f_choicesLeft, f_neqCount, f_workTop, f_walkTop, f_loaded, f_numberedCount, f_endUnknownCount, f_constraintsReady, f_relevantMask, f_keptCount, a_termKind, a_termLeft, a_termRight, a_termSize, a_goalKind, a_goalFirst, a_goalSecond, a_goalThird, a_goalFourth, a_goalSize, a_relationGoal, a_pendingPath, a_nextPath, a_answerPath, a_link, a_trail, a_neqLeft, a_neqRight, a_workGoal, a_workFrame, a_stackA, a_stackB, a_walk, a_numberOf, a_numbered, a_endUnknown, a_implied, a_kept, a_sightings, a_lastSeen) (nI j) := br_f (nI_pos (by omega)) (br_f (nI_ge hj (by omega)) h)
theorem xw_isGoal_0 {post : Int32 → Prop} {v : Int32} (hv : v < 0 ∨ nI gc ≤ v) (h : post 0) : wpX_isGoal post (f_kindSymbol, f_kindSlot, f_kindPair, f_goalEq, f_goalNeq, f_goalBoth, f_goalEither, f_goalCall, f_goOn, f_outAnswer, f_outFailure, f_outCut, f_outPending, f_firstVariable, f_maxLevel, f_maxCalls, f_maxSize, f_termCount, nI gc, f_searching, f_queryGoal, f_queryWidth, f_levelNow, f_pendingCount, f_nextCount, f_answerCount, f_failureCount, f_cutCount, f_trailTop, f_callsDone, f_choicesLeft, f_neqCount, f_workTop, f_walkTop, f_loaded, f_numberedCount, f_endUnknownCount, f_constraintsReady, f_relevantMask, f_keptCount, a_termKind, a_termLeft, a_termRight, a_termSize, a_goalKind, a_goalFirst, a_goalSecond, a_goalThird, a_goalFourth, a_goalSize, a_relationGoal, a_pendingPath, a_nextPath, a_answerPath, a_link, a_trail, a_neqLeft, a_neqRight, a_workGoal, a_workFrame, a_stackA, a_stackB, a_walk, a_numberOf, a_numbered, a_endUnknown, a_implied, a_kept, a_sightings, a_lastSeen) v := br_c (fun _ => h) (fun z => br_t (hv.resolve_left z) h)
theorem yw_isTerm_1 {post : Int32 → Prop} {j : Nat} (hj : j < tc) (htc : tc ≤ 64) (h : post 1) : wpY_isTerm post (g_maxLevel, g_maxCalls, g_maxSize, nI tc, g_goals, g_searching, g_query, g_read, g_level, g_frames, g_neqs, g_numbered, g_kept, b_termToken, b_termLen, b_kind, b_goalSize, b_part, b_relation, b_outcome, b_val, b_len, b_neqT, b_neqU, b_neqF, b_stackGoal, b_stackFrame, b_buf, b_bufLen, b_tmp, b_base, b_baseLen, b_num, b_relevant, b_implies, b_keptAt) (nI j) := br_f (nI_pos (by omega)) (br_f (nI_ge hj (by omega)) h)
theorem yw_isTerm_0 {post : Int32 → Prop} {v : Int32} (hv : v < 0 ∨ nI tc ≤ v) (h : post 0) : wpY_isTerm post (g_maxLevel, g_maxCalls, g_maxSize, nI tc, g_goals, g_searching, g_query, g_read, g_level, g_frames, g_neqs, g_numbered, g_kept, b_termToken, b_termLen, b_kind, b_goalSize, b_part, b_relation, b_outcome, b_val, b_len, b_neqT, b_neqU, b_neqF, b_stackGoal, b_stackFrame, b_buf, b_bufLen, b_tmp, b_base, b_baseLen, b_num, b_relevant, b_implies, b_keptAt) v := br_c (fun _ => h) (fun z => br_t (hv.resolve_left z) h)
theorem yw_isGoal_1 {post : Int32 → Prop} {j : Nat} (hj : j < gc) (htc : gc ≤ 48) (h : post 1) : wpY_isGoal post (g_maxLevel, g_maxCalls, g_maxSize, g_terms, nI gc, g_searching, g_query, g_read, g_level, g_frames, g_neqs, g_numbered, g_kept, b_termToken, b_termLen, b_kind, b_goalSize, b_part, b_relation, b_outcome, b_val, b_len, b_neqT, b_neqU, b_neqF, b_stackGoal, b_stackFrame, b_buf, b_bufLen, b_tmp, b_base, b_baseLen, b_num, b_relevant, b_implies, b_keptAt) (nI j) := br_f (nI_pos (by omega)) (br_f (nI_ge hj (by omega)) h)
theorem yw_isGoal_0 {post : Int32 → Prop} {v : Int32} (hv : v < 0 ∨ nI gc ≤ v) (h : post 0) : wpY_isGoal post (g_maxLevel, g_maxCalls, g_maxSize, g_terms, nI gc, g_searching, g_query, g_read, g_level, g_frames, g_neqs, g_numbered, g_kept, b_termToken, b_termLen, b_kind, b_goalSize, b_part, b_relation, b_outcome, b_val, b_len, b_neqT, b_neqU, b_neqF, b_stackGoal, b_stackFrame, b_buf, b_bufLen, b_tmp, b_base, b_baseLen, b_num, b_relevant, b_implies, b_keptAt) v := br_c (fun _ => h) (fun z => br_t (hv.resolve_left z) h)
theorem xw_addTerm_ok {post : Int32 → SX → Prop} {p0 p1 p2 p3 : Int32} (ht : tc < 64) (h : post (nI tc) (f_kindSymbol, f_kindSlot, f_kindPair, f_goalEq, f_goalNeq, f_goalBoth, f_goalEither, f_goalCall, f_goOn, f_outAnswer, f_outFailure, f_outCut, f_outPending, f_firstVariable, f_maxLevel, f_maxCalls, f_maxSize, nI (tc + 1), f_goalCount, f_searching, f_queryGoal, f_queryWidth, f_levelNow, f_pendingCount, f_nextCount, f_answerCount, f_failureCount, f_cutCount, f_trailTop, f_callsDone, f_choicesLeft, f_neqCount, f_workTop, f_walkTop, f_loaded, f_numberedCount, f_endUnknownCount, f_constraintsReady, f_relevantMask, f_keptCount, upd a_termKind tc p0, upd a_termLeft tc p1, upd a_termRight tc p2, upd a_termSize tc p3, a_goalKind, a_goalFirst, a_goalSecond, a_goalThird, a_goalFourth, a_goalSize, a_relationGoal, a_pendingPath, a_nextPath, a_answerPath, a_link, a_trail, a_neqLeft, a_neqRight, a_workGoal, a_workFrame, a_stackA, a_stackB, a_walk, a_numberOf, a_numbered, a_endUnknown, a_implied, a_kept, a_sightings, a_lastSeen)) : wpX_addTerm post (f_kindSymbol, f_kindSlot, f_kindPair, f_goalEq, f_goalNeq, f_goalBoth, f_goalEither, f_goalCall, f_goOn, f_outAnswer, f_outFailure, f_outCut, f_outPending, f_firstVariable, f_maxLevel, f_maxCalls, f_maxSize, nI tc, f_goalCount, f_searching, f_queryGoal, f_queryWidth, f_levelNow, f_pendingCount, f_nextCount, f_answerCount, f_failureCount, f_cutCount, f_trailTop, f_callsDone, f_choicesLeft, f_neqCount, f_workTop, f_walkTop, f_loaded, f_numberedCount, f_endUnknownCount, f_constraintsReady, f_relevantMask, f_keptCount, a_termKind, a_termLeft, a_termRight, a_termSize, a_goalKind, a_goalFirst, a_goalSecond, a_goalThird, a_goalFourth, a_goalSize, a_relationGoal, a_pendingPath, a_nextPath, a_answerPath, a_link, a_trail, a_neqLeft, a_neqRight, a_workGoal, a_workFrame, a_stackA, a_stackB, a_walk, a_numberOf, a_numbered, a_endUnknown, a_implied, a_kept, a_sightings, a_lastSeen) p0 p1 p2 p3 := by
  have c : (nI tc).toNatClampNeg = tc := nI_clamp (by omega)
  have i : vp_in (nI tc) 64 := vp_in_nI ht (by decide)
  exact br_t (nI_lt (b := 64) ht (by decide)) ⟨i, nm_r (e' := upd a_termKind tc p0) (by rw [c]) ⟨i, nm_r (e' := upd a_termLeft tc p1) (by rw [c]) ⟨i, nm_r (e' := upd a_termRight tc p2) (by rw [c]) ⟨i, nm_r (e' := upd a_termSize tc p3) (by rw [c]) (nm_r (nI_1 tc) h)⟩⟩⟩⟩
theorem xw_addTerm_no {post : Int32 → SX → Prop} {p0 p1 p2 p3 : Int32} (ht : tc = 64) (h : post (-2) (f_kindSymbol, f_kindSlot, f_kindPair, f_goalEq, f_goalNeq, f_goalBoth, f_goalEither, f_goalCall, f_goOn, f_outAnswer, f_outFailure, f_outCut, f_outPending, f_firstVariable, f_maxLevel, f_maxCalls, f_maxSize, nI tc, f_goalCount, f_searching, f_queryGoal, f_queryWidth, f_levelNow, f_pendingCount, f_nextCount, f_answerCount, f_failureCount, f_cutCount, f_trailTop, f_callsDone, f_choicesLeft, f_neqCount, f_workTop, f_walkTop, f_loaded, f_numberedCount, f_endUnknownCount, f_constraintsReady, f_relevantMask, f_keptCount, a_termKind, a_termLeft, a_termRight, a_termSize, a_goalKind, a_goalFirst, a_goalSecond, a_goalThird, a_goalFourth, a_goalSize, a_relationGoal, a_pendingPath, a_nextPath, a_answerPath, a_link, a_trail, a_neqLeft, a_neqRight, a_workGoal, a_workFrame, a_stackA, a_stackB, a_walk, a_numberOf, a_numbered, a_endUnknown, a_implied, a_kept, a_sightings, a_lastSeen)) : wpX_addTerm post (f_kindSymbol, f_kindSlot, f_kindPair, f_goalEq, f_goalNeq, f_goalBoth, f_goalEither, f_goalCall, f_goOn, f_outAnswer, f_outFailure, f_outCut, f_outPending, f_firstVariable, f_maxLevel, f_maxCalls, f_maxSize, nI tc, f_goalCount, f_searching, f_queryGoal, f_queryWidth, f_levelNow, f_pendingCount, f_nextCount, f_answerCount, f_failureCount, f_cutCount, f_trailTop, f_callsDone, f_choicesLeft, f_neqCount, f_workTop, f_walkTop, f_loaded, f_numberedCount, f_endUnknownCount, f_constraintsReady, f_relevantMask, f_keptCount, a_termKind, a_termLeft, a_termRight, a_termSize, a_goalKind, a_goalFirst, a_goalSecond, a_goalThird, a_goalFourth, a_goalSize, a_relationGoal, a_pendingPath, a_nextPath, a_answerPath, a_link, a_trail, a_neqLeft, a_neqRight, a_workGoal, a_workFrame, a_stackA, a_stackB, a_walk, a_numberOf, a_numbered, a_endUnknown, a_implied, a_kept, a_sightings, a_lastSeen) p0 p1 p2 p3 := br_f (by rw [ht]; decide) h
theorem xw_addGoal_ok {post : Int32 → SX → Prop} {p0 p1 p2 p3 p4 p5 : Int32} (ht : gc < 48) (h : post (nI gc) (f_kindSymbol, f_kindSlot, f_kindPair, f_goalEq, f_goalNeq, f_goalBoth, f_goalEither, f_goalCall, f_goOn, f_outAnswer, f_outFailure, f_outCut, f_outPending, f_firstVariable, f_maxLevel, f_maxCalls, f_maxSize, f_termCount, nI (gc + 1), f_searching, f_queryGoal, f_queryWidth, f_levelNow, f_pendingCount, f_nextCount, f_answerCount, f_failureCount, f_cutCount, f_trailTop, f_callsDone, f_choicesLeft, f_neqCount, f_workTop, f_walkTop, f_loaded, f_numberedCount, f_endUnknownCount, f_constraintsReady, f_relevantMask, f_keptCount, a_termKind, a_termLeft, a_termRight, a_termSize, upd a_goalKind gc p0, upd a_goalFirst gc p1, upd a_goalSecond gc p2, upd a_goalThird gc p3, upd a_goalFourth gc p4, upd a_goalSize gc p5, a_relationGoal, a_pendingPath, a_nextPath, a_answerPath, a_link, a_trail, a_neqLeft, a_neqRight, a_workGoal, a_workFrame, a_stackA, a_stackB, a_walk, a_numberOf, a_numbered, a_endUnknown, a_implied, a_kept, a_sightings, a_lastSeen)) : wpX_addGoal post (f_kindSymbol, f_kindSlot, f_kindPair, f_goalEq, f_goalNeq, f_goalBoth, f_goalEither, f_goalCall, f_goOn, f_outAnswer, f_outFailure, f_outCut, f_outPending, f_firstVariable, f_maxLevel, f_maxCalls, f_maxSize, f_termCount, nI gc, f_searching, f_queryGoal, f_queryWidth, f_levelNow, f_pendingCount, f_nextCount, f_answerCount, f_failureCount, f_cutCount, f_trailTop, f_callsDone, f_choicesLeft, f_neqCount, f_workTop, f_walkTop, f_loaded, f_numberedCount, f_endUnknownCount, f_constraintsReady, f_relevantMask, f_keptCount, a_termKind, a_termLeft, a_termRight, a_termSize, a_goalKind, a_goalFirst, a_goalSecond, a_goalThird, a_goalFourth, a_goalSize, a_relationGoal, a_pendingPath, a_nextPath, a_answerPath, a_link, a_trail, a_neqLeft, a_neqRight, a_workGoal, a_workFrame, a_stackA, a_stackB, a_walk, a_numberOf, a_numbered, a_endUnknown, a_implied, a_kept, a_sightings, a_lastSeen) p0 p1 p2 p3 p4 p5 := by
  have c : (nI gc).toNatClampNeg = gc := nI_clamp (by omega)
  have i : vp_in (nI gc) 48 := vp_in_nI ht (by decide)
  exact br_t (nI_lt (b := 48) ht (by decide)) ⟨i, nm_r (e' := upd a_goalKind gc p0) (by rw [c]) ⟨i, nm_r (e' := upd a_goalFirst gc p1) (by rw [c]) ⟨i, nm_r (e' := upd a_goalSecond gc p2) (by rw [c]) ⟨i, nm_r (e' := upd a_goalThird gc p3) (by rw [c]) ⟨i, nm_r (e' := upd a_goalFourth gc p4) (by rw [c]) ⟨i, nm_r (e' := upd a_goalSize gc p5) (by rw [c]) (nm_r (nI_1 gc) h)⟩⟩⟩⟩⟩⟩
theorem xw_addGoal_no {post : Int32 → SX → Prop} {p0 p1 p2 p3 p4 p5 : Int32} (ht : gc = 48) (h : post (-2) (f_kindSymbol, f_kindSlot, f_kindPair, f_goalEq, f_goalNeq, f_goalBoth, f_goalEither, f_goalCall, f_goOn, f_outAnswer, f_outFailure, f_outCut, f_outPending, f_firstVariable, f_maxLevel, f_maxCalls, f_maxSize, f_termCount, nI gc, f_searching, f_queryGoal, f_queryWidth, f_levelNow, f_pendingCount, f_nextCount, f_answerCount, f_failureCount, f_cutCount, f_trailTop, f_callsDone, f_choicesLeft, f_neqCount, f_workTop, f_walkTop, f_loaded, f_numberedCount, f_endUnknownCount, f_constraintsReady, f_relevantMask, f_keptCount, a_termKind, a_termLeft, a_termRight, a_termSize, a_goalKind, a_goalFirst, a_goalSecond, a_goalThird, a_goalFourth, a_goalSize, a_relationGoal, a_pendingPath, a_nextPath, a_answerPath, a_link, a_trail, a_neqLeft, a_neqRight, a_workGoal, a_workFrame, a_stackA, a_stackB, a_walk, a_numberOf, a_numbered, a_endUnknown, a_implied, a_kept, a_sightings, a_lastSeen)) : wpX_addGoal post (f_kindSymbol, f_kindSlot, f_kindPair, f_goalEq, f_goalNeq, f_goalBoth, f_goalEither, f_goalCall, f_goOn, f_outAnswer, f_outFailure, f_outCut, f_outPending, f_firstVariable, f_maxLevel, f_maxCalls, f_maxSize, f_termCount, nI gc, f_searching, f_queryGoal, f_queryWidth, f_levelNow, f_pendingCount, f_nextCount, f_answerCount, f_failureCount, f_cutCount, f_trailTop, f_callsDone, f_choicesLeft, f_neqCount, f_workTop, f_walkTop, f_loaded, f_numberedCount, f_endUnknownCount, f_constraintsReady, f_relevantMask, f_keptCount, a_termKind, a_termLeft, a_termRight, a_termSize, a_goalKind, a_goalFirst, a_goalSecond, a_goalThird, a_goalFourth, a_goalSize, a_relationGoal, a_pendingPath, a_nextPath, a_answerPath, a_link, a_trail, a_neqLeft, a_neqRight, a_workGoal, a_workFrame, a_stackA, a_stackB, a_walk, a_numberOf, a_numbered, a_endUnknown, a_implied, a_kept, a_sightings, a_lastSeen) p0 p1 p2 p3 p4 p5 := br_f (by rw [ht]; decide) h
theorem yw_newGoal_ok {post : Int32 → SY → Prop} {p0 p1 p2 p3 p4 p5 : Int32} (ht : gc < 48) (h : post (nI gc) (g_maxLevel, g_maxCalls, g_maxSize, g_terms, nI (gc + 1), g_searching, g_query, g_read, g_level, g_frames, g_neqs, g_numbered, g_kept, b_termToken, b_termLen, upd b_kind gc p0, upd b_goalSize gc p1, upd (upd (upd (upd b_part (4 * gc) p2) (4 * gc + 1) p3) (4 * gc + 2) p4) (4 * gc + 3) p5, b_relation, b_outcome, b_val, b_len, b_neqT, b_neqU, b_neqF, b_stackGoal, b_stackFrame, b_buf, b_bufLen, b_tmp, b_base, b_baseLen, b_num, b_relevant, b_implies, b_keptAt)) : wpY_newGoal post (g_maxLevel, g_maxCalls, g_maxSize, g_terms, nI gc, g_searching, g_query, g_read, g_level, g_frames, g_neqs, g_numbered, g_kept, b_termToken, b_termLen, b_kind, b_goalSize, b_part, b_relation, b_outcome, b_val, b_len, b_neqT, b_neqU, b_neqF, b_stackGoal, b_stackFrame, b_buf, b_bufLen, b_tmp, b_base, b_baseLen, b_num, b_relevant, b_implies, b_keptAt) p0 p1 p2 p3 p4 p5 := by
  have c : (nI gc).toNatClampNeg = gc := nI_clamp (by omega)
  have i : vp_in (nI gc) 48 := vp_in_nI ht (by decide)
  have m : nI gc * 4 = nI (4 * gc) := by rw [show (4 : Int32) = nI 4 from rfl, pk_mul, Nat.mul_comm]
  have m1 : nI (4 * gc) + 1 = nI (4 * gc + 1) := nI_1 _
  have m2 : nI (4 * gc) + 2 = nI (4 * gc + 2) := nI_add _ 2
  have m3 : nI (4 * gc) + 3 = nI (4 * gc + 3) := nI_add _ 3
  have c0 : (nI (4 * gc)).toNatClampNeg = 4 * gc := nI_clamp (by omega)
  have c1 : (nI (4 * gc + 1)).toNatClampNeg = 4 * gc + 1 := nI_clamp (by omega)
  have c2 : (nI (4 * gc + 2)).toNatClampNeg = 4 * gc + 2 := nI_clamp (by omega)
  have c3 : (nI (4 * gc + 3)).toNatClampNeg = 4 * gc + 3 := nI_clamp (by omega)
  unfold wpY_newGoal
  dsimp only
  rw [m, m1, m2, m3]
  refine br_t (nI_lt (b := 48) ht (by decide)) ⟨i, nm_r (e' := upd b_kind gc p0) (by rw [c]) ⟨i, nm_r (e' := upd b_goalSize gc p1) (by rw [c]) ⟨vp_in_nI (by omega) (by decide), nm_r (e' := upd b_part (4 * gc) p2) (by rw [c0]) ⟨vp_in_nI (by omega) (by decide), nm_r (e' := upd (upd b_part (4 * gc) p2) (4 * gc + 1) p3) (by rw [c1]) ⟨vp_in_nI (by omega) (by decide), nm_r (e' := upd (upd (upd b_part (4 * gc) p2) (4 * gc + 1) p3) (4 * gc + 2) p4) (by rw [c2]) ⟨vp_in_nI (by omega) (by decide), nm_r (e' := upd (upd (upd (upd b_part (4 * gc) p2) (4 * gc + 1) p3) (4 * gc + 2) p4) (4 * gc + 3) p5) (by rw [c3]) (nm_r (nI_1 gc) ?_)⟩⟩⟩⟩⟩⟩
  rw [nI_pred]
  exact h
theorem yw_newGoal_no {post : Int32 → SY → Prop} {p0 p1 p2 p3 p4 p5 : Int32} (ht : gc = 48) (h : post (-2) (g_maxLevel, g_maxCalls, g_maxSize, g_terms, nI gc, g_searching, g_query, g_read, g_level, g_frames, g_neqs, g_numbered, g_kept, b_termToken, b_termLen, b_kind, b_goalSize, b_part, b_relation, b_outcome, b_val, b_len, b_neqT, b_neqU, b_neqF, b_stackGoal, b_stackFrame, b_buf, b_bufLen, b_tmp, b_base, b_baseLen, b_num, b_relevant, b_implies, b_keptAt)) : wpY_newGoal post (g_maxLevel, g_maxCalls, g_maxSize, g_terms, nI gc, g_searching, g_query, g_read, g_level, g_frames, g_neqs, g_numbered, g_kept, b_termToken, b_termLen, b_kind, b_goalSize, b_part, b_relation, b_outcome, b_val, b_len, b_neqT, b_neqU, b_neqF, b_stackGoal, b_stackFrame, b_buf, b_bufLen, b_tmp, b_base, b_baseLen, b_num, b_relevant, b_implies, b_keptAt) p0 p1 p2 p3 p4 p5 := br_f (by rw [ht]; decide) h
theorem yw_leaf_ok {post : Int32 → SY → Prop} {p0 : Int32} (ht : tc < 64) (h : post (nI tc) (g_maxLevel, g_maxCalls, g_maxSize, nI (tc + 1), g_goals, g_searching, g_query, g_read, g_level, g_frames, g_neqs, g_numbered, g_kept, upd b_termToken (15 * tc) p0, upd b_termLen tc 1, b_kind, b_goalSize, b_part, b_relation, b_outcome, b_val, b_len, b_neqT, b_neqU, b_neqF, b_stackGoal, b_stackFrame, b_buf, b_bufLen, b_tmp, b_base, b_baseLen, b_num, b_relevant, b_implies, b_keptAt)) : wpY_leaf post (g_maxLevel, g_maxCalls, g_maxSize, nI tc, g_goals, g_searching, g_query, g_read, g_level, g_frames, g_neqs, g_numbered, g_kept, b_termToken, b_termLen, b_kind, b_goalSize, b_part, b_relation, b_outcome, b_val, b_len, b_neqT, b_neqU, b_neqF, b_stackGoal, b_stackFrame, b_buf, b_bufLen, b_tmp, b_base, b_baseLen, b_num, b_relevant, b_implies, b_keptAt) p0 := by
  have m : nI tc * 15 = nI (15 * tc) := by rw [show (15 : Int32) = nI 15 from rfl, pk_mul, Nat.mul_comm]
  unfold wpY_leaf
  dsimp only
  rw [m]
  refine br_t (nI_lt (b := 64) ht (by decide)) ⟨vp_in_nI (by omega) (by decide), nm_r (e' := upd b_termToken (15 * tc) p0) (by rw [nI_clamp (by omega)]) ⟨vp_in_nI ht (by decide), nm_r (e' := upd b_termLen tc 1) (by rw [nI_clamp (by omega)]) (nm_r (nI_1 tc) ?_)⟩⟩
  rw [nI_pred]
  exact h
theorem yw_leaf_no {post : Int32 → SY → Prop} {p0 : Int32} (ht : tc = 64) (h : post (-2) (g_maxLevel, g_maxCalls, g_maxSize, nI tc, g_goals, g_searching, g_query, g_read, g_level, g_frames, g_neqs, g_numbered, g_kept, b_termToken, b_termLen, b_kind, b_goalSize, b_part, b_relation, b_outcome, b_val, b_len, b_neqT, b_neqU, b_neqF, b_stackGoal, b_stackFrame, b_buf, b_bufLen, b_tmp, b_base, b_baseLen, b_num, b_relevant, b_implies, b_keptAt)) : wpY_leaf post (g_maxLevel, g_maxCalls, g_maxSize, nI tc, g_goals, g_searching, g_query, g_read, g_level, g_frames, g_neqs, g_numbered, g_kept, b_termToken, b_termLen, b_kind, b_goalSize, b_part, b_relation, b_outcome, b_val, b_len, b_neqT, b_neqU, b_neqF, b_stackGoal, b_stackFrame, b_buf, b_bufLen, b_tmp, b_base, b_baseLen, b_num, b_relevant, b_implies, b_keptAt) p0 := br_f (by rw [ht]; decide) h
/-- a new term -/
theorem rs_new_term {kd l r : Nat} {str : List Nat} {tok : Nat → Int32} (hW : rs_WF T G gc ml) (hX : rs_TBX T G gc ml f_maxLevel f_maxCalls f_maxSize f_termCount f_goalCount a_termKind a_termLeft a_termRight a_termSize a_goalKind a_goalFirst a_goalSecond a_goalThird a_goalFourth a_goalSize a_relationGoal) (hY : rs_TBY T G gc ml g_maxLevel g_maxCalls g_maxSize g_terms g_goals b_termToken b_termLen b_kind b_goalSize b_part b_relation)
    (hS : rs_SP T G gc ml f_searching f_queryGoal f_queryWidth f_levelNow f_pendingCount f_answerCount f_failureCount f_cutCount f_trailTop f_callsDone f_neqCount f_loaded f_numberedCount f_endUnknownCount f_constraintsReady f_keptCount a_pendingPath a_answerPath a_link a_neqLeft a_neqRight a_numberOf a_numbered a_endUnknown a_kept g_searching g_query g_read g_level b_outcome) (ht : T.2.2.2.2 < 64) (hs : str.length ≤ 15) (hv : (kd = 0 ∧ l < 16 ∧ str = [1 + l]) ∨ (kd = 1 ∧ l < 6 ∧ str = [100 + l]) ∨ (kd = 2 ∧ l < T.2.2.2.2 ∧ r < T.2.2.2.2 ∧ str = 0 :: (T.2.2.2.1 l ++ T.2.2.2.1 r)))
    (hA : rs_A tok (15 * T.2.2.2.2) str) (hO : ∀ i, i < 15 * T.2.2.2.2 → tok i = b_termToken i) :
    rs_REL f_kindSymbol f_kindSlot f_kindPair f_goalEq f_goalNeq f_goalBoth f_goalEither f_goalCall f_goOn f_outAnswer f_outFailure f_outCut f_outPending f_firstVariable f_maxLevel f_maxCalls f_maxSize (nI (T.2.2.2.2 + 1)) f_goalCount f_searching f_queryGoal f_queryWidth f_levelNow f_pendingCount f_nextCount f_answerCount f_failureCount f_cutCount f_trailTop f_callsDone f_choicesLeft f_neqCount f_workTop f_walkTop f_loaded f_numberedCount f_endUnknownCount f_constraintsReady f_relevantMask f_keptCount (upd a_termKind T.2.2.2.2 (nI kd)) (upd a_termLeft T.2.2.2.2 (nI l)) (upd a_termRight T.2.2.2.2 (nI r)) (upd a_termSize T.2.2.2.2 (nI str.length)) a_goalKind a_goalFirst a_goalSecond a_goalThird a_goalFourth a_goalSize a_relationGoal a_pendingPath a_nextPath a_answerPath a_link a_trail a_neqLeft a_neqRight a_workGoal a_workFrame a_stackA a_stackB a_walk a_numberOf a_numbered a_endUnknown a_implied a_kept a_sightings a_lastSeen g_maxLevel g_maxCalls g_maxSize (nI (T.2.2.2.2 + 1)) g_goals g_searching g_query g_read g_level g_frames g_neqs g_numbered g_kept tok (upd b_termLen T.2.2.2.2 (nI str.length)) b_kind b_goalSize b_part b_relation b_outcome b_val b_len b_neqT b_neqU b_neqF b_stackGoal b_stackFrame b_buf b_bufLen b_tmp b_base b_baseLen b_num b_relevant b_implies b_keptAt := by
  have hTX := hX.2.2.2.2.2.1.1
  have hz := hW.2.2.2.2.1
  have hT' := rs_add_TX hTX hz hs hv
  have hW1 : rs_W 1 str ∧ ∀ x, x ∈ str → x < 17 ∨ (100 ≤ x ∧ x < 106) := by
    have h1 := rs_TX_W hT' 64 T.2.2.2.2 ht ht
    have h2 := rs_TX_tok hT' 64 T.2.2.2.2 ht ht
    have e : (rs_add T kd l r str).2.2.2.1 T.2.2.2.2 = str := if_pos rfl
    rw [e] at h1 h2
    exact ⟨h1, h2⟩
  exact ⟨rs_add T kd l r str, G, gc, ml, rs_add_WF hW ht, rs_add_TBX hX hT', rs_add_TBY hY hs hW1.1 hW1.2 hA hO, rs_SP_ext hTX hW.2.2.2.2.2 (rs_add_TE hz) (rs_ext_T G _ gc (fun t h => if_neg (Nat.ne_of_lt h))) (Nat.le_refl _) hS⟩
/-- a new goal -/
theorem rs_new_goal {kd a b c d z : Nat} (hW : rs_WF T G gc ml) (hX : rs_TBX T G gc ml f_maxLevel f_maxCalls f_maxSize f_termCount f_goalCount a_termKind a_termLeft a_termRight a_termSize a_goalKind a_goalFirst a_goalSecond a_goalThird a_goalFourth a_goalSize a_relationGoal) (hY : rs_TBY T G gc ml g_maxLevel g_maxCalls g_maxSize g_terms g_goals b_termToken b_termLen b_kind b_goalSize b_part b_relation)
    (hS : rs_SP T G gc ml f_searching f_queryGoal f_queryWidth f_levelNow f_pendingCount f_answerCount f_failureCount f_cutCount f_trailTop f_callsDone f_neqCount f_loaded f_numberedCount f_endUnknownCount f_constraintsReady f_keptCount a_pendingPath a_answerPath a_link a_neqLeft a_neqRight a_numberOf a_numbered a_endUnknown a_kept g_searching g_query g_read g_level b_outcome) (hg : gc < 48) (z1 : 1 ≤ z) (z2 : z ≤ 15)
    (hk : (kd = 0 ∧ a < T.2.2.2.2 ∧ b < T.2.2.2.2) ∨ (kd = 1 ∧ a < T.2.2.2.2 ∧ b < T.2.2.2.2) ∨ (kd = 2 ∧ a < gc ∧ b < gc ∧ z = 1 + G.2.2.2.2.2.1 a + G.2.2.2.2.2.1 b) ∨ (kd = 3 ∧ a < gc ∧ b < gc ∧ z = 1 + G.2.2.2.2.2.1 a + G.2.2.2.2.2.1 b) ∨ (kd = 4 ∧ a < 8 ∧ b < T.2.2.2.2 ∧ c < T.2.2.2.2 ∧ d < T.2.2.2.2)) :
    rs_REL f_kindSymbol f_kindSlot f_kindPair f_goalEq f_goalNeq f_goalBoth f_goalEither f_goalCall f_goOn f_outAnswer f_outFailure f_outCut f_outPending f_firstVariable f_maxLevel f_maxCalls f_maxSize f_termCount (nI (gc + 1)) f_searching f_queryGoal f_queryWidth f_levelNow f_pendingCount f_nextCount f_answerCount f_failureCount f_cutCount f_trailTop f_callsDone f_choicesLeft f_neqCount f_workTop f_walkTop f_loaded f_numberedCount f_endUnknownCount f_constraintsReady f_relevantMask f_keptCount a_termKind a_termLeft a_termRight a_termSize (upd a_goalKind gc (nI kd)) (upd a_goalFirst gc (nI a)) (upd a_goalSecond gc (nI b)) (upd a_goalThird gc (nI c)) (upd a_goalFourth gc (nI d)) (upd a_goalSize gc (nI z)) a_relationGoal a_pendingPath a_nextPath a_answerPath a_link a_trail a_neqLeft a_neqRight a_workGoal a_workFrame a_stackA a_stackB a_walk a_numberOf a_numbered a_endUnknown a_implied a_kept a_sightings a_lastSeen g_maxLevel g_maxCalls g_maxSize g_terms (nI (gc + 1)) g_searching g_query g_read g_level g_frames g_neqs g_numbered g_kept b_termToken b_termLen (upd b_kind gc (nI kd)) (upd b_goalSize gc (nI z)) (upd (upd (upd (upd b_part (4 * gc) (nI a)) (4 * gc + 1) (nI b)) (4 * gc + 2) (nI c)) (4 * gc + 3) (nI d)) b_relation b_outcome b_val b_len b_neqT b_neqU b_neqF b_stackGoal b_stackFrame b_buf b_bufLen b_tmp b_base b_baseLen b_num b_relevant b_implies b_keptAt :=
  ⟨T, rs_addG G gc kd a b c d z, gc + 1, ml, rs_addG_WF hW hg z1 z2 hk, rs_addG_TBX hX, rs_addG_TBY hY, rs_SP_ext hX.2.2.2.2.2.1.1 hW.2.2.2.2.2 (rs_te_refl hW.2.2.2.2.1) (rs_addG_Ext T) (Nat.le_succ _) hS⟩
theorem vc_symbol (h : rs_REL f_kindSymbol f_kindSlot f_kindPair f_goalEq f_goalNeq f_goalBoth f_goalEither f_goalCall f_goOn f_outAnswer f_outFailure f_outCut f_outPending f_firstVariable f_maxLevel f_maxCalls f_maxSize f_termCount f_goalCount f_searching f_queryGoal f_queryWidth f_levelNow f_pendingCount f_nextCount f_answerCount f_failureCount f_cutCount f_trailTop f_callsDone f_choicesLeft f_neqCount f_workTop f_walkTop f_loaded f_numberedCount f_endUnknownCount f_constraintsReady f_relevantMask f_keptCount a_termKind a_termLeft a_termRight a_termSize a_goalKind a_goalFirst a_goalSecond a_goalThird a_goalFourth a_goalSize a_relationGoal a_pendingPath a_nextPath a_answerPath a_link a_trail a_neqLeft a_neqRight a_workGoal a_workFrame a_stackA a_stackB a_walk a_numberOf a_numbered a_endUnknown a_implied a_kept a_sightings a_lastSeen g_maxLevel g_maxCalls g_maxSize g_terms g_goals g_searching g_query g_read g_level g_frames g_neqs g_numbered g_kept b_termToken b_termLen b_kind b_goalSize b_part b_relation b_outcome b_val b_len b_neqT b_neqU b_neqF b_stackGoal b_stackFrame b_buf b_bufLen b_tmp b_base b_baseLen b_num b_relevant b_implies b_keptAt) (v1 : Int32) : wpX_symbol (fun r u' => wpY_symbol (fun r' v' => r' = r ∧ i_Rel k u' v') (g_maxLevel, g_maxCalls, g_maxSize, g_terms, g_goals, g_searching, g_query, g_read, g_level, g_frames, g_neqs, g_numbered, g_kept, b_termToken, b_termLen, b_kind, b_goalSize, b_part, b_relation, b_outcome, b_val, b_len, b_neqT, b_neqU, b_neqF, b_stackGoal, b_stackFrame, b_buf, b_bufLen, b_tmp, b_base, b_baseLen, b_num, b_relevant, b_implies, b_keptAt) v1) (f_kindSymbol, f_kindSlot, f_kindPair, f_goalEq, f_goalNeq, f_goalBoth, f_goalEither, f_goalCall, f_goOn, f_outAnswer, f_outFailure, f_outCut, f_outPending, f_firstVariable, f_maxLevel, f_maxCalls, f_maxSize, f_termCount, f_goalCount, f_searching, f_queryGoal, f_queryWidth, f_levelNow, f_pendingCount, f_nextCount, f_answerCount, f_failureCount, f_cutCount, f_trailTop, f_callsDone, f_choicesLeft, f_neqCount, f_workTop, f_walkTop, f_loaded, f_numberedCount, f_endUnknownCount, f_constraintsReady, f_relevantMask, f_keptCount, a_termKind, a_termLeft, a_termRight, a_termSize, a_goalKind, a_goalFirst, a_goalSecond, a_goalThird, a_goalFourth, a_goalSize, a_relationGoal, a_pendingPath, a_nextPath, a_answerPath, a_link, a_trail, a_neqLeft, a_neqRight, a_workGoal, a_workFrame, a_stackA, a_stackB, a_walk, a_numberOf, a_numbered, a_endUnknown, a_implied, a_kept, a_sightings, a_lastSeen) v1 := by
  have hR := h
  obtain ⟨T, G, gc, ml, hW, hX, hY, hS⟩ := h
  obtain rfl := hX.2.2.2.1
  obtain rfl := hY.2.2.2.1
  have htc := hW.2.2.1
  rcases rs_dec v1 (n := 16) (by decide) with hv | ⟨s, hs, rfl⟩
  · refine br_c (fun z => br_t z ⟨rfl, hR⟩) (fun z => ?_)
    have h16 : ¬ v1 < 16 := Int32.not_lt.mpr (hv.resolve_left z)
    exact br_f h16 (br_f z (br_f h16 ⟨rfl, hR⟩))
  · have e1 : 1 + nI s = nI (1 + s) := nI_add 1 s
    refine br_f (nI_pos (by omega)) (br_t (nI_lt (b := 16) hs (by decide)) ?_)
    by_cases ht : T.2.2.2.2 < 64
    · refine xw_addTerm_ok ht (br_f (nI_pos (by omega)) (br_t (nI_lt (b := 16) hs (by decide)) ?_))
      refine yw_leaf_ok ht ⟨rfl, ?_⟩
      rw [e1]
      exact rs_new_term (kd := 0) (l := s) (r := 0) (str := [1 + s]) hW hX hY hS ht (by simp) (Or.inl ⟨rfl, hs, rfl⟩) (rs_A_one (if_pos rfl)) (fun i hi => if_neg (by omega))
    · exact xw_addTerm_no (by omega) (br_f (nI_pos (by omega)) (br_t (nI_lt (b := 16) hs (by decide)) (yw_leaf_no (by omega) ⟨rfl, hR⟩)))
theorem vc_variable (h : rs_REL f_kindSymbol f_kindSlot f_kindPair f_goalEq f_goalNeq f_goalBoth f_goalEither f_goalCall f_goOn f_outAnswer f_outFailure f_outCut f_outPending f_firstVariable f_maxLevel f_maxCalls f_maxSize f_termCount f_goalCount f_searching f_queryGoal f_queryWidth f_levelNow f_pendingCount f_nextCount f_answerCount f_failureCount f_cutCount f_trailTop f_callsDone f_choicesLeft f_neqCount f_workTop f_walkTop f_loaded f_numberedCount f_endUnknownCount f_constraintsReady f_relevantMask f_keptCount a_termKind a_termLeft a_termRight a_termSize a_goalKind a_goalFirst a_goalSecond a_goalThird a_goalFourth a_goalSize a_relationGoal a_pendingPath a_nextPath a_answerPath a_link a_trail a_neqLeft a_neqRight a_workGoal a_workFrame a_stackA a_stackB a_walk a_numberOf a_numbered a_endUnknown a_implied a_kept a_sightings a_lastSeen g_maxLevel g_maxCalls g_maxSize g_terms g_goals g_searching g_query g_read g_level g_frames g_neqs g_numbered g_kept b_termToken b_termLen b_kind b_goalSize b_part b_relation b_outcome b_val b_len b_neqT b_neqU b_neqF b_stackGoal b_stackFrame b_buf b_bufLen b_tmp b_base b_baseLen b_num b_relevant b_implies b_keptAt) (v1 : Int32) : wpX_variable (fun r u' => wpY_variable (fun r' v' => r' = r ∧ i_Rel k u' v') (g_maxLevel, g_maxCalls, g_maxSize, g_terms, g_goals, g_searching, g_query, g_read, g_level, g_frames, g_neqs, g_numbered, g_kept, b_termToken, b_termLen, b_kind, b_goalSize, b_part, b_relation, b_outcome, b_val, b_len, b_neqT, b_neqU, b_neqF, b_stackGoal, b_stackFrame, b_buf, b_bufLen, b_tmp, b_base, b_baseLen, b_num, b_relevant, b_implies, b_keptAt) v1) (f_kindSymbol, f_kindSlot, f_kindPair, f_goalEq, f_goalNeq, f_goalBoth, f_goalEither, f_goalCall, f_goOn, f_outAnswer, f_outFailure, f_outCut, f_outPending, f_firstVariable, f_maxLevel, f_maxCalls, f_maxSize, f_termCount, f_goalCount, f_searching, f_queryGoal, f_queryWidth, f_levelNow, f_pendingCount, f_nextCount, f_answerCount, f_failureCount, f_cutCount, f_trailTop, f_callsDone, f_choicesLeft, f_neqCount, f_workTop, f_walkTop, f_loaded, f_numberedCount, f_endUnknownCount, f_constraintsReady, f_relevantMask, f_keptCount, a_termKind, a_termLeft, a_termRight, a_termSize, a_goalKind, a_goalFirst, a_goalSecond, a_goalThird, a_goalFourth, a_goalSize, a_relationGoal, a_pendingPath, a_nextPath, a_answerPath, a_link, a_trail, a_neqLeft, a_neqRight, a_workGoal, a_workFrame, a_stackA, a_stackB, a_walk, a_numberOf, a_numbered, a_endUnknown, a_implied, a_kept, a_sightings, a_lastSeen) v1 := by
  have hR := h
  obtain ⟨T, G, gc, ml, hW, hX, hY, hS⟩ := h
  obtain rfl := hX.2.2.2.1
  obtain rfl := hY.2.2.2.1
  have htc := hW.2.2.1
  rcases rs_dec v1 (n := 6) (by decide) with hv | ⟨s, hs, rfl⟩
  · refine br_c (fun z => br_t z ⟨rfl, hR⟩) (fun z => ?_)
    have h16 : ¬ v1 < 6 := Int32.not_lt.mpr (hv.resolve_left z)
    exact br_f h16 (br_f z (br_f h16 ⟨rfl, hR⟩))
  · have e1 : 100 + nI s = nI (100 + s) := nI_add 100 s
    refine br_f (nI_pos (by omega)) (br_t (nI_lt (b := 6) hs (by decide)) ?_)
    by_cases ht : T.2.2.2.2 < 64
    · refine xw_addTerm_ok ht (br_f (nI_pos (by omega)) (br_t (nI_lt (b := 6) hs (by decide)) ?_))
      refine yw_leaf_ok ht ⟨rfl, ?_⟩
      rw [e1]
      exact rs_new_term (kd := 1) (l := s) (r := 0) (str := [100 + s]) hW hX hY hS ht (by simp) (Or.inr (Or.inl ⟨rfl, hs, rfl⟩)) (rs_A_one (if_pos rfl)) (fun i hi => if_neg (by omega))
    · exact xw_addTerm_no (by omega) (br_f (nI_pos (by omega)) (br_t (nI_lt (b := 6) hs (by decide)) (yw_leaf_no (by omega) ⟨rfl, hR⟩)))
end
end
section
/-! pairs, goals, relations -/
section
variable {f_kindSymbol f_kindSlot f_kindPair f_goalEq f_goalNeq f_goalBoth f_goalEither f_goalCall f_goOn f_outAnswer f_outFailure f_outCut f_outPending f_firstVariable f_maxLevel f_maxCalls f_maxSize f_termCount f_goalCount f_searching f_queryGoal f_queryWidth f_levelNow f_pendingCount f_nextCount f_answerCount f_failureCount f_cutCount f_trailTop f_callsDone f_choicesLeft f_neqCount f_workTop f_walkTop f_loaded f_numberedCount f_endUnknownCount f_constraintsReady f_relevantMask f_keptCount : Int32} {a_termKind a_termLeft a_termRight a_termSize a_goalKind a_goalFirst a_goalSecond a_goalThird a_goalFourth a_goalSize a_relationGoal a_pendingPath a_nextPath a_answerPath a_link a_trail a_neqLeft a_neqRight a_workGoal a_workFrame a_stackA a_stackB a_walk a_numberOf a_numbered a_endUnknown a_implied a_kept a_sightings a_lastSeen : Nat → Int32}
variable {g_maxLevel g_maxCalls g_maxSize g_terms g_goals g_searching g_query g_read g_level g_frames g_neqs g_numbered g_kept : Int32} {b_termToken b_termLen b_kind b_goalSize b_part b_relation b_outcome b_val b_len b_neqT b_neqU b_neqF b_stackGoal b_stackFrame b_buf b_bufLen b_tmp b_base b_baseLen b_num b_relevant b_implies b_keptAt : Nat → Int32}
variable {k : Nat}
theorem rs_A_snoc {a : Nat → Int32} {o x : Nat} {l : List Nat} {w : Int32} (h : rs_A a o l) (hw : w = nI x) : rs_A (upd a (o + l.length) w) o (l ++ [x]) :=
  rs_A_app (rs_A_keep h (fun i _ i2 => if_neg (by omega))) (rs_A_one ((if_pos rfl).trans hw))
theorem yw_pair_114 {post : Int32 → SY → Prop} {ts : Nat → List Nat} {tc a b : Nat} {b0 : Nat → Int32} (hT : rs_TB tc ts b0 b_termLen) (htc : tc < 64) (ha : a < tc) (hb : b < tc) (h15 : 1 + (ts a).length + (ts b).length ≤ 15)
    (h : ∀ b_termToken, rs_A b_termToken (15 * tc) (0 :: (ts a ++ ts b)) → (∀ i, i < 15 * tc → b_termToken i = b0 i) → post (nI tc) (g_maxLevel, g_maxCalls, g_maxSize, nI (tc + 1), g_goals, g_searching, g_query, g_read, g_level, g_frames, g_neqs, g_numbered, g_kept, b_termToken, upd b_termLen tc (nI (1 + (ts a).length + (ts b).length)), b_kind, b_goalSize, b_part, b_relation, b_outcome, b_val, b_len, b_neqT, b_neqU, b_neqF, b_stackGoal, b_stackFrame, b_buf, b_bufLen, b_tmp, b_base, b_baseLen, b_num, b_relevant, b_implies, b_keptAt)) :
    ∀ (suf pre : List Nat) (n : Nat) (b_termToken : Nat → Int32), ts b = pre ++ suf → suf.length < n → rs_A b_termToken (15 * tc) (0 :: (ts a ++ pre)) → (∀ i, i < 15 * tc → b_termToken i = b0 i) → wY_pair_114 post (nI a) (nI b) (nI (15 * tc)) g_maxLevel g_maxCalls g_maxSize (nI tc) g_goals g_searching g_query g_read g_level g_frames g_neqs g_numbered g_kept n (nI pre.length) b_termToken b_termLen b_kind b_goalSize b_part b_relation b_outcome b_val b_len b_neqT b_neqU b_neqF b_stackGoal b_stackFrame b_buf b_bufLen b_tmp b_base b_baseLen b_num b_relevant b_implies b_keptAt := by
  obtain ⟨a1, a2, _, _, _⟩ := hT a ha
  obtain ⟨b1, b2, _, _, _⟩ := hT b hb
  intro suf
  induction suf with
  | nil =>
    intro pre n b_termToken e hn hA hO
    obtain ⟨n, rfl⟩ : ∃ m, n = m + 1 := ⟨n - 1, by omega⟩
    rw [List.append_nil] at e
    subst e
    refine ⟨vp_in_nI (by omega) (by decide), ?_⟩
    rw [nI_clamp (n := b) (by omega), b1, nI_clamp (n := a) (by omega), a1]
    refine br_t (nI_le (Nat.le_refl _) (by omega)) ⟨vp_in_nI (by omega) (by decide), vp_in_nI (by omega) (by decide), vp_in_nI htc (by decide), nm_r (e' := upd b_termLen tc (nI (1 + (ts a).length + (ts b).length))) ?_ (nm_r (nI_1 tc) ?_)⟩
    · have e1 : 1 + nI (ts a).length + nI (ts b).length = nI (1 + (ts a).length + (ts b).length) := by
        rw [show (1 : Int32) = nI 1 from rfl, nI_add, nI_add]
      rw [nI_clamp (n := tc) (by omega), e1]
    · rw [nI_pred]
      exact h b_termToken hA hO
  | cons x suf ih =>
    intro pre n b_termToken e hn hA hO
    obtain ⟨n, rfl⟩ : ∃ m, n = m + 1 := ⟨n - 1, by omega⟩
    have hlen : (ts b).length = pre.length + (suf.length + 1) := by rw [e, List.length_append, List.length_cons]
    have b2' := b2
    rw [e] at b2'
    have ex := rs_A_mid b2'
    have er : b_termToken (15 * b + pre.length) = nI x := (hO _ (by omega)).trans ex
    have hl2 : (0 :: (ts a ++ pre)).length = 1 + (ts a).length + pre.length := by rw [List.length_cons, List.length_append]; omega
    refine ⟨vp_in_nI (by omega) (by decide), ?_⟩
    rw [nI_clamp (n := b) (by omega), b1, nI_clamp (n := a) (by omega), a1, rs_n15, nI_1 (15 * tc), nI_add (15 * tc + 1) (ts a).length, nI_add (15 * tc + 1 + (ts a).length) pre.length]
    refine br_f (nI_ge (by omega) (by omega)) ⟨vp_in_nI (by omega) (by decide), vp_in_nI (by omega) (by decide), vp_in_nI (by omega) (by decide), nm_r (e' := upd b_termToken (15 * tc + (0 :: (ts a ++ pre)).length) (nI x)) ?_ (nm_r (nI_1 _) ?_)⟩
    · rw [nI_clamp (n := 15 * b + pre.length) (by omega), er, nI_clamp (by omega), hl2]
      congr 1
      omega
    · have hpl : (pre ++ [x]).length = pre.length + 1 := by rw [List.length_append]; rfl
      have key := ih (pre ++ [x]) n (upd b_termToken (15 * tc + (0 :: (ts a ++ pre)).length) (nI x)) (by rw [e, List.append_assoc]; rfl) (by rw [List.length_cons] at hn; omega) (by
        have := rs_A_snoc (x := x) hA rfl
        rwa [List.cons_append, List.append_assoc] at this) (fun i hi => (if_neg (by omega)).trans (hO i hi))
      rw [hpl] at key
      exact key
theorem yw_pair_71 {post : Int32 → SY → Prop} {ts : Nat → List Nat} {tc a b : Nat} {b0 : Nat → Int32} (hT : rs_TB tc ts b0 b_termLen) (htc : tc < 64) (ha : a < tc) (hb : b < tc) (h15 : 1 + (ts a).length + (ts b).length ≤ 15)
    (h : ∀ b_termToken, rs_A b_termToken (15 * tc) (0 :: ts a) → (∀ i, i < 15 * tc → b_termToken i = b0 i) → ∃ n, wY_pair_114 post (nI a) (nI b) (nI (15 * tc)) g_maxLevel g_maxCalls g_maxSize (nI tc) g_goals g_searching g_query g_read g_level g_frames g_neqs g_numbered g_kept n 0 b_termToken b_termLen b_kind b_goalSize b_part b_relation b_outcome b_val b_len b_neqT b_neqU b_neqF b_stackGoal b_stackFrame b_buf b_bufLen b_tmp b_base b_baseLen b_num b_relevant b_implies b_keptAt) :
    ∀ (suf pre : List Nat) (n : Nat) (b_termToken : Nat → Int32), ts a = pre ++ suf → suf.length < n → rs_A b_termToken (15 * tc) (0 :: pre) → (∀ i, i < 15 * tc → b_termToken i = b0 i) → wY_pair_71 post (nI a) (nI b) (nI (15 * tc)) g_maxLevel g_maxCalls g_maxSize (nI tc) g_goals g_searching g_query g_read g_level g_frames g_neqs g_numbered g_kept n (nI pre.length) b_termToken b_termLen b_kind b_goalSize b_part b_relation b_outcome b_val b_len b_neqT b_neqU b_neqF b_stackGoal b_stackFrame b_buf b_bufLen b_tmp b_base b_baseLen b_num b_relevant b_implies b_keptAt := by
  obtain ⟨a1, a2, _, _, _⟩ := hT a ha
  intro suf
  induction suf with
  | nil =>
    intro pre n b_termToken e hn hA hO
    obtain ⟨n, rfl⟩ : ∃ m, n = m + 1 := ⟨n - 1, by omega⟩
    rw [List.append_nil] at e
    subst e
    refine ⟨vp_in_nI (by omega) (by decide), ?_⟩
    rw [nI_clamp (n := a) (by omega), a1]
    exact br_t (nI_le (Nat.le_refl _) (by omega)) (h b_termToken hA hO)
  | cons x suf ih =>
    intro pre n b_termToken e hn hA hO
    obtain ⟨n, rfl⟩ : ∃ m, n = m + 1 := ⟨n - 1, by omega⟩
    have hlen : (ts a).length = pre.length + (suf.length + 1) := by rw [e, List.length_append, List.length_cons]
    have a2' := a2
    rw [e] at a2'
    have ex := rs_A_mid a2'
    have er : b_termToken (15 * a + pre.length) = nI x := (hO _ (by omega)).trans ex
    have hl2 : (0 :: pre).length = 1 + pre.length := by rw [List.length_cons]; omega
    refine ⟨vp_in_nI (by omega) (by decide), ?_⟩
    rw [nI_clamp (n := a) (by omega), a1, rs_n15, nI_1 (15 * tc), nI_add (15 * tc + 1) pre.length]
    refine br_f (nI_ge (by omega) (by omega)) ⟨vp_in_nI (by omega) (by decide), vp_in_nI (by omega) (by decide), nm_r (e' := upd b_termToken (15 * tc + (0 :: pre).length) (nI x)) ?_ (nm_r (nI_1 _) ?_)⟩
    · rw [nI_clamp (n := 15 * a + pre.length) (by omega), er, nI_clamp (by omega), hl2]
      congr 1
      omega
    · have hpl : (pre ++ [x]).length = pre.length + 1 := by rw [List.length_append]; rfl
      have key := ih (pre ++ [x]) n (upd b_termToken (15 * tc + (0 :: pre).length) (nI x)) (by rw [e, List.append_assoc]; rfl) (by rw [List.length_cons] at hn; omega) (by
        have := rs_A_snoc (x := x) hA rfl
        rwa [List.cons_append] at this) (fun i hi => (if_neg (by omega)).trans (hO i hi))
      rw [hpl] at key
      exact key
theorem vc_pair (h : rs_REL f_kindSymbol f_kindSlot f_kindPair f_goalEq f_goalNeq f_goalBoth f_goalEither f_goalCall f_goOn f_outAnswer f_outFailure f_outCut f_outPending f_firstVariable f_maxLevel f_maxCalls f_maxSize f_termCount f_goalCount f_searching f_queryGoal f_queryWidth f_levelNow f_pendingCount f_nextCount f_answerCount f_failureCount f_cutCount f_trailTop f_callsDone f_choicesLeft f_neqCount f_workTop f_walkTop f_loaded f_numberedCount f_endUnknownCount f_constraintsReady f_relevantMask f_keptCount a_termKind a_termLeft a_termRight a_termSize a_goalKind a_goalFirst a_goalSecond a_goalThird a_goalFourth a_goalSize a_relationGoal a_pendingPath a_nextPath a_answerPath a_link a_trail a_neqLeft a_neqRight a_workGoal a_workFrame a_stackA a_stackB a_walk a_numberOf a_numbered a_endUnknown a_implied a_kept a_sightings a_lastSeen g_maxLevel g_maxCalls g_maxSize g_terms g_goals g_searching g_query g_read g_level g_frames g_neqs g_numbered g_kept b_termToken b_termLen b_kind b_goalSize b_part b_relation b_outcome b_val b_len b_neqT b_neqU b_neqF b_stackGoal b_stackFrame b_buf b_bufLen b_tmp b_base b_baseLen b_num b_relevant b_implies b_keptAt) (v1 v2 : Int32) : wpX_pair (fun r u' => wpY_pair (fun r' v' => r' = r ∧ i_Rel k u' v') (g_maxLevel, g_maxCalls, g_maxSize, g_terms, g_goals, g_searching, g_query, g_read, g_level, g_frames, g_neqs, g_numbered, g_kept, b_termToken, b_termLen, b_kind, b_goalSize, b_part, b_relation, b_outcome, b_val, b_len, b_neqT, b_neqU, b_neqF, b_stackGoal, b_stackFrame, b_buf, b_bufLen, b_tmp, b_base, b_baseLen, b_num, b_relevant, b_implies, b_keptAt) v1 v2) (f_kindSymbol, f_kindSlot, f_kindPair, f_goalEq, f_goalNeq, f_goalBoth, f_goalEither, f_goalCall, f_goOn, f_outAnswer, f_outFailure, f_outCut, f_outPending, f_firstVariable, f_maxLevel, f_maxCalls, f_maxSize, f_termCount, f_goalCount, f_searching, f_queryGoal, f_queryWidth, f_levelNow, f_pendingCount, f_nextCount, f_answerCount, f_failureCount, f_cutCount, f_trailTop, f_callsDone, f_choicesLeft, f_neqCount, f_workTop, f_walkTop, f_loaded, f_numberedCount, f_endUnknownCount, f_constraintsReady, f_relevantMask, f_keptCount, a_termKind, a_termLeft, a_termRight, a_termSize, a_goalKind, a_goalFirst, a_goalSecond, a_goalThird, a_goalFourth, a_goalSize, a_relationGoal, a_pendingPath, a_nextPath, a_answerPath, a_link, a_trail, a_neqLeft, a_neqRight, a_workGoal, a_workFrame, a_stackA, a_stackB, a_walk, a_numberOf, a_numbered, a_endUnknown, a_implied, a_kept, a_sightings, a_lastSeen) v1 v2 := by
  have hR := h
  obtain ⟨T, G, gc, ml, hW, hX, hY, hS⟩ := h
  obtain rfl := hX.2.2.2.1
  obtain rfl := hY.2.2.2.1
  have htc := hW.2.2.1
  have hTB := hY.2.2.2.2.2.1
  unfold wpX_pair
  rcases rs_dec v1 (n := T.2.2.2.2) (by omega) with hv | ⟨a, ha, rfl⟩
  · refine xw_isTerm_0 hv (br_t rfl ?_)
    show wpY_pair _ _ _ _
    unfold wpY_pair
    exact yw_isTerm_0 hv (br_t rfl ⟨rfl, hR⟩)
  · refine xw_isTerm_1 ha htc (br_f (by decide) ?_)
    rcases rs_dec v2 (n := T.2.2.2.2) (by omega) with hv | ⟨b, hb, rfl⟩
    · refine xw_isTerm_0 hv (br_t rfl ?_)
      show wpY_pair _ _ _ _
      unfold wpY_pair
      exact yw_isTerm_1 ha htc (br_f (by decide) (yw_isTerm_0 hv (br_t rfl ⟨rfl, hR⟩)))
    · refine xw_isTerm_1 hb htc (br_f (by decide) ⟨vp_in_nI (by omega) (by decide), vp_in_nI (by omega) (by decide), ?_⟩)
      have la := (hTB a ha).2.2.2.1
      have lb := (hTB b hb).2.2.2.1
      have e1 : 1 + nI (T.2.2.2.1 a).length + nI (T.2.2.2.1 b).length = nI (1 + (T.2.2.2.1 a).length + (T.2.2.2.1 b).length) := by
        rw [show (1 : Int32) = nI 1 from rfl, nI_add, nI_add]
      refine nm_r (e' := nI (1 + (T.2.2.2.1 a).length + (T.2.2.2.1 b).length)) ?_ ?_
      · rw [nI_clamp (n := a) (by omega), nI_clamp (n := b) (by omega), hX.2.2.2.2.2.2.1 a ha, hX.2.2.2.2.2.2.1 b hb, e1]
      · have e2 : 1 + b_termLen (nI a).toNatClampNeg + b_termLen (nI b).toNatClampNeg = nI (1 + (T.2.2.2.1 a).length + (T.2.2.2.1 b).length) := by
          rw [nI_clamp (n := a) (by omega), nI_clamp (n := b) (by omega), (hTB a ha).1, (hTB b hb).1, e1]
        have eS : (0 :: (T.2.2.2.1 a ++ T.2.2.2.1 b)).length = 1 + (T.2.2.2.1 a).length + (T.2.2.2.1 b).length := by rw [List.length_cons, List.length_append]; omega
        by_cases hbig : 1 + (T.2.2.2.1 a).length + (T.2.2.2.1 b).length ≤ 15
        · refine br_t (nI_le (b := 15) hbig (by decide)) ?_
          by_cases ht : T.2.2.2.2 < 64
          · refine xw_addTerm_ok ht ?_
            show wpY_pair _ _ _ _
            unfold wpY_pair
            refine yw_isTerm_1 ha htc (br_f (by decide) (yw_isTerm_1 hb htc (br_f (by decide) ⟨vp_in_nI (by omega) (by decide), vp_in_nI (by omega) (by decide), ?_⟩)))
            refine br_t (by rw [e2]; exact nI_le (b := 15) hbig (by decide)) (br_t (nI_lt (b := 64) ht (by decide)) (nm_r (e' := nI (15 * T.2.2.2.2)) (by rw [show (15 : Int32) = nI 15 from rfl, pk_mul, Nat.mul_comm]) ⟨vp_in_nI (by omega) (by decide), nm_r (e' := upd b_termToken (15 * T.2.2.2.2) 0) (by rw [nI_clamp (by omega)]) ⟨(T.2.2.2.1 a).length + 1, ?_⟩⟩))
            refine yw_pair_71 hTB ht ha hb hbig ?_ (T.2.2.2.1 a) [] _ _ rfl (by omega) (rs_A_one (if_pos rfl)) (fun i hi => if_neg (by omega))
            intro tok hA hO
            refine ⟨(T.2.2.2.1 b).length + 1, ?_⟩
            refine yw_pair_114 hTB ht ha hb hbig ?_ (T.2.2.2.1 b) [] _ _ rfl (by omega) (by rw [List.append_nil]; exact hA) hO
            intro tok hA hO
            refine ⟨rfl, ?_⟩
            rw [← eS]
            exact rs_new_term (kd := 2) (l := a) (r := b) (str := 0 :: (T.2.2.2.1 a ++ T.2.2.2.1 b)) hW hX hY hS ht (by rw [eS]; exact hbig) (Or.inr (Or.inr ⟨rfl, ha, hb, rfl⟩)) hA hO
          · refine xw_addTerm_no (by omega) ?_
            show wpY_pair _ _ _ _
            unfold wpY_pair
            refine yw_isTerm_1 ha htc (br_f (by decide) (yw_isTerm_1 hb htc (br_f (by decide) ⟨vp_in_nI (by omega) (by decide), vp_in_nI (by omega) (by decide), ?_⟩)))
            exact br_t (by rw [e2]; exact nI_le (b := 15) hbig (by decide)) (br_f (nI_nlt (b := 64) (by omega) (by omega)) ⟨rfl, hR⟩)
        · refine br_f (nI_ge (a := 15) (by omega) (by omega)) ?_
          show wpY_pair _ _ _ _
          unfold wpY_pair
          refine yw_isTerm_1 ha htc (br_f (by decide) (yw_isTerm_1 hb htc (br_f (by decide) ⟨vp_in_nI (by omega) (by decide), vp_in_nI (by omega) (by decide), ?_⟩)))
          exact br_f (by rw [e2]; exact nI_ge (a := 15) (by omega) (by omega)) ⟨rfl, hR⟩
theorem vc_eq (h : rs_REL f_kindSymbol f_kindSlot f_kindPair f_goalEq f_goalNeq f_goalBoth f_goalEither f_goalCall f_goOn f_outAnswer f_outFailure f_outCut f_outPending f_firstVariable f_maxLevel f_maxCalls f_maxSize f_termCount f_goalCount f_searching f_queryGoal f_queryWidth f_levelNow f_pendingCount f_nextCount f_answerCount f_failureCount f_cutCount f_trailTop f_callsDone f_choicesLeft f_neqCount f_workTop f_walkTop f_loaded f_numberedCount f_endUnknownCount f_constraintsReady f_relevantMask f_keptCount a_termKind a_termLeft a_termRight a_termSize a_goalKind a_goalFirst a_goalSecond a_goalThird a_goalFourth a_goalSize a_relationGoal a_pendingPath a_nextPath a_answerPath a_link a_trail a_neqLeft a_neqRight a_workGoal a_workFrame a_stackA a_stackB a_walk a_numberOf a_numbered a_endUnknown a_implied a_kept a_sightings a_lastSeen g_maxLevel g_maxCalls g_maxSize g_terms g_goals g_searching g_query g_read g_level g_frames g_neqs g_numbered g_kept b_termToken b_termLen b_kind b_goalSize b_part b_relation b_outcome b_val b_len b_neqT b_neqU b_neqF b_stackGoal b_stackFrame b_buf b_bufLen b_tmp b_base b_baseLen b_num b_relevant b_implies b_keptAt) (v1 v2 : Int32) : wpX_eq (fun r u' => wpY_eq (fun r' v' => r' = r ∧ i_Rel k u' v') (g_maxLevel, g_maxCalls, g_maxSize, g_terms, g_goals, g_searching, g_query, g_read, g_level, g_frames, g_neqs, g_numbered, g_kept, b_termToken, b_termLen, b_kind, b_goalSize, b_part, b_relation, b_outcome, b_val, b_len, b_neqT, b_neqU, b_neqF, b_stackGoal, b_stackFrame, b_buf, b_bufLen, b_tmp, b_base, b_baseLen, b_num, b_relevant, b_implies, b_keptAt) v1 v2) (f_kindSymbol, f_kindSlot, f_kindPair, f_goalEq, f_goalNeq, f_goalBoth, f_goalEither, f_goalCall, f_goOn, f_outAnswer, f_outFailure, f_outCut, f_outPending, f_firstVariable, f_maxLevel, f_maxCalls, f_maxSize, f_termCount, f_goalCount, f_searching, f_queryGoal, f_queryWidth, f_levelNow, f_pendingCount, f_nextCount, f_answerCount, f_failureCount, f_cutCount, f_trailTop, f_callsDone, f_choicesLeft, f_neqCount, f_workTop, f_walkTop, f_loaded, f_numberedCount, f_endUnknownCount, f_constraintsReady, f_relevantMask, f_keptCount, a_termKind, a_termLeft, a_termRight, a_termSize, a_goalKind, a_goalFirst, a_goalSecond, a_goalThird, a_goalFourth, a_goalSize, a_relationGoal, a_pendingPath, a_nextPath, a_answerPath, a_link, a_trail, a_neqLeft, a_neqRight, a_workGoal, a_workFrame, a_stackA, a_stackB, a_walk, a_numberOf, a_numbered, a_endUnknown, a_implied, a_kept, a_sightings, a_lastSeen) v1 v2 := by
  have hR := h
  obtain ⟨T, G, gc, ml, hW, hX, hY, hS⟩ := h
  obtain rfl := hX.2.2.2.1
  obtain rfl := hY.2.2.2.1
  obtain rfl := hX.2.2.2.2.1
  obtain rfl := hY.2.2.2.2.1
  have htc := hW.2.2.1
  have hgc := hW.2.2.2.1
  unfold wpX_eq
  rcases rs_dec v1 (n := T.2.2.2.2) (by omega) with hv | ⟨a, ha, rfl⟩
  · refine xw_isTerm_0 hv (br_t rfl ?_)
    show wpY_eq _ _ _ _
    unfold wpY_eq
    exact yw_isTerm_0 hv (br_t rfl ⟨rfl, hR⟩)
  · refine xw_isTerm_1 ha htc (br_f (by decide) ?_)
    rcases rs_dec v2 (n := T.2.2.2.2) (by omega) with hv | ⟨b, hb, rfl⟩
    · refine xw_isTerm_0 hv (br_t rfl ?_)
      show wpY_eq _ _ _ _
      unfold wpY_eq
      exact yw_isTerm_1 ha htc (br_f (by decide) (yw_isTerm_0 hv (br_t rfl ⟨rfl, hR⟩)))
    · refine xw_isTerm_1 hb htc (br_f (by decide) ?_)
      by_cases hg : gc < 48
      · refine xw_addGoal_ok hg ?_
        show wpY_eq _ _ _ _
        unfold wpY_eq
        refine yw_isTerm_1 ha htc (br_f (by decide) (yw_isTerm_1 hb htc (br_f (by decide) ?_)))
        refine yw_newGoal_ok hg ⟨rfl, ?_⟩
        exact rs_new_goal (kd := 0) (a := a) (b := b) (c := 0) (d := 0) (z := 1) hW hX hY hS hg (by omega) (by omega) (Or.inl ⟨rfl, ha, hb⟩)
      · refine xw_addGoal_no (by omega) ?_
        show wpY_eq _ _ _ _
        unfold wpY_eq
        refine yw_isTerm_1 ha htc (br_f (by decide) (yw_isTerm_1 hb htc (br_f (by decide) ?_)))
        exact yw_newGoal_no (by omega) ⟨rfl, hR⟩
theorem vc_neq (h : rs_REL f_kindSymbol f_kindSlot f_kindPair f_goalEq f_goalNeq f_goalBoth f_goalEither f_goalCall f_goOn f_outAnswer f_outFailure f_outCut f_outPending f_firstVariable f_maxLevel f_maxCalls f_maxSize f_termCount f_goalCount f_searching f_queryGoal f_queryWidth f_levelNow f_pendingCount f_nextCount f_answerCount f_failureCount f_cutCount f_trailTop f_callsDone f_choicesLeft f_neqCount f_workTop f_walkTop f_loaded f_numberedCount f_endUnknownCount f_constraintsReady f_relevantMask f_keptCount a_termKind a_termLeft a_termRight a_termSize a_goalKind a_goalFirst a_goalSecond a_goalThird a_goalFourth a_goalSize a_relationGoal a_pendingPath a_nextPath a_answerPath a_link a_trail a_neqLeft a_neqRight a_workGoal a_workFrame a_stackA a_stackB a_walk a_numberOf a_numbered a_endUnknown a_implied a_kept a_sightings a_lastSeen g_maxLevel g_maxCalls g_maxSize g_terms g_goals g_searching g_query g_read g_level g_frames g_neqs g_numbered g_kept b_termToken b_termLen b_kind b_goalSize b_part b_relation b_outcome b_val b_len b_neqT b_neqU b_neqF b_stackGoal b_stackFrame b_buf b_bufLen b_tmp b_base b_baseLen b_num b_relevant b_implies b_keptAt) (v1 v2 : Int32) : wpX_neq (fun r u' => wpY_neq (fun r' v' => r' = r ∧ i_Rel k u' v') (g_maxLevel, g_maxCalls, g_maxSize, g_terms, g_goals, g_searching, g_query, g_read, g_level, g_frames, g_neqs, g_numbered, g_kept, b_termToken, b_termLen, b_kind, b_goalSize, b_part, b_relation, b_outcome, b_val, b_len, b_neqT, b_neqU, b_neqF, b_stackGoal, b_stackFrame, b_buf, b_bufLen, b_tmp, b_base, b_baseLen, b_num, b_relevant, b_implies, b_keptAt) v1 v2) (f_kindSymbol, f_kindSlot, f_kindPair, f_goalEq, f_goalNeq, f_goalBoth, f_goalEither, f_goalCall, f_goOn, f_outAnswer, f_outFailure, f_outCut, f_outPending, f_firstVariable, f_maxLevel, f_maxCalls, f_maxSize, f_termCount, f_goalCount, f_searching, f_queryGoal, f_queryWidth, f_levelNow, f_pendingCount, f_nextCount, f_answerCount, f_failureCount, f_cutCount, f_trailTop, f_callsDone, f_choicesLeft, f_neqCount, f_workTop, f_walkTop, f_loaded, f_numberedCount, f_endUnknownCount, f_constraintsReady, f_relevantMask, f_keptCount, a_termKind, a_termLeft, a_termRight, a_termSize, a_goalKind, a_goalFirst, a_goalSecond, a_goalThird, a_goalFourth, a_goalSize, a_relationGoal, a_pendingPath, a_nextPath, a_answerPath, a_link, a_trail, a_neqLeft, a_neqRight, a_workGoal, a_workFrame, a_stackA, a_stackB, a_walk, a_numberOf, a_numbered, a_endUnknown, a_implied, a_kept, a_sightings, a_lastSeen) v1 v2 := by
  have hR := h
  obtain ⟨T, G, gc, ml, hW, hX, hY, hS⟩ := h
  obtain rfl := hX.2.2.2.1
  obtain rfl := hY.2.2.2.1
  obtain rfl := hX.2.2.2.2.1
  obtain rfl := hY.2.2.2.2.1
  have htc := hW.2.2.1
  have hgc := hW.2.2.2.1
  unfold wpX_neq
  rcases rs_dec v1 (n := T.2.2.2.2) (by omega) with hv | ⟨a, ha, rfl⟩
  · refine xw_isTerm_0 hv (br_t rfl ?_)
    show wpY_neq _ _ _ _
    unfold wpY_neq
    exact yw_isTerm_0 hv (br_t rfl ⟨rfl, hR⟩)
  · refine xw_isTerm_1 ha htc (br_f (by decide) ?_)
    rcases rs_dec v2 (n := T.2.2.2.2) (by omega) with hv | ⟨b, hb, rfl⟩
    · refine xw_isTerm_0 hv (br_t rfl ?_)
      show wpY_neq _ _ _ _
      unfold wpY_neq
      exact yw_isTerm_1 ha htc (br_f (by decide) (yw_isTerm_0 hv (br_t rfl ⟨rfl, hR⟩)))
    · refine xw_isTerm_1 hb htc (br_f (by decide) ?_)
      by_cases hg : gc < 48
      · refine xw_addGoal_ok hg ?_
        show wpY_neq _ _ _ _
        unfold wpY_neq
        refine yw_isTerm_1 ha htc (br_f (by decide) (yw_isTerm_1 hb htc (br_f (by decide) ?_)))
        refine yw_newGoal_ok hg ⟨rfl, ?_⟩
        exact rs_new_goal (kd := 1) (a := a) (b := b) (c := 0) (d := 0) (z := 1) hW hX hY hS hg (by omega) (by omega) (Or.inr (Or.inl ⟨rfl, ha, hb⟩))
      · refine xw_addGoal_no (by omega) ?_
        show wpY_neq _ _ _ _
        unfold wpY_neq
        refine yw_isTerm_1 ha htc (br_f (by decide) (yw_isTerm_1 hb htc (br_f (by decide) ?_)))
        exact yw_newGoal_no (by omega) ⟨rfl, hR⟩
theorem vc_both (h : rs_REL f_kindSymbol f_kindSlot f_kindPair f_goalEq f_goalNeq f_goalBoth f_goalEither f_goalCall f_goOn f_outAnswer f_outFailure f_outCut f_outPending f_firstVariable f_maxLevel f_maxCalls f_maxSize f_termCount f_goalCount f_searching f_queryGoal f_queryWidth f_levelNow f_pendingCount f_nextCount f_answerCount f_failureCount f_cutCount f_trailTop f_callsDone f_choicesLeft f_neqCount f_workTop f_walkTop f_loaded f_numberedCount f_endUnknownCount f_constraintsReady f_relevantMask f_keptCount a_termKind a_termLeft a_termRight a_termSize a_goalKind a_goalFirst a_goalSecond a_goalThird a_goalFourth a_goalSize a_relationGoal a_pendingPath a_nextPath a_answerPath a_link a_trail a_neqLeft a_neqRight a_workGoal a_workFrame a_stackA a_stackB a_walk a_numberOf a_numbered a_endUnknown a_implied a_kept a_sightings a_lastSeen g_maxLevel g_maxCalls g_maxSize g_terms g_goals g_searching g_query g_read g_level g_frames g_neqs g_numbered g_kept b_termToken b_termLen b_kind b_goalSize b_part b_relation b_outcome b_val b_len b_neqT b_neqU b_neqF b_stackGoal b_stackFrame b_buf b_bufLen b_tmp b_base b_baseLen b_num b_relevant b_implies b_keptAt) (v1 v2 : Int32) : wpX_both (fun r u' => wpY_both (fun r' v' => r' = r ∧ i_Rel k u' v') (g_maxLevel, g_maxCalls, g_maxSize, g_terms, g_goals, g_searching, g_query, g_read, g_level, g_frames, g_neqs, g_numbered, g_kept, b_termToken, b_termLen, b_kind, b_goalSize, b_part, b_relation, b_outcome, b_val, b_len, b_neqT, b_neqU, b_neqF, b_stackGoal, b_stackFrame, b_buf, b_bufLen, b_tmp, b_base, b_baseLen, b_num, b_relevant, b_implies, b_keptAt) v1 v2) (f_kindSymbol, f_kindSlot, f_kindPair, f_goalEq, f_goalNeq, f_goalBoth, f_goalEither, f_goalCall, f_goOn, f_outAnswer, f_outFailure, f_outCut, f_outPending, f_firstVariable, f_maxLevel, f_maxCalls, f_maxSize, f_termCount, f_goalCount, f_searching, f_queryGoal, f_queryWidth, f_levelNow, f_pendingCount, f_nextCount, f_answerCount, f_failureCount, f_cutCount, f_trailTop, f_callsDone, f_choicesLeft, f_neqCount, f_workTop, f_walkTop, f_loaded, f_numberedCount, f_endUnknownCount, f_constraintsReady, f_relevantMask, f_keptCount, a_termKind, a_termLeft, a_termRight, a_termSize, a_goalKind, a_goalFirst, a_goalSecond, a_goalThird, a_goalFourth, a_goalSize, a_relationGoal, a_pendingPath, a_nextPath, a_answerPath, a_link, a_trail, a_neqLeft, a_neqRight, a_workGoal, a_workFrame, a_stackA, a_stackB, a_walk, a_numberOf, a_numbered, a_endUnknown, a_implied, a_kept, a_sightings, a_lastSeen) v1 v2 := by
  have hR := h
  obtain ⟨T, G, gc, ml, hW, hX, hY, hS⟩ := h
  obtain rfl := hX.2.2.2.2.1
  obtain rfl := hY.2.2.2.2.1
  have hgc := hW.2.2.2.1
  unfold wpX_both wpX_addJunction
  rcases rs_dec v1 (n := gc) (by omega) with hv | ⟨a, ha, rfl⟩
  · refine xw_isGoal_0 hv (br_t rfl ?_)
    show wpY_both _ _ _ _
    unfold wpY_both wpY_compound
    exact yw_isGoal_0 hv (br_t rfl ⟨rfl, hR⟩)
  · refine xw_isGoal_1 ha hgc (br_f (by decide) ?_)
    rcases rs_dec v2 (n := gc) (by omega) with hv | ⟨b, hb, rfl⟩
    · refine xw_isGoal_0 hv (br_t rfl ?_)
      show wpY_both _ _ _ _
      unfold wpY_both wpY_compound
      exact yw_isGoal_1 ha hgc (br_f (by decide) (yw_isGoal_0 hv (br_t rfl ⟨rfl, hR⟩)))
    · refine xw_isGoal_1 hb hgc (br_f (by decide) ⟨vp_in_nI (by omega) (by decide), vp_in_nI (by omega) (by decide), ?_⟩)
      have la := (hW.2.2.2.2.2.1 a ha).2.1
      have lb := (hW.2.2.2.2.2.1 b hb).2.1
      have e1 : 1 + nI (G.2.2.2.2.2.1 a) + nI (G.2.2.2.2.2.1 b) = nI (1 + G.2.2.2.2.2.1 a + G.2.2.2.2.2.1 b) := by
        rw [show (1 : Int32) = nI 1 from rfl, nI_add, nI_add]
      have e2 : 1 + b_goalSize (nI a).toNatClampNeg + b_goalSize (nI b).toNatClampNeg = nI (1 + G.2.2.2.2.2.1 a + G.2.2.2.2.2.1 b) := by
        rw [nI_clamp (n := a) (by omega), nI_clamp (n := b) (by omega), hY.2.2.2.2.2.2.2 a ha, hY.2.2.2.2.2.2.2 b hb, e1]
      refine nm_r (e' := nI (1 + G.2.2.2.2.2.1 a + G.2.2.2.2.2.1 b)) ?_ ?_
      · rw [nI_clamp (n := a) (by omega), nI_clamp (n := b) (by omega), hX.2.2.2.2.2.2.2.2 a ha, hX.2.2.2.2.2.2.2.2 b hb, e1]
      · by_cases hbig : 1 + G.2.2.2.2.2.1 a + G.2.2.2.2.2.1 b ≤ 15
        · refine br_t (nI_le (b := 15) hbig (by decide)) ?_
          by_cases hg : gc < 48
          · refine xw_addGoal_ok hg ?_
            show wpY_both _ _ _ _
            unfold wpY_both wpY_compound
            refine yw_isGoal_1 ha hgc (br_f (by decide) (yw_isGoal_1 hb hgc (br_f (by decide) ⟨vp_in_nI (by omega) (by decide), vp_in_nI (by omega) (by decide), ?_⟩)))
            rw [e2]
            refine br_t (nI_le (b := 15) hbig (by decide)) ⟨vp_in_nI (by omega) (by decide), vp_in_nI (by omega) (by decide), ?_⟩
            refine yw_newGoal_ok hg ⟨rfl, ?_⟩
            exact rs_new_goal (kd := 2) (a := a) (b := b) (c := 0) (d := 0) (z := 1 + G.2.2.2.2.2.1 a + G.2.2.2.2.2.1 b) hW hX hY hS hg (by omega) hbig (Or.inr (Or.inr (Or.inl ⟨rfl, ha, hb, rfl⟩)))
          · refine xw_addGoal_no (by omega) ?_
            show wpY_both _ _ _ _
            unfold wpY_both wpY_compound
            refine yw_isGoal_1 ha hgc (br_f (by decide) (yw_isGoal_1 hb hgc (br_f (by decide) ⟨vp_in_nI (by omega) (by decide), vp_in_nI (by omega) (by decide), ?_⟩)))
            rw [e2]
            refine br_t (nI_le (b := 15) hbig (by decide)) ⟨vp_in_nI (by omega) (by decide), vp_in_nI (by omega) (by decide), ?_⟩
            exact yw_newGoal_no (by omega) ⟨rfl, hR⟩
        · refine br_f (nI_ge (a := 15) (by omega) (by omega)) ?_
          show wpY_both _ _ _ _
          unfold wpY_both wpY_compound
          refine yw_isGoal_1 ha hgc (br_f (by decide) (yw_isGoal_1 hb hgc (br_f (by decide) ⟨vp_in_nI (by omega) (by decide), vp_in_nI (by omega) (by decide), ?_⟩)))
          rw [e2]
          exact br_f (nI_ge (a := 15) (by omega) (by omega)) ⟨rfl, hR⟩
theorem vc_either (h : rs_REL f_kindSymbol f_kindSlot f_kindPair f_goalEq f_goalNeq f_goalBoth f_goalEither f_goalCall f_goOn f_outAnswer f_outFailure f_outCut f_outPending f_firstVariable f_maxLevel f_maxCalls f_maxSize f_termCount f_goalCount f_searching f_queryGoal f_queryWidth f_levelNow f_pendingCount f_nextCount f_answerCount f_failureCount f_cutCount f_trailTop f_callsDone f_choicesLeft f_neqCount f_workTop f_walkTop f_loaded f_numberedCount f_endUnknownCount f_constraintsReady f_relevantMask f_keptCount a_termKind a_termLeft a_termRight a_termSize a_goalKind a_goalFirst a_goalSecond a_goalThird a_goalFourth a_goalSize a_relationGoal a_pendingPath a_nextPath a_answerPath a_link a_trail a_neqLeft a_neqRight a_workGoal a_workFrame a_stackA a_stackB a_walk a_numberOf a_numbered a_endUnknown a_implied a_kept a_sightings a_lastSeen g_maxLevel g_maxCalls g_maxSize g_terms g_goals g_searching g_query g_read g_level g_frames g_neqs g_numbered g_kept b_termToken b_termLen b_kind b_goalSize b_part b_relation b_outcome b_val b_len b_neqT b_neqU b_neqF b_stackGoal b_stackFrame b_buf b_bufLen b_tmp b_base b_baseLen b_num b_relevant b_implies b_keptAt) (v1 v2 : Int32) : wpX_either (fun r u' => wpY_either (fun r' v' => r' = r ∧ i_Rel k u' v') (g_maxLevel, g_maxCalls, g_maxSize, g_terms, g_goals, g_searching, g_query, g_read, g_level, g_frames, g_neqs, g_numbered, g_kept, b_termToken, b_termLen, b_kind, b_goalSize, b_part, b_relation, b_outcome, b_val, b_len, b_neqT, b_neqU, b_neqF, b_stackGoal, b_stackFrame, b_buf, b_bufLen, b_tmp, b_base, b_baseLen, b_num, b_relevant, b_implies, b_keptAt) v1 v2) (f_kindSymbol, f_kindSlot, f_kindPair, f_goalEq, f_goalNeq, f_goalBoth, f_goalEither, f_goalCall, f_goOn, f_outAnswer, f_outFailure, f_outCut, f_outPending, f_firstVariable, f_maxLevel, f_maxCalls, f_maxSize, f_termCount, f_goalCount, f_searching, f_queryGoal, f_queryWidth, f_levelNow, f_pendingCount, f_nextCount, f_answerCount, f_failureCount, f_cutCount, f_trailTop, f_callsDone, f_choicesLeft, f_neqCount, f_workTop, f_walkTop, f_loaded, f_numberedCount, f_endUnknownCount, f_constraintsReady, f_relevantMask, f_keptCount, a_termKind, a_termLeft, a_termRight, a_termSize, a_goalKind, a_goalFirst, a_goalSecond, a_goalThird, a_goalFourth, a_goalSize, a_relationGoal, a_pendingPath, a_nextPath, a_answerPath, a_link, a_trail, a_neqLeft, a_neqRight, a_workGoal, a_workFrame, a_stackA, a_stackB, a_walk, a_numberOf, a_numbered, a_endUnknown, a_implied, a_kept, a_sightings, a_lastSeen) v1 v2 := by
  have hR := h
  obtain ⟨T, G, gc, ml, hW, hX, hY, hS⟩ := h
  obtain rfl := hX.2.2.2.2.1
  obtain rfl := hY.2.2.2.2.1
  have hgc := hW.2.2.2.1
  unfold wpX_either wpX_addJunction
  rcases rs_dec v1 (n := gc) (by omega) with hv | ⟨a, ha, rfl⟩
  · refine xw_isGoal_0 hv (br_t rfl ?_)
    show wpY_either _ _ _ _
    unfold wpY_either wpY_compound
    exact yw_isGoal_0 hv (br_t rfl ⟨rfl, hR⟩)
  · refine xw_isGoal_1 ha hgc (br_f (by decide) ?_)
    rcases rs_dec v2 (n := gc) (by omega) with hv | ⟨b, hb, rfl⟩
    · refine xw_isGoal_0 hv (br_t rfl ?_)
      show wpY_either _ _ _ _
      unfold wpY_either wpY_compound
      exact yw_isGoal_1 ha hgc (br_f (by decide) (yw_isGoal_0 hv (br_t rfl ⟨rfl, hR⟩)))
    · refine xw_isGoal_1 hb hgc (br_f (by decide) ⟨vp_in_nI (by omega) (by decide), vp_in_nI (by omega) (by decide), ?_⟩)
      have la := (hW.2.2.2.2.2.1 a ha).2.1
      have lb := (hW.2.2.2.2.2.1 b hb).2.1
      have e1 : 1 + nI (G.2.2.2.2.2.1 a) + nI (G.2.2.2.2.2.1 b) = nI (1 + G.2.2.2.2.2.1 a + G.2.2.2.2.2.1 b) := by
        rw [show (1 : Int32) = nI 1 from rfl, nI_add, nI_add]
      have e2 : 1 + b_goalSize (nI a).toNatClampNeg + b_goalSize (nI b).toNatClampNeg = nI (1 + G.2.2.2.2.2.1 a + G.2.2.2.2.2.1 b) := by
        rw [nI_clamp (n := a) (by omega), nI_clamp (n := b) (by omega), hY.2.2.2.2.2.2.2 a ha, hY.2.2.2.2.2.2.2 b hb, e1]
      refine nm_r (e' := nI (1 + G.2.2.2.2.2.1 a + G.2.2.2.2.2.1 b)) ?_ ?_
      · rw [nI_clamp (n := a) (by omega), nI_clamp (n := b) (by omega), hX.2.2.2.2.2.2.2.2 a ha, hX.2.2.2.2.2.2.2.2 b hb, e1]
      · by_cases hbig : 1 + G.2.2.2.2.2.1 a + G.2.2.2.2.2.1 b ≤ 15
        · refine br_t (nI_le (b := 15) hbig (by decide)) ?_
          by_cases hg : gc < 48
          · refine xw_addGoal_ok hg ?_
            show wpY_either _ _ _ _
            unfold wpY_either wpY_compound
            refine yw_isGoal_1 ha hgc (br_f (by decide) (yw_isGoal_1 hb hgc (br_f (by decide) ⟨vp_in_nI (by omega) (by decide), vp_in_nI (by omega) (by decide), ?_⟩)))
            rw [e2]
            refine br_t (nI_le (b := 15) hbig (by decide)) ⟨vp_in_nI (by omega) (by decide), vp_in_nI (by omega) (by decide), ?_⟩
            refine yw_newGoal_ok hg ⟨rfl, ?_⟩
            exact rs_new_goal (kd := 3) (a := a) (b := b) (c := 0) (d := 0) (z := 1 + G.2.2.2.2.2.1 a + G.2.2.2.2.2.1 b) hW hX hY hS hg (by omega) hbig (Or.inr (Or.inr (Or.inr (Or.inl ⟨rfl, ha, hb, rfl⟩))))
          · refine xw_addGoal_no (by omega) ?_
            show wpY_either _ _ _ _
            unfold wpY_either wpY_compound
            refine yw_isGoal_1 ha hgc (br_f (by decide) (yw_isGoal_1 hb hgc (br_f (by decide) ⟨vp_in_nI (by omega) (by decide), vp_in_nI (by omega) (by decide), ?_⟩)))
            rw [e2]
            refine br_t (nI_le (b := 15) hbig (by decide)) ⟨vp_in_nI (by omega) (by decide), vp_in_nI (by omega) (by decide), ?_⟩
            exact yw_newGoal_no (by omega) ⟨rfl, hR⟩
        · refine br_f (nI_ge (a := 15) (by omega) (by omega)) ?_
          show wpY_either _ _ _ _
          unfold wpY_either wpY_compound
          refine yw_isGoal_1 ha hgc (br_f (by decide) (yw_isGoal_1 hb hgc (br_f (by decide) ⟨vp_in_nI (by omega) (by decide), vp_in_nI (by omega) (by decide), ?_⟩)))
          rw [e2]
          exact br_f (nI_ge (a := 15) (by omega) (by omega)) ⟨rfl, hR⟩
theorem vc_call (h : rs_REL f_kindSymbol f_kindSlot f_kindPair f_goalEq f_goalNeq f_goalBoth f_goalEither f_goalCall f_goOn f_outAnswer f_outFailure f_outCut f_outPending f_firstVariable f_maxLevel f_maxCalls f_maxSize f_termCount f_goalCount f_searching f_queryGoal f_queryWidth f_levelNow f_pendingCount f_nextCount f_answerCount f_failureCount f_cutCount f_trailTop f_callsDone f_choicesLeft f_neqCount f_workTop f_walkTop f_loaded f_numberedCount f_endUnknownCount f_constraintsReady f_relevantMask f_keptCount a_termKind a_termLeft a_termRight a_termSize a_goalKind a_goalFirst a_goalSecond a_goalThird a_goalFourth a_goalSize a_relationGoal a_pendingPath a_nextPath a_answerPath a_link a_trail a_neqLeft a_neqRight a_workGoal a_workFrame a_stackA a_stackB a_walk a_numberOf a_numbered a_endUnknown a_implied a_kept a_sightings a_lastSeen g_maxLevel g_maxCalls g_maxSize g_terms g_goals g_searching g_query g_read g_level g_frames g_neqs g_numbered g_kept b_termToken b_termLen b_kind b_goalSize b_part b_relation b_outcome b_val b_len b_neqT b_neqU b_neqF b_stackGoal b_stackFrame b_buf b_bufLen b_tmp b_base b_baseLen b_num b_relevant b_implies b_keptAt) (v1 v2 v3 v4 : Int32) : wpX_call (fun r u' => wpY_call (fun r' v' => r' = r ∧ i_Rel k u' v') (g_maxLevel, g_maxCalls, g_maxSize, g_terms, g_goals, g_searching, g_query, g_read, g_level, g_frames, g_neqs, g_numbered, g_kept, b_termToken, b_termLen, b_kind, b_goalSize, b_part, b_relation, b_outcome, b_val, b_len, b_neqT, b_neqU, b_neqF, b_stackGoal, b_stackFrame, b_buf, b_bufLen, b_tmp, b_base, b_baseLen, b_num, b_relevant, b_implies, b_keptAt) v1 v2 v3 v4) (f_kindSymbol, f_kindSlot, f_kindPair, f_goalEq, f_goalNeq, f_goalBoth, f_goalEither, f_goalCall, f_goOn, f_outAnswer, f_outFailure, f_outCut, f_outPending, f_firstVariable, f_maxLevel, f_maxCalls, f_maxSize, f_termCount, f_goalCount, f_searching, f_queryGoal, f_queryWidth, f_levelNow, f_pendingCount, f_nextCount, f_answerCount, f_failureCount, f_cutCount, f_trailTop, f_callsDone, f_choicesLeft, f_neqCount, f_workTop, f_walkTop, f_loaded, f_numberedCount, f_endUnknownCount, f_constraintsReady, f_relevantMask, f_keptCount, a_termKind, a_termLeft, a_termRight, a_termSize, a_goalKind, a_goalFirst, a_goalSecond, a_goalThird, a_goalFourth, a_goalSize, a_relationGoal, a_pendingPath, a_nextPath, a_answerPath, a_link, a_trail, a_neqLeft, a_neqRight, a_workGoal, a_workFrame, a_stackA, a_stackB, a_walk, a_numberOf, a_numbered, a_endUnknown, a_implied, a_kept, a_sightings, a_lastSeen) v1 v2 v3 v4 := by
  have hR := h
  obtain ⟨T, G, gc, ml, hW, hX, hY, hS⟩ := h
  obtain rfl := hX.2.2.2.1
  obtain rfl := hY.2.2.2.1
  obtain rfl := hX.2.2.2.2.1
  obtain rfl := hY.2.2.2.2.1
  have htc := hW.2.2.1
  have hgc := hW.2.2.2.1
  rcases rs_dec v1 (n := 8) (by decide) with hv | ⟨r, hr, rfl⟩
  · refine br_c (fun z => br_t z ⟨rfl, hR⟩) (fun z => ?_)
    have h8 : ¬ v1 < 8 := Int32.not_lt.mpr (hv.resolve_left z)
    exact br_f h8 (br_f z (br_f h8 ⟨rfl, hR⟩))
  · have b0 : ¬ nI r < 0 := nI_pos (by omega)
    have b8 : nI r < 8 := nI_lt (b := 8) hr (by decide)
    refine br_f b0 (br_t b8 ?_)
    rcases rs_dec v2 (n := T.2.2.2.2) (by omega) with hv | ⟨a, ha, rfl⟩
    · exact xw_isTerm_0 hv (br_t rfl (br_f b0 (br_t b8 (yw_isTerm_0 hv (br_t rfl ⟨rfl, hR⟩)))))
    · refine xw_isTerm_1 ha htc (br_f (by decide) ?_)
      rcases rs_dec v3 (n := T.2.2.2.2) (by omega) with hv | ⟨b, hb, rfl⟩
      · exact xw_isTerm_0 hv (br_t rfl (br_f b0 (br_t b8 (yw_isTerm_1 ha htc (br_f (by decide) (yw_isTerm_0 hv (br_t rfl ⟨rfl, hR⟩)))))))
      · refine xw_isTerm_1 hb htc (br_f (by decide) ?_)
        rcases rs_dec v4 (n := T.2.2.2.2) (by omega) with hv | ⟨c, hc, rfl⟩
        · exact xw_isTerm_0 hv (br_t rfl (br_f b0 (br_t b8 (yw_isTerm_1 ha htc (br_f (by decide) (yw_isTerm_1 hb htc (br_f (by decide) (yw_isTerm_0 hv (br_t rfl ⟨rfl, hR⟩)))))))))
        · refine xw_isTerm_1 hc htc (br_f (by decide) ?_)
          by_cases hg : gc < 48
          · refine xw_addGoal_ok hg ?_
            refine br_f b0 (br_t b8 (yw_isTerm_1 ha htc (br_f (by decide) (yw_isTerm_1 hb htc (br_f (by decide) (yw_isTerm_1 hc htc (br_f (by decide) ?_)))))))
            refine yw_newGoal_ok hg ⟨rfl, ?_⟩
            exact rs_new_goal (kd := 4) (a := r) (b := a) (c := b) (d := c) (z := 1) hW hX hY hS hg (by omega) (by omega) (Or.inr (Or.inr (Or.inr (Or.inr ⟨rfl, hr, ha, hb, hc⟩))))
          · refine xw_addGoal_no (by omega) ?_
            refine br_f b0 (br_t b8 (yw_isTerm_1 ha htc (br_f (by decide) (yw_isTerm_1 hb htc (br_f (by decide) (yw_isTerm_1 hc htc (br_f (by decide) ?_)))))))
            exact yw_newGoal_no (by omega) ⟨rfl, hR⟩
theorem vc_define (h : rs_REL f_kindSymbol f_kindSlot f_kindPair f_goalEq f_goalNeq f_goalBoth f_goalEither f_goalCall f_goOn f_outAnswer f_outFailure f_outCut f_outPending f_firstVariable f_maxLevel f_maxCalls f_maxSize f_termCount f_goalCount f_searching f_queryGoal f_queryWidth f_levelNow f_pendingCount f_nextCount f_answerCount f_failureCount f_cutCount f_trailTop f_callsDone f_choicesLeft f_neqCount f_workTop f_walkTop f_loaded f_numberedCount f_endUnknownCount f_constraintsReady f_relevantMask f_keptCount a_termKind a_termLeft a_termRight a_termSize a_goalKind a_goalFirst a_goalSecond a_goalThird a_goalFourth a_goalSize a_relationGoal a_pendingPath a_nextPath a_answerPath a_link a_trail a_neqLeft a_neqRight a_workGoal a_workFrame a_stackA a_stackB a_walk a_numberOf a_numbered a_endUnknown a_implied a_kept a_sightings a_lastSeen g_maxLevel g_maxCalls g_maxSize g_terms g_goals g_searching g_query g_read g_level g_frames g_neqs g_numbered g_kept b_termToken b_termLen b_kind b_goalSize b_part b_relation b_outcome b_val b_len b_neqT b_neqU b_neqF b_stackGoal b_stackFrame b_buf b_bufLen b_tmp b_base b_baseLen b_num b_relevant b_implies b_keptAt) (v1 v2 : Int32) : wpX_define (fun r u' => wpY_define (fun r' v' => r' = r ∧ i_Rel k u' v') (g_maxLevel, g_maxCalls, g_maxSize, g_terms, g_goals, g_searching, g_query, g_read, g_level, g_frames, g_neqs, g_numbered, g_kept, b_termToken, b_termLen, b_kind, b_goalSize, b_part, b_relation, b_outcome, b_val, b_len, b_neqT, b_neqU, b_neqF, b_stackGoal, b_stackFrame, b_buf, b_bufLen, b_tmp, b_base, b_baseLen, b_num, b_relevant, b_implies, b_keptAt) v1 v2) (f_kindSymbol, f_kindSlot, f_kindPair, f_goalEq, f_goalNeq, f_goalBoth, f_goalEither, f_goalCall, f_goOn, f_outAnswer, f_outFailure, f_outCut, f_outPending, f_firstVariable, f_maxLevel, f_maxCalls, f_maxSize, f_termCount, f_goalCount, f_searching, f_queryGoal, f_queryWidth, f_levelNow, f_pendingCount, f_nextCount, f_answerCount, f_failureCount, f_cutCount, f_trailTop, f_callsDone, f_choicesLeft, f_neqCount, f_workTop, f_walkTop, f_loaded, f_numberedCount, f_endUnknownCount, f_constraintsReady, f_relevantMask, f_keptCount, a_termKind, a_termLeft, a_termRight, a_termSize, a_goalKind, a_goalFirst, a_goalSecond, a_goalThird, a_goalFourth, a_goalSize, a_relationGoal, a_pendingPath, a_nextPath, a_answerPath, a_link, a_trail, a_neqLeft, a_neqRight, a_workGoal, a_workFrame, a_stackA, a_stackB, a_walk, a_numberOf, a_numbered, a_endUnknown, a_implied, a_kept, a_sightings, a_lastSeen) v1 v2 := by
  have hR := h
  obtain ⟨T, G, gc, ml, hW, hX, hY, hS⟩ := h
  obtain rfl := hX.2.2.2.2.1
  obtain rfl := hY.2.2.2.2.1
  have hgc := hW.2.2.2.1
  rcases rs_dec v1 (n := 8) (by decide) with hv | ⟨r, hr, rfl⟩
  · refine br_c (fun z => br_t z ⟨rfl, hR⟩) (fun z => ?_)
    have h8 : ¬ v1 < 8 := Int32.not_lt.mpr (hv.resolve_left z)
    exact br_f h8 (br_f z (br_t (hv.resolve_left z) ⟨rfl, hR⟩))
  · have b0 : ¬ nI r < 0 := nI_pos (by omega)
    have b8 : nI r < 8 := nI_lt (b := 8) hr (by decide)
    have n8 : ¬ 8 ≤ nI r := nI_ge (b := 8) hr (by decide)
    refine br_f b0 (br_t b8 ?_)
    rcases rs_dec v2 (n := gc) (by omega) with hv | ⟨g, hg, rfl⟩
    · exact xw_isGoal_0 hv (br_t rfl (br_f b0 (br_f n8 (yw_isGoal_0 hv (br_t rfl ⟨rfl, hR⟩)))))
    · refine xw_isGoal_1 hg hgc (br_f (by decide) ⟨vp_in_nI hr (by decide), nm_r (e' := upd a_relationGoal r (nI g)) (by rw [nI_clamp (by omega)]) ?_⟩)
      refine br_f b0 (br_f n8 (yw_isGoal_1 hg hgc (br_f (by decide) ⟨vp_in_nI hr (by decide), nm_r (e' := upd b_relation r (nI g)) (by rw [nI_clamp (by omega)]) ⟨rfl, ?_⟩⟩)))
      obtain ⟨x1, x2, x3, x4, x5, x6, x7, ⟨x8, x9⟩, x10⟩ := hX
      obtain ⟨y1, y2, y3, y4, y5, y6, ⟨y7, y8⟩, y9⟩ := hY
      obtain ⟨w1, w2, w3, w4, w5, w6, w7, w8⟩ := hW
      have hrel : ∀ (rl : Nat → Int32), (∀ r, r < 8 → (G.2.2.2.2.2.2.1 r = none ∧ rl r = -1) ∨ ∃ b, G.2.2.2.2.2.2.1 r = some b ∧ rl r = nI b) → ∀ q, q < 8 → ((fun q => if q = r then some g else G.2.2.2.2.2.2.1 q) q = none ∧ upd rl r (nI g) q = -1) ∨ ∃ b, (fun q => if q = r then some g else G.2.2.2.2.2.2.1 q) q = some b ∧ upd rl r (nI g) q = nI b := by
        intro rl hrl q hq
        show ((if q = r then some g else G.2.2.2.2.2.2.1 q) = none ∧ (if q = r then nI g else rl q) = -1) ∨ ∃ b, (if q = r then some g else G.2.2.2.2.2.2.1 q) = some b ∧ (if q = r then nI g else rl q) = nI b
        by_cases e : q = r
        · rw [if_pos e, if_pos e]
          exact Or.inr ⟨g, rfl, rfl⟩
        · rw [if_neg e, if_neg e]
          exact hrl q hq
      refine ⟨T, (G.1, G.2.1, G.2.2.1, G.2.2.2.1, G.2.2.2.2.1, G.2.2.2.2.2.1, fun q => if q = r then some g else G.2.2.2.2.2.2.1 q, G.2.2.2.2.2.2.2), gc, ml, ⟨w1, w2, w3, w4, w5, w6, ?_, w8⟩, ⟨x1, x2, x3, x4, x5, x6, x7, ⟨x8, hrel _ x9⟩, x10⟩, ⟨y1, y2, y3, y4, y5, y6, ⟨y7, hrel _ y8⟩, y9⟩, rfl, Or.inl rfl⟩
      intro q b e
      have e' : (if q = r then some g else G.2.2.2.2.2.2.1 q) = some b := e
      by_cases z : q = r
      · rw [if_pos z] at e'
        injection e' with e'
        omega
      · rw [if_neg z] at e'
        exact w7 q b e'
end
end
section
/-! levels, purely -/
theorem rs_iv_app : ∀ (m a n : Nat), rs_iv a (m + n) = rs_iv a m ++ rs_iv (a + m) n
  | 0, a, n => by rw [Nat.zero_add]; rfl
  | m + 1, a, n => by
    rw [show m + 1 + n = (m + n) + 1 by omega]
    show a :: rs_iv (a + 1) (m + n) = a :: (rs_iv (a + 1) m ++ rs_iv (a + (m + 1)) n)
    rw [rs_iv_app m (a + 1) n, show a + 1 + m = a + (m + 1) by omega]
theorem rs_iv_mem {x : Nat} : ∀ {n a : Nat}, x ∈ rs_iv a n ↔ a ≤ x ∧ x < a + n
  | 0, a => ⟨fun h => absurd h List.not_mem_nil, fun h => absurd h (by omega)⟩
  | n + 1, a => by
    show x ∈ a :: rs_iv (a + 1) n ↔ _
    rw [List.mem_cons, rs_iv_mem]
    omega
theorem rs_iv_len : ∀ (n a : Nat), (rs_iv a n).length = n
  | 0, _ => rfl
  | n + 1, a => by
    show (rs_iv (a + 1) n).length + 1 = n + 1
    rw [rs_iv_len n]
theorem rs_iv_nd : ∀ (n a : Nat), (rs_iv a n).Nodup
  | 0, _ => List.nodup_nil
  | n + 1, a => by
    refine List.nodup_cons.mpr ⟨?_, rs_iv_nd n (a + 1)⟩
    rw [rs_iv_mem]
    omega
theorem rs_filter_0 {l : List Nat} {P : Nat → Bool} (h : ∀ x, x ∈ l → P x = false) : l.filter P = [] := by
  rw [List.filter_eq_nil_iff]
  intro x hx
  rw [h x hx]
  decide
def rs_kids (l : List Nat) : List Nat := l.flatMap (fun p => [2 * p, 2 * p + 1])
theorem rs_kids_iv (oc : Nat → Nat) : ∀ n M, (rs_iv (2 * M) (2 * n)).filter (fun p => decide (oc (p / 2) = 4)) = rs_kids ((rs_iv M n).filter (fun p => decide (oc p = 4)))
  | 0, _ => rfl
  | n + 1, M => by
    have ih := rs_kids_iv oc n (M + 1)
    have e : rs_iv (2 * M) (2 * (n + 1)) = 2 * M :: (2 * M + 1) :: rs_iv (2 * (M + 1)) (2 * n) := by
      rw [show 2 * (n + 1) = (2 * n + 1) + 1 by omega]
      show 2 * M :: (2 * M + 1) :: rs_iv (2 * M + 1 + 1) (2 * n) = _
      rw [show 2 * M + 1 + 1 = 2 * (M + 1) by omega]
    have e1 : 2 * M / 2 = M := by omega
    have e2 : (2 * M + 1) / 2 = M := by omega
    rw [e]
    show _ = rs_kids ((M :: rs_iv (M + 1) n).filter (fun p => decide (oc p = 4)))
    by_cases h : oc M = 4
    · rw [List.filter_cons_of_pos (by rw [e1, h]; rfl), List.filter_cons_of_pos (by rw [e2, h]; rfl), List.filter_cons_of_pos (by rw [h]; rfl), ih]
      rfl
    · rw [List.filter_cons_of_neg (by rw [e1]; simpa using h), List.filter_cons_of_neg (by rw [e2]; simpa using h), List.filter_cons_of_neg (by simpa using h), ih]
theorem rs_path_14 (ts : Nat → List Nat) (G : rs_G) (q p : Nat) : 1 ≤ (rs_path ts G q p).1 ∧ (rs_path ts G q p).1 ≤ 4 := by
  have key : ∀ (n : Nat) (C : rs_V) (nf : Nat) (ne : List (List Nat × List Nat)) (st : List (Nat × Nat)) (lf : Nat), 1 ≤ (rs_run ts G p n C nf ne st lf).1 ∧ (rs_run ts G p n C nf ne st lf).1 ≤ 4 := by
    intro n
    induction n with
    | zero => intro C nf ne st lf; exact ⟨Nat.le_refl 1, by show (1 : Nat) ≤ 4; omega⟩
    | succ n ih =>
      intro C nf ne st lf
      cases st with
      | nil => exact ⟨Nat.le_refl 1, by show (1 : Nat) ≤ 4; omega⟩
      | cons gf st =>
        obtain ⟨g, f⟩ := gf
        unfold rs_run
        by_cases z : (rs_perf ts G p g f C nf ne st lf).1 = 0
        · rw [if_pos z]; exact ih _ _ _ _ _
        · rw [if_neg z]
          have := (rs_perf_5 (p := p) (g := g) (f := f) (C := C) (nf := nf) (ne := ne) (st := st) (lf := lf) (G := G) ts).1
          omega
  exact key 165 _ _ _ _ _
section
variable {ts : Nat → List Nat} {G : rs_G} {q lv : Nat} {oc : Nat → Nat}
theorem rs_pow_le {lv : Nat} (h : lv ≤ 7) : 2 ^ lv ≤ 128 ∧ 1 ≤ 2 ^ lv := by
  have h1 := Nat.pow_le_pow_right (n := 2) (by omega) h
  have h2 : 0 < 2 ^ lv := Nat.pow_pos (by omega)
  exact ⟨by omega, h2⟩
theorem rs_OC_hi (h : rs_OC ts G q lv oc) {p : Nat} (hp : 2 ^ (lv + 1) ≤ p) (h256 : p < 256) : oc p = 0 := by
  have h2 : 0 < 2 ^ lv := Nat.pow_pos (by omega)
  have e : 2 ^ (lv + 1) = 2 * 2 ^ lv := by rw [Nat.pow_succ]; omega
  exact (h.2.2 p (by omega) h256).2 (by omega)
theorem rs_pd_eq (h : rs_OC ts G q lv oc) (hl : lv ≤ 7) : rs_pd oc lv = (rs_iv (2 ^ lv) (2 ^ lv)).filter (fun p => decide (oc p = 4)) := by
  obtain ⟨h1, h2⟩ := rs_pow_le hl
  have e : 2 ^ (lv + 1) = 2 * 2 ^ lv := by rw [Nat.pow_succ]; omega
  unfold rs_pd
  rw [show (256 : Nat) = 2 ^ lv + (2 ^ lv + (256 - 2 * 2 ^ lv)) by omega, rs_iv_app, rs_iv_app, List.filter_append, List.filter_append]
  rw [rs_filter_0 (l := rs_iv 0 (2 ^ lv)), rs_filter_0 (l := rs_iv (0 + 2 ^ lv + 2 ^ lv) (256 - 2 * 2 ^ lv)), List.nil_append, List.append_nil, Nat.zero_add]
  · refine List.filter_congr (fun p hp => ?_)
    rw [rs_iv_mem] at hp
    have := hp.1
    simp [this]
  · intro p hp
    rw [rs_iv_mem] at hp
    have := rs_OC_hi h (p := p) (by omega) (by omega)
    simp [this]
  · intro p hp
    rw [rs_iv_mem] at hp
    have : ¬ 2 ^ lv ≤ p := by omega
    simp [this]
theorem rs_sel_eq (h : rs_OC ts G q lv oc) (hl : lv ≤ 7) {w : Nat} (hw : w ≠ 0) : rs_sel oc w = (rs_iv 0 (2 ^ (lv + 1))).filter (fun p => decide (oc p = w)) := by
  obtain ⟨h1, h2⟩ := rs_pow_le hl
  have e : 2 ^ (lv + 1) = 2 * 2 ^ lv := by rw [Nat.pow_succ]; omega
  unfold rs_sel
  rw [show (256 : Nat) = 2 ^ (lv + 1) + (256 - 2 ^ (lv + 1)) by omega, rs_iv_app, List.filter_append]
  rw [rs_filter_0 (l := rs_iv (0 + 2 ^ (lv + 1)) _), List.append_nil]
  intro p hp
  rw [rs_iv_mem] at hp
  have := rs_OC_hi h (p := p) (by omega) (by omega)
  rw [this]
  simp
  omega
/-- the next level's outcomes -/
def rs_oc' (oc po : Nat → Nat) (lv : Nat) : Nat → Nat := fun p => if p < 2 ^ (lv + 1) then oc p else if p < 2 ^ (lv + 2) ∧ oc (p / 2) = 4 then po p else 0
theorem rs_OC_s (h : rs_OC ts G q lv oc) (hl : lv + 1 ≤ 7) : rs_OC ts G q (lv + 1) (rs_oc' oc (fun p => (rs_path ts G q p).1) lv) := by
  obtain ⟨h1, h2⟩ := rs_pow_le (lv := lv) (by omega)
  have e : 2 ^ (lv + 1) = 2 * 2 ^ lv := by rw [Nat.pow_succ]; omega
  have e2 : 2 ^ (lv + 2) = 2 * 2 ^ (lv + 1) := by rw [Nat.pow_succ]; omega
  refine ⟨(if_pos (by omega)).trans h.1, (if_pos (by omega)).trans h.2.1, ?_⟩
  intro p hp hp2
  have eh : rs_oc' oc (fun p => (rs_path ts G q p).1) lv (p / 2) = if p / 2 < 2 ^ (lv + 1) then oc (p / 2) else if p / 2 < 2 ^ (lv + 2) ∧ oc (p / 2 / 2) = 4 then (rs_path ts G q (p / 2)).1 else 0 := rfl
  have ep : rs_oc' oc (fun p => (rs_path ts G q p).1) lv p = if p < 2 ^ (lv + 1) then oc p else if p < 2 ^ (lv + 2) ∧ oc (p / 2) = 4 then (rs_path ts G q p).1 else 0 := rfl
  rw [ep, eh]
  obtain ⟨h3, h4⟩ := h.2.2 p hp hp2
  constructor
  · rintro ⟨z1, z2⟩
    rw [if_pos (by omega)] at z2
    by_cases z : p < 2 ^ (lv + 1)
    · rw [if_pos z]; exact h3 ⟨z, z2⟩
    · rw [if_neg z, if_pos ⟨z1, z2⟩]
  · intro z1
    by_cases z : p < 2 ^ (lv + 1)
    · rw [if_pos z]
      refine h4 (fun y => z1 ⟨by omega, ?_⟩)
      rw [if_pos (by omega)]; exact y.2
    · rw [if_neg z]
      by_cases y : p < 2 ^ (lv + 2) ∧ oc (p / 2) = 4
      · exfalso
        refine z1 ⟨y.1, ?_⟩
        rw [if_pos (by omega)]; exact y.2
      · rw [if_neg y]
theorem rs_mid_eq (h : rs_OC ts G q lv oc) (hl : lv + 1 ≤ 7) {w : Nat} (hw : w ≠ 0) : (rs_iv (2 ^ (lv + 1)) (2 ^ (lv + 1))).filter (fun p => decide (rs_oc' oc (fun p => (rs_path ts G q p).1) lv p = w)) = (rs_kids (rs_pd oc lv)).filter (fun p => decide ((rs_path ts G q p).1 = w)) := by
  have e : 2 ^ (lv + 1) = 2 * 2 ^ lv := by rw [Nat.pow_succ]; omega
  have e2 : 2 ^ (lv + 2) = 2 * 2 ^ (lv + 1) := by rw [Nat.pow_succ]; omega
  rw [rs_pd_eq h (by omega), ← rs_kids_iv, ← e, List.filter_filter]
  refine List.filter_congr (fun p hp => ?_)
  rw [rs_iv_mem] at hp
  have ep : rs_oc' oc (fun p => (rs_path ts G q p).1) lv p = if p < 2 ^ (lv + 1) then oc p else if p < 2 ^ (lv + 2) ∧ oc (p / 2) = 4 then (rs_path ts G q p).1 else 0 := rfl
  rw [ep, if_neg (by omega)]
  by_cases z : oc (p / 2) = 4
  · rw [if_pos ⟨by omega, z⟩]
    simp [z]
  · rw [if_neg (fun y => z y.2)]
    simp [z]
    omega
theorem rs_sel_s (h : rs_OC ts G q lv oc) (hl : lv + 1 ≤ 7) {w : Nat} (hw : w ≠ 0) : rs_sel (rs_oc' oc (fun p => (rs_path ts G q p).1) lv) w = rs_sel oc w ++ (rs_kids (rs_pd oc lv)).filter (fun p => decide ((rs_path ts G q p).1 = w)) := by
  have e2 : 2 ^ (lv + 2) = 2 ^ (lv + 1) + 2 ^ (lv + 1) := by rw [Nat.pow_succ]; omega
  rw [rs_sel_eq (rs_OC_s h hl) hl hw, rs_sel_eq h (by omega) hw, ← rs_mid_eq h hl hw, show lv + 1 + 1 = lv + 2 by rfl, e2, rs_iv_app, List.filter_append, Nat.zero_add]
  congr 1
  refine List.filter_congr (fun p hp => ?_)
  rw [rs_iv_mem] at hp
  have ep : rs_oc' oc (fun p => (rs_path ts G q p).1) lv p = oc p := if_pos (by omega)
  rw [ep]
theorem rs_pd_s (h : rs_OC ts G q lv oc) (hl : lv + 1 ≤ 7) : rs_pd (rs_oc' oc (fun p => (rs_path ts G q p).1) lv) (lv + 1) = (rs_kids (rs_pd oc lv)).filter (fun p => decide ((rs_path ts G q p).1 = 4)) := by
  rw [rs_pd_eq (rs_OC_s h hl) hl, rs_mid_eq h hl (by omega)]
theorem rs_sel_len (oc : Nat → Nat) (w : Nat) : (rs_sel oc w).length ≤ 256 := by
  have := List.length_filter_le (fun p => decide (oc p = w)) (rs_iv 0 256)
  rwa [rs_iv_len] at this
/-- a count from a place on -/
def rs_ct (oc : Nat → Nat) (w lo : Nat) : Nat := ((rs_iv lo (256 - lo)).filter (fun p => decide (oc p = w))).length
theorem rs_ct_sel (h0 : oc 0 = 0) {w : Nat} (hw : w ≠ 0) : rs_ct oc w 1 = (rs_sel oc w).length := by
  unfold rs_ct rs_sel
  show _ = ((0 :: rs_iv 1 255).filter (fun p => decide (oc p = w))).length
  rw [List.filter_cons_of_neg]
  rw [h0]
  simp
  omega
theorem rs_ct_pd (hl : lv ≤ 7) : rs_ct oc 4 (2 ^ lv) = (rs_pd oc lv).length := by
  obtain ⟨h1, h2⟩ := rs_pow_le hl
  unfold rs_ct rs_pd
  rw [show (rs_iv 0 256) = rs_iv 0 (2 ^ lv) ++ rs_iv (0 + 2 ^ lv) (256 - 2 ^ lv) by rw [← rs_iv_app]; congr 1; omega, List.filter_append, rs_filter_0 (l := rs_iv 0 (2 ^ lv)), List.nil_append, Nat.zero_add]
  · congr 1
    refine List.filter_congr (fun p hp => ?_)
    rw [rs_iv_mem] at hp
    have := hp.1
    simp [this]
  · intro p hp
    rw [rs_iv_mem] at hp
    have : ¬ 2 ^ lv ≤ p := by omega
    simp [this]
theorem rs_ct_s (h : rs_OC ts G q lv oc) (hl : lv + 1 ≤ 7) : rs_ct (rs_oc' oc (fun p => (rs_path ts G q p).1) lv) 1 (2 ^ (lv + 1)) = ((rs_kids (rs_pd oc lv)).filter (fun p => decide ((rs_path ts G q p).1 = 1))).length := by
  obtain ⟨h1, h2⟩ := rs_pow_le hl
  have e2 : 2 ^ (lv + 2) = 2 ^ (lv + 1) + 2 ^ (lv + 1) := by rw [Nat.pow_succ]; omega
  unfold rs_ct
  rw [← rs_mid_eq h hl (by omega), show 256 - 2 ^ (lv + 1) = 2 ^ (lv + 1) + (256 - 2 * 2 ^ (lv + 1)) by omega, rs_iv_app, List.filter_append, rs_filter_0 (l := rs_iv (2 ^ (lv + 1) + 2 ^ (lv + 1)) _), List.append_nil]
  intro p hp
  rw [rs_iv_mem] at hp
  have := rs_OC_hi (rs_OC_s h hl) (p := p) (by rw [show lv + 1 + 1 = lv + 2 by rfl]; omega) (by omega)
  rw [this]
  rfl
end
end
section
/-! levels over the component's arrays -/
def rs_SE (LA : List Nat) (fl ct : Nat) (NX : List Nat) (f_answerCount f_failureCount f_cutCount f_nextCount : Int32) (a_answerPath a_nextPath : Nat → Int32) : Prop := f_answerCount = nI LA.length ∧ f_failureCount = nI fl ∧ f_cutCount = nI ct ∧ f_nextCount = nI NX.length ∧ rs_A a_answerPath 0 LA ∧ rs_A a_nextPath 0 NX
noncomputable def rs_ff (ts : Nat → List Nat) (G : rs_G) (q w : Nat) (Ps : List Nat) : List Nat := Ps.filter (fun p => decide ((rs_path ts G q p).1 = w))
theorem rs_ff_app {ts : Nat → List Nat} {G : rs_G} {q w : Nat} {a b : List Nat} : rs_ff ts G q w (a ++ b) = rs_ff ts G q w a ++ rs_ff ts G q w b := List.filter_append ..
theorem rs_ff_t {ts : Nat → List Nat} {G : rs_G} {q w p : Nat} (h : (rs_path ts G q p).1 = w) : rs_ff ts G q w [p] = [p] := by
  unfold rs_ff
  rw [List.filter_cons_of_pos (by rw [h]; simp)]
  rfl
theorem rs_ff_f {ts : Nat → List Nat} {G : rs_G} {q w p : Nat} (h : (rs_path ts G q p).1 ≠ w) : rs_ff ts G q w [p] = [] := by
  unfold rs_ff
  rw [List.filter_cons_of_neg (by simpa using h)]
  rfl
theorem rs_ff_len {ts : Nat → List Nat} {G : rs_G} {q w : Nat} (l : List Nat) : (rs_ff ts G q w l).length ≤ l.length := List.length_filter_le _ _
section
variable {f_kindSymbol f_kindSlot f_kindPair f_goalEq f_goalNeq f_goalBoth f_goalEither f_goalCall f_goOn f_outAnswer f_outFailure f_outCut f_outPending f_firstVariable f_maxLevel f_maxCalls f_maxSize f_termCount f_goalCount f_searching f_queryGoal f_queryWidth f_levelNow f_pendingCount f_nextCount f_answerCount f_failureCount f_cutCount f_trailTop f_callsDone f_choicesLeft f_neqCount f_workTop f_walkTop f_loaded f_numberedCount f_endUnknownCount f_constraintsReady f_relevantMask f_keptCount : Int32} {a_termKind a_termLeft a_termRight a_termSize a_goalKind a_goalFirst a_goalSecond a_goalThird a_goalFourth a_goalSize a_relationGoal a_pendingPath a_nextPath a_answerPath a_link a_trail a_neqLeft a_neqRight a_workGoal a_workFrame a_stackA a_stackB a_walk a_numberOf a_numbered a_endUnknown a_implied a_kept a_sightings a_lastSeen : Nat → Int32}
variable {T : rs_T} {ms mc gc p q : Nat} {G : rs_G}
theorem xw_settle {post : SX → Prop} {LA NX : List Nat} {fl ct : Nat} (hT : rs_TA T a_termKind a_termLeft a_termRight) (hG : rs_GA gc G a_goalKind a_goalFirst a_goalSecond a_goalThird a_goalFourth a_relationGoal) (hGX : rs_GX T.2.2.2.2 gc G) (htc : T.2.2.2.2 ≤ 64) (hgc : gc ≤ 48) (ems : G.2.2.2.2.2.2.2.2 = ms) (emc : G.2.2.2.2.2.2.2.1 = mc) (hq : q < gc) (hp : p < 256) (hp1 : 1 ≤ p) (hS : rs_SE LA fl ct NX f_answerCount f_failureCount f_cutCount f_nextCount a_answerPath a_nextPath) (l1 : LA.length < 256) (l2 : NX.length < 256)
    (k : ∀ (f_answerCount f_failureCount f_cutCount f_nextCount : Int32) (a_answerPath a_nextPath : Nat → Int32) (f_trailTop f_callsDone f_choicesLeft f_neqCount f_workTop f_walkTop : Int32) (a_link a_trail a_neqLeft a_neqRight a_workGoal a_workFrame a_stackA a_stackB a_walk : Nat → Int32), rs_SE (LA ++ rs_ff T.2.2.2.1 G q 1 [p]) (fl + (rs_ff T.2.2.2.1 G q 2 [p]).length) (ct + (rs_ff T.2.2.2.1 G q 3 [p]).length) (NX ++ rs_ff T.2.2.2.1 G q 4 [p]) f_answerCount f_failureCount f_cutCount f_nextCount a_answerPath a_nextPath → post (f_kindSymbol, f_kindSlot, f_kindPair, f_goalEq, f_goalNeq, f_goalBoth, f_goalEither, f_goalCall, f_goOn, f_outAnswer, f_outFailure, f_outCut, f_outPending, f_firstVariable, f_maxLevel, nI mc, nI ms, f_termCount, f_goalCount, f_searching, nI q, f_queryWidth, f_levelNow, f_pendingCount, f_nextCount, f_answerCount, f_failureCount, f_cutCount, f_trailTop, f_callsDone, f_choicesLeft, f_neqCount, f_workTop, f_walkTop, f_loaded, f_numberedCount, f_endUnknownCount, f_constraintsReady, f_relevantMask, f_keptCount, a_termKind, a_termLeft, a_termRight, a_termSize, a_goalKind, a_goalFirst, a_goalSecond, a_goalThird, a_goalFourth, a_goalSize, a_relationGoal, a_pendingPath, a_nextPath, a_answerPath, a_link, a_trail, a_neqLeft, a_neqRight, a_workGoal, a_workFrame, a_stackA, a_stackB, a_walk, a_numberOf, a_numbered, a_endUnknown, a_implied, a_kept, a_sightings, a_lastSeen)) : wpX_settle post (f_kindSymbol, f_kindSlot, f_kindPair, f_goalEq, f_goalNeq, f_goalBoth, f_goalEither, f_goalCall, f_goOn, f_outAnswer, f_outFailure, f_outCut, f_outPending, f_firstVariable, f_maxLevel, nI mc, nI ms, f_termCount, f_goalCount, f_searching, nI q, f_queryWidth, f_levelNow, f_pendingCount, f_nextCount, f_answerCount, f_failureCount, f_cutCount, f_trailTop, f_callsDone, f_choicesLeft, f_neqCount, f_workTop, f_walkTop, f_loaded, f_numberedCount, f_endUnknownCount, f_constraintsReady, f_relevantMask, f_keptCount, a_termKind, a_termLeft, a_termRight, a_termSize, a_goalKind, a_goalFirst, a_goalSecond, a_goalThird, a_goalFourth, a_goalSize, a_relationGoal, a_pendingPath, a_nextPath, a_answerPath, a_link, a_trail, a_neqLeft, a_neqRight, a_workGoal, a_workFrame, a_stackA, a_stackB, a_walk, a_numberOf, a_numbered, a_endUnknown, a_implied, a_kept, a_sightings, a_lastSeen) (nI p) := by
  obtain ⟨rfl, rfl, rfl, rfl, hA, hN⟩ := hS
  have h14 := rs_path_14 T.2.2.2.1 G q p
  unfold wpX_settle
  refine xw_run hT hG hGX htc hgc ems emc hp hp1 hq ?_
  intro f_trailTop f_callsDone f_choicesLeft f_neqCount f_workTop f_walkTop a_link a_trail a_neqLeft a_neqRight a_workGoal a_workFrame a_stackA a_stackB a_walk _
  rcases (show (rs_path T.2.2.2.1 G q p).1 = 1 ∨ (rs_path T.2.2.2.1 G q p).1 = 2 ∨ (rs_path T.2.2.2.1 G q p).1 = 3 ∨ (rs_path T.2.2.2.1 G q p).1 = 4 by omega) with e | e | e | e
  · rw [rs_ff_t e, rs_ff_f (w := 2) (by omega), rs_ff_f (w := 3) (by omega), rs_ff_f (w := 4) (by omega)] at k
    rw [e]
    refine br_t rfl (br_f (nI_ge (b := 256) l1 (by decide)) ⟨vp_in_nI l1 (by decide), nm_r (e' := upd a_answerPath LA.length (nI p)) (by rw [nI_clamp (by omega)]) (nm_r (nI_1 _) ?_)⟩)
    refine k _ _ _ _ _ _ _ _ _ _ _ _ _ _ _ _ _ _ _ _ _ ⟨by rw [List.length_append]; rfl, rfl, rfl, by rw [List.append_nil], ?_, by rw [List.append_nil]; exact hN⟩
    have := rs_A_snoc (x := p) hA rfl
    rwa [Nat.zero_add] at this
  · rw [rs_ff_f (w := 1) (by omega), rs_ff_t e, rs_ff_f (w := 3) (by omega), rs_ff_f (w := 4) (by omega)] at k
    rw [e]
    refine br_f (by decide) (br_t rfl (nm_r (nI_1 _) ?_))
    exact k _ _ _ _ _ _ _ _ _ _ _ _ _ _ _ _ _ _ _ _ _ ⟨by rw [List.append_nil], rfl, rfl, by rw [List.append_nil], by rw [List.append_nil]; exact hA, by rw [List.append_nil]; exact hN⟩
  · rw [rs_ff_f (w := 1) (by omega), rs_ff_f (w := 2) (by omega), rs_ff_t e, rs_ff_f (w := 4) (by omega)] at k
    rw [e]
    refine br_f (by decide) (br_f (by decide) (br_t rfl (nm_r (nI_1 _) ?_)))
    exact k _ _ _ _ _ _ _ _ _ _ _ _ _ _ _ _ _ _ _ _ _ ⟨by rw [List.append_nil], rfl, rfl, by rw [List.append_nil], by rw [List.append_nil]; exact hA, by rw [List.append_nil]; exact hN⟩
  · rw [rs_ff_f (w := 1) (by omega), rs_ff_f (w := 2) (by omega), rs_ff_f (w := 3) (by omega), rs_ff_t e] at k
    rw [e]
    refine br_f (by decide) (br_f (by decide) (br_f (by decide) (br_f (nI_ge (b := 256) l2 (by decide)) ⟨vp_in_nI l2 (by decide), nm_r (e' := upd a_nextPath NX.length (nI p)) (by rw [nI_clamp (by omega)]) (nm_r (nI_1 _) ?_)⟩)))
    refine k _ _ _ _ _ _ _ _ _ _ _ _ _ _ _ _ _ _ _ _ _ ⟨by rw [List.append_nil], rfl, rfl, by rw [List.length_append]; rfl, by rw [List.append_nil]; exact hA, ?_⟩
    have := rs_A_snoc (x := p) hN rfl
    rwa [Nat.zero_add] at this
theorem xw_takeNextPaths {post : SX → Prop} {NX : List Nat} (hn : NX.length ≤ 256) (hN : rs_A a_nextPath 0 NX) (h : ∀ a_pendingPath, rs_A a_pendingPath 0 NX → post (f_kindSymbol, f_kindSlot, f_kindPair, f_goalEq, f_goalNeq, f_goalBoth, f_goalEither, f_goalCall, f_goOn, f_outAnswer, f_outFailure, f_outCut, f_outPending, f_firstVariable, f_maxLevel, f_maxCalls, f_maxSize, f_termCount, f_goalCount, f_searching, f_queryGoal, f_queryWidth, f_levelNow, nI NX.length, nI NX.length, f_answerCount, f_failureCount, f_cutCount, f_trailTop, f_callsDone, f_choicesLeft, f_neqCount, f_workTop, f_walkTop, f_loaded, f_numberedCount, f_endUnknownCount, f_constraintsReady, f_relevantMask, f_keptCount, a_termKind, a_termLeft, a_termRight, a_termSize, a_goalKind, a_goalFirst, a_goalSecond, a_goalThird, a_goalFourth, a_goalSize, a_relationGoal, a_pendingPath, a_nextPath, a_answerPath, a_link, a_trail, a_neqLeft, a_neqRight, a_workGoal, a_workFrame, a_stackA, a_stackB, a_walk, a_numberOf, a_numbered, a_endUnknown, a_implied, a_kept, a_sightings, a_lastSeen)) : wpX_takeNextPaths post (f_kindSymbol, f_kindSlot, f_kindPair, f_goalEq, f_goalNeq, f_goalBoth, f_goalEither, f_goalCall, f_goOn, f_outAnswer, f_outFailure, f_outCut, f_outPending, f_firstVariable, f_maxLevel, f_maxCalls, f_maxSize, f_termCount, f_goalCount, f_searching, f_queryGoal, f_queryWidth, f_levelNow, f_pendingCount, nI NX.length, f_answerCount, f_failureCount, f_cutCount, f_trailTop, f_callsDone, f_choicesLeft, f_neqCount, f_workTop, f_walkTop, f_loaded, f_numberedCount, f_endUnknownCount, f_constraintsReady, f_relevantMask, f_keptCount, a_termKind, a_termLeft, a_termRight, a_termSize, a_goalKind, a_goalFirst, a_goalSecond, a_goalThird, a_goalFourth, a_goalSize, a_relationGoal, a_pendingPath, a_nextPath, a_answerPath, a_link, a_trail, a_neqLeft, a_neqRight, a_workGoal, a_workFrame, a_stackA, a_stackB, a_walk, a_numberOf, a_numbered, a_endUnknown, a_implied, a_kept, a_sightings, a_lastSeen) := by
  have key : ∀ (d j : Nat) (b1 : Nat → Int32), j + d = NX.length → b1 = rs_cy a_pendingPath 0 a_nextPath 0 j → wX_takeNextPaths_2 post f_kindSymbol f_kindSlot f_kindPair f_goalEq f_goalNeq f_goalBoth f_goalEither f_goalCall f_goOn f_outAnswer f_outFailure f_outCut f_outPending f_firstVariable f_maxLevel f_maxCalls f_maxSize f_termCount f_goalCount f_searching f_queryGoal f_queryWidth f_levelNow f_pendingCount (nI NX.length) f_answerCount f_failureCount f_cutCount f_trailTop f_callsDone f_choicesLeft f_neqCount f_workTop f_walkTop f_loaded f_numberedCount f_endUnknownCount f_constraintsReady f_relevantMask f_keptCount (d + 1) (nI j) a_termKind a_termLeft a_termRight a_termSize a_goalKind a_goalFirst a_goalSecond a_goalThird a_goalFourth a_goalSize a_relationGoal b1 a_nextPath a_answerPath a_link a_trail a_neqLeft a_neqRight a_workGoal a_workFrame a_stackA a_stackB a_walk a_numberOf a_numbered a_endUnknown a_implied a_kept a_sightings a_lastSeen := by
    intro d
    induction d with
    | zero =>
      intro j b1 hj hb
      obtain rfl : j = NX.length := by omega
      subst hb
      exact br_t (nI_le (Nat.le_refl _) (by omega)) (h _ (rs_cy_A hN))
    | succ d ih =>
      intro j b1 hj hb
      refine br_f (nI_ge (by omega) (by omega)) ⟨vp_in_nI (by omega) (by decide), vp_in_nI (by omega) (by decide), nm_r (e' := rs_cy a_pendingPath 0 a_nextPath 0 (j + 1)) ?_ (nm_r (nI_1 j) (ih (j + 1) _ (by omega) rfl))⟩
      rw [nI_clamp (by omega), ← rs_cy_s, Nat.zero_add, hb]
  exact ⟨NX.length + 1, key NX.length 0 a_pendingPath (by omega) rs_cy_0.symm⟩
theorem xw_advance_51 {post : Int32 → SX → Prop} {P LA : List Nat} {fl ct lv c0 : Nat} (hT : rs_TA T a_termKind a_termLeft a_termRight) (hG : rs_GA gc G a_goalKind a_goalFirst a_goalSecond a_goalThird a_goalFourth a_relationGoal) (hGX : rs_GX T.2.2.2.2 gc G) (htc : T.2.2.2.2 ≤ 64) (hgc : gc ≤ 48) (ems : G.2.2.2.2.2.2.2.2 = ms) (emc : G.2.2.2.2.2.2.2.1 = mc) (hq : q < gc) (hP : ∀ x, x ∈ P → 1 ≤ x ∧ x < 128) (hlen : LA.length + 2 * P.length ≤ 256) (hfl : fl ≤ 1000) (hct : ct ≤ 1000) (hA : rs_A a_pendingPath 0 P)
    (k : ∀ (f_answerCount f_failureCount f_cutCount f_nextCount : Int32) (a_answerPath a_nextPath : Nat → Int32) a_pendingPath (f_trailTop f_callsDone f_choicesLeft f_neqCount f_workTop f_walkTop : Int32) (a_link a_trail a_neqLeft a_neqRight a_workGoal a_workFrame a_stackA a_stackB a_walk : Nat → Int32), rs_SE (LA ++ rs_ff T.2.2.2.1 G q 1 (rs_kids P)) (fl + (rs_ff T.2.2.2.1 G q 2 (rs_kids P)).length) (ct + (rs_ff T.2.2.2.1 G q 3 (rs_kids P)).length) (rs_ff T.2.2.2.1 G q 4 (rs_kids P)) f_answerCount f_failureCount f_cutCount f_nextCount a_answerPath a_nextPath → rs_A a_pendingPath 0 (rs_ff T.2.2.2.1 G q 4 (rs_kids P)) → post (f_answerCount - nI c0) (f_kindSymbol, f_kindSlot, f_kindPair, f_goalEq, f_goalNeq, f_goalBoth, f_goalEither, f_goalCall, f_goOn, f_outAnswer, f_outFailure, f_outCut, f_outPending, f_firstVariable, f_maxLevel, nI mc, nI ms, f_termCount, f_goalCount, f_searching, nI q, f_queryWidth, nI (lv + 1), nI (rs_ff T.2.2.2.1 G q 4 (rs_kids P)).length, f_nextCount, f_answerCount, f_failureCount, f_cutCount, f_trailTop, f_callsDone, f_choicesLeft, f_neqCount, f_workTop, f_walkTop, f_loaded, f_numberedCount, f_endUnknownCount, f_constraintsReady, f_relevantMask, f_keptCount, a_termKind, a_termLeft, a_termRight, a_termSize, a_goalKind, a_goalFirst, a_goalSecond, a_goalThird, a_goalFourth, a_goalSize, a_relationGoal, a_pendingPath, a_nextPath, a_answerPath, a_link, a_trail, a_neqLeft, a_neqRight, a_workGoal, a_workFrame, a_stackA, a_stackB, a_walk, a_numberOf, a_numbered, a_endUnknown, a_implied, a_kept, a_sightings, a_lastSeen)) :
    ∀ (suf pre : List Nat) (n : Nat) (f_answerCount f_failureCount f_cutCount f_nextCount : Int32) (a_answerPath a_nextPath : Nat → Int32) (f_trailTop f_callsDone f_choicesLeft f_neqCount f_workTop f_walkTop : Int32) (a_link a_trail a_neqLeft a_neqRight a_workGoal a_workFrame a_stackA a_stackB a_walk : Nat → Int32), P = pre ++ suf → suf.length < n → rs_SE (LA ++ rs_ff T.2.2.2.1 G q 1 (rs_kids pre)) (fl + (rs_ff T.2.2.2.1 G q 2 (rs_kids pre)).length) (ct + (rs_ff T.2.2.2.1 G q 3 (rs_kids pre)).length) (rs_ff T.2.2.2.1 G q 4 (rs_kids pre)) f_answerCount f_failureCount f_cutCount f_nextCount a_answerPath a_nextPath →
      wX_advance_51 post (nI c0) n (nI pre.length) f_kindSymbol f_kindSlot f_kindPair f_goalEq f_goalNeq f_goalBoth f_goalEither f_goalCall f_goOn f_outAnswer f_outFailure f_outCut f_outPending f_firstVariable f_maxLevel (nI mc) (nI ms) f_termCount f_goalCount f_searching (nI q) f_queryWidth (nI lv) (nI P.length) f_nextCount f_answerCount f_failureCount f_cutCount f_trailTop f_callsDone f_choicesLeft f_neqCount f_workTop f_walkTop f_loaded f_numberedCount f_endUnknownCount f_constraintsReady f_relevantMask f_keptCount a_termKind a_termLeft a_termRight a_termSize a_goalKind a_goalFirst a_goalSecond a_goalThird a_goalFourth a_goalSize a_relationGoal a_pendingPath a_nextPath a_answerPath a_link a_trail a_neqLeft a_neqRight a_workGoal a_workFrame a_stackA a_stackB a_walk a_numberOf a_numbered a_endUnknown a_implied a_kept a_sightings a_lastSeen := by
  have hkl : ∀ l : List Nat, (rs_kids l).length = 2 * l.length := by
    intro l
    induction l with
    | nil => rfl
    | cons a l ih =>
      have e : rs_kids (a :: l) = 2 * a :: (2 * a + 1) :: rs_kids l := rfl
      rw [e, List.length_cons, List.length_cons, List.length_cons, ih]
      omega
  intro suf
  induction suf with
  | nil =>
    intro pre n f_answerCount f_failureCount f_cutCount f_nextCount a_answerPath a_nextPath f_trailTop f_callsDone f_choicesLeft f_neqCount f_workTop f_walkTop a_link a_trail a_neqLeft a_neqRight a_workGoal a_workFrame a_stackA a_stackB a_walk e hn hS
    obtain ⟨n, rfl⟩ : ∃ m, n = m + 1 := ⟨n - 1, by omega⟩
    rw [List.append_nil] at e
    subst e
    have hS' := hS
    obtain ⟨q1, q2, q3, rfl, q5, q6⟩ := hS
    have h4 := rs_ff_len (ts := T.2.2.2.1) (G := G) (q := q) (w := 4) (rs_kids P)
    rw [hkl] at h4
    refine br_t (nI_le (Nat.le_refl _) (by omega)) ?_
    refine xw_takeNextPaths (by omega) q6 (fun a_pendingPath hpp => nm_r (nI_1 lv) ?_)
    exact k _ _ _ _ _ _ _ _ _ _ _ _ _ _ _ _ _ _ _ _ _ _ hS' hpp
  | cons x suf ih =>
    intro pre n f_answerCount f_failureCount f_cutCount f_nextCount a_answerPath a_nextPath f_trailTop f_callsDone f_choicesLeft f_neqCount f_workTop f_walkTop a_link a_trail a_neqLeft a_neqRight a_workGoal a_workFrame a_stackA a_stackB a_walk e hn hS
    obtain ⟨n, rfl⟩ : ∃ m, n = m + 1 := ⟨n - 1, by omega⟩
    have hl : P.length = pre.length + (suf.length + 1) := by rw [e, List.length_append, List.length_cons]
    have hx := hP x (by rw [e]; exact List.mem_append_right _ (List.mem_cons_self ..))
    have ex : a_pendingPath pre.length = nI x := by
      have h := hA
      rw [e] at h
      have := rs_A_mid h
      rwa [Nat.zero_add] at this
    have e2 : 2 * nI x = nI (2 * x) := pk_mul 2 x
    have b1 := rs_ff_len (ts := T.2.2.2.1) (G := G) (q := q) (w := 1) (rs_kids pre)
    have b4 := rs_ff_len (ts := T.2.2.2.1) (G := G) (q := q) (w := 4) (rs_kids pre)
    have c1 := rs_ff_len (ts := T.2.2.2.1) (G := G) (q := q) (w := 1) [2 * x]
    have c4 := rs_ff_len (ts := T.2.2.2.1) (G := G) (q := q) (w := 4) [2 * x]
    rw [hkl] at b1 b4
    rw [List.length_singleton] at c1 c4
    refine br_f (nI_ge (by omega) (by omega)) ⟨vp_in_nI (by omega) (by decide), nm_r (e' := nI (2 * x)) (by rw [nI_clamp (by omega), ex, e2]) ?_⟩
    refine xw_settle hT hG hGX htc hgc ems emc hq (by omega) (by omega) hS (by rw [List.length_append]; omega) (by omega) ?_
    intro f_answerCount f_failureCount f_cutCount f_nextCount a_answerPath a_nextPath f_trailTop f_callsDone f_choicesLeft f_neqCount f_workTop f_walkTop a_link a_trail a_neqLeft a_neqRight a_workGoal a_workFrame a_stackA a_stackB a_walk hS
    rw [nI_1 (2 * x)]
    refine xw_settle hT hG hGX htc hgc ems emc hq (by omega) (by omega) hS (by rw [List.length_append, List.length_append]; omega) (by rw [List.length_append]; omega) ?_
    intro f_answerCount f_failureCount f_cutCount f_nextCount a_answerPath a_nextPath f_trailTop f_callsDone f_choicesLeft f_neqCount f_workTop f_walkTop a_link a_trail a_neqLeft a_neqRight a_workGoal a_workFrame a_stackA a_stackB a_walk hS
    refine nm_r (nI_1 _) ?_
    have ek : rs_kids (pre ++ [x]) = rs_kids pre ++ ([2 * x] ++ [2 * x + 1]) := by
      unfold rs_kids
      rw [List.flatMap_append]
      rfl
    have hpl : (pre ++ [x]).length = pre.length + 1 := by rw [List.length_append]; rfl
    have key := ih (pre ++ [x]) n f_answerCount f_failureCount f_cutCount f_nextCount a_answerPath a_nextPath f_trailTop f_callsDone f_choicesLeft f_neqCount f_workTop f_walkTop a_link a_trail a_neqLeft a_neqRight a_workGoal a_workFrame a_stackA a_stackB a_walk (by rw [e, List.append_assoc]; rfl) (by rw [List.length_cons] at hn; omega) (by
      rw [ek, rs_ff_app, rs_ff_app, rs_ff_app, rs_ff_app, rs_ff_app, rs_ff_app, rs_ff_app, rs_ff_app, List.length_append, List.length_append, List.length_append, List.length_append, ← Nat.add_assoc, ← Nat.add_assoc, ← Nat.add_assoc, ← Nat.add_assoc, ← List.append_assoc, ← List.append_assoc, ← List.append_assoc]
      exact hS)
    rw [hpl] at key
    exact key
end
end
section
/-! searching -/
theorem rs_OC_le {ts : Nat → List Nat} {G : rs_G} {q lv : Nat} {oc : Nat → Nat} (h : rs_OC ts G q lv oc) {p : Nat} (hp : p < 256) : oc p ≤ 4 := by
  by_cases h0 : p = 0
  · rw [h0, h.1]; omega
  · by_cases h1 : p = 1
    · rw [h1, h.2.1]; exact (rs_path_14 ts G q 1).2
    · obtain ⟨a, b⟩ := h.2.2 p (by omega) hp
      by_cases z : p < 2 ^ (lv + 1) ∧ oc (p / 2) = 4
      · rw [a z]; exact (rs_path_14 ts G q p).2
      · rw [b z]; omega
theorem rs_shl1 : ∀ l, l < 9 → (1 : Int32) <<< (nI l &&& 31) = nI (2 ^ l) := by decide +kernel
theorem rs_shl2 : ∀ l, l < 9 → (2 : Int32) <<< (nI l &&& 31) = nI (2 ^ (l + 1)) := by decide +kernel
section
variable {f_kindSymbol f_kindSlot f_kindPair f_goalEq f_goalNeq f_goalBoth f_goalEither f_goalCall f_goOn f_outAnswer f_outFailure f_outCut f_outPending f_firstVariable f_maxLevel f_maxCalls f_maxSize f_termCount f_goalCount f_searching f_queryGoal f_queryWidth f_levelNow f_pendingCount f_nextCount f_answerCount f_failureCount f_cutCount f_trailTop f_callsDone f_choicesLeft f_neqCount f_workTop f_walkTop f_loaded f_numberedCount f_endUnknownCount f_constraintsReady f_relevantMask f_keptCount : Int32} {a_termKind a_termLeft a_termRight a_termSize a_goalKind a_goalFirst a_goalSecond a_goalThird a_goalFourth a_goalSize a_relationGoal a_pendingPath a_nextPath a_answerPath a_link a_trail a_neqLeft a_neqRight a_workGoal a_workFrame a_stackA a_stackB a_walk a_numberOf a_numbered a_endUnknown a_implied a_kept a_sightings a_lastSeen : Nat → Int32}
variable {g_maxLevel g_maxCalls g_maxSize g_terms g_goals g_searching g_query g_read g_level g_frames g_neqs g_numbered g_kept : Int32} {b_termToken b_termLen b_kind b_goalSize b_part b_relation b_outcome b_val b_len b_neqT b_neqU b_neqF b_stackGoal b_stackFrame b_buf b_bufLen b_tmp b_base b_baseLen b_num b_relevant b_implies b_keptAt : Nat → Int32}
variable {T : rs_T} {G : rs_G} {gc ml ms mc q lv tc : Nat} {ts : Nat → List Nat} {oc : Nat → Nat} {k : Nat}
theorem yw_count {post : Int32 → Prop} {w lo : Nat} (hO : ∀ p, p < 256 → b_outcome p = nI (oc p)) (hb : ∀ p, p < 256 → oc p ≤ 4) (hw : w ≤ 4) (hlo : lo ≤ 256) (h : post (nI (rs_ct oc w lo))) : wpY_count post (g_maxLevel, g_maxCalls, g_maxSize, g_terms, g_goals, g_searching, g_query, g_read, g_level, g_frames, g_neqs, g_numbered, g_kept, b_termToken, b_termLen, b_kind, b_goalSize, b_part, b_relation, b_outcome, b_val, b_len, b_neqT, b_neqU, b_neqF, b_stackGoal, b_stackFrame, b_buf, b_bufLen, b_tmp, b_base, b_baseLen, b_num, b_relevant, b_implies, b_keptAt) (nI w) (nI lo) := by
  have key : ∀ (d p c : Nat), p + d = 256 → post (nI (c + rs_ct oc w p)) → wY_count_5 post (nI w) g_maxLevel g_maxCalls g_maxSize g_terms g_goals g_searching g_query g_read g_level g_frames g_neqs g_numbered g_kept b_termToken b_termLen b_kind b_goalSize b_part b_relation b_outcome b_val b_len b_neqT b_neqU b_neqF b_stackGoal b_stackFrame b_buf b_bufLen b_tmp b_base b_baseLen b_num b_relevant b_implies b_keptAt (d + 1) (nI c) (nI p) := by
    intro d
    induction d with
    | zero =>
      intro p c hp h
      obtain rfl : p = 256 := by omega
      exact br_t (by decide) h
    | succ d ih =>
      intro p c hp h
      have hbp := hb p (by omega)
      have e : rs_iv p (256 - p) = p :: rs_iv (p + 1) (256 - (p + 1)) := by
        rw [show 256 - p = (256 - (p + 1)) + 1 by omega]; rfl
      refine br_f (nI_ge (b := 256) (by omega) (by decide)) ⟨vp_in_nI (by omega) (by decide), ?_⟩
      rw [nI_clamp (n := p) (by omega), hO p (by omega)]
      unfold rs_ct at h
      rw [e] at h
      by_cases z : oc p = w
      · rw [List.filter_cons_of_pos (by rw [z]; simp), List.length_cons] at h
        refine br_t (by rw [z]) (nm_r (nI_1 c) (nm_r (nI_1 p) ?_))
        refine ih (p + 1) (c + 1) (by omega) ?_
        unfold rs_ct
        rwa [show c + 1 + ((rs_iv (p + 1) (256 - (p + 1))).filter (fun p => decide (oc p = w))).length = c + (((rs_iv (p + 1) (256 - (p + 1))).filter (fun p => decide (oc p = w))).length + 1) by omega]
      · rw [List.filter_cons_of_neg (by simpa using z)] at h
        exact br_f (fun y => z ((nI_eq (by omega) (by omega)).mp y)) (nm_r (nI_1 p) (ih (p + 1) c (by omega) h))
  exact ⟨256 - lo + 1, key (256 - lo) lo 0 (by omega) (by rw [Nat.zero_add]; exact h)⟩
theorem yw_start_23 {post : Int32 → SY → Prop} {x2 : Int32} (hT : rs_TB tc ts b_termToken b_termLen) (hG : rs_GB gc G b_kind b_part b_relation) (hGX : rs_GX tc gc G) (htc : tc ≤ 64) (hgc : gc ≤ 48) (ems : G.2.2.2.2.2.2.2.2 = ms) (emc : G.2.2.2.2.2.2.2.1 = mc) (hq : q < gc)
    (h : ∀ (b_outcome : Nat → Int32) (g_frames g_neqs : Int32) (b_val b_len b_neqT b_neqU b_neqF b_stackGoal b_stackFrame b_buf b_bufLen b_tmp : Nat → Int32), (∀ p, p < 256 → b_outcome p = nI (if p = 1 then (rs_path ts G q 1).1 else 0)) → post (nI (rs_ct (fun p => if p = 1 then (rs_path ts G q 1).1 else 0) 1 1)) (g_maxLevel, nI mc, nI ms, g_terms, g_goals, 1, nI q, x2, 0, g_frames, g_neqs, g_numbered, g_kept, b_termToken, b_termLen, b_kind, b_goalSize, b_part, b_relation, b_outcome, b_val, b_len, b_neqT, b_neqU, b_neqF, b_stackGoal, b_stackFrame, b_buf, b_bufLen, b_tmp, b_base, b_baseLen, b_num, b_relevant, b_implies, b_keptAt)) :
    ∀ (d i : Nat) (b_outcome : Nat → Int32), i + d = 256 → (∀ p, p < i → b_outcome p = 0) → wY_start_23 post (nI q) x2 g_maxLevel (nI mc) (nI ms) g_terms g_goals g_searching g_query g_read g_level g_frames g_neqs g_numbered g_kept (d + 1) (nI i) b_termToken b_termLen b_kind b_goalSize b_part b_relation b_outcome b_val b_len b_neqT b_neqU b_neqF b_stackGoal b_stackFrame b_buf b_bufLen b_tmp b_base b_baseLen b_num b_relevant b_implies b_keptAt := by
  intro d
  induction d with
  | zero =>
    intro i b_outcome hi hO
    obtain rfl : i = 256 := by omega
    refine br_t (by decide) ?_
    refine yw_run (p := 1) hT hG hGX htc hgc ems emc (by omega) (by omega) hq ?_
    intro g_frames g_neqs b_val b_len b_neqT b_neqU b_neqF b_stackGoal b_stackFrame b_buf b_bufLen b_tmp _
    have hO' : ∀ p, p < 256 → upd b_outcome 1 (nI (rs_path ts G q 1).1) p = nI (if p = 1 then (rs_path ts G q 1).1 else 0) := by
      intro p hp
      by_cases e : p = 1
      · rw [if_pos e]; exact if_pos e
      · rw [if_neg e]; exact (if_neg e).trans (hO p hp)
    refine nm_e (yw_count (w := 1) (lo := 1) (oc := fun p => if p = 1 then (rs_path ts G q 1).1 else 0) hO' ?_ (by omega) (by omega) (h _ _ _ _ _ _ _ _ _ _ _ _ _ hO'))
    intro p hp
    have := (rs_path_14 ts G q 1).2
    split <;> omega
  | succ d ih =>
    intro i b_outcome hi hO
    refine br_f (nI_ge (b := 256) (by omega) (by decide)) ⟨vp_in_nI (by omega) (by decide), nm_r (e' := upd b_outcome i 0) (by rw [nI_clamp (by omega)]) (nm_r (nI_1 i) (ih (i + 1) _ (by omega) (fun p hp => ?_)))⟩
    by_cases e : p = i
    · exact if_pos e
    · exact (if_neg e).trans (hO p (by omega))
theorem yw_advance_51 {post : Int32 → SY → Prop} (hT : rs_TB tc ts b_termToken b_termLen) (hG : rs_GB gc G b_kind b_part b_relation) (hGX : rs_GX tc gc G) (htc : tc ≤ 64) (hgc : gc ≤ 48) (ems : G.2.2.2.2.2.2.2.2 = ms) (emc : G.2.2.2.2.2.2.2.1 = mc) (hq : q < gc) (hOC : rs_OC ts G q lv oc) (hl : lv + 1 ≤ 7)
    (h : ∀ b_outcome (g_frames g_neqs : Int32) (b_val b_len b_neqT b_neqU b_neqF b_stackGoal b_stackFrame b_buf b_bufLen b_tmp : Nat → Int32), (∀ p, p < 256 → b_outcome p = nI (rs_oc' oc (fun p => (rs_path ts G q p).1) lv p)) → post (nI (rs_ct (rs_oc' oc (fun p => (rs_path ts G q p).1) lv) 1 (2 ^ (lv + 1)))) (g_maxLevel, nI mc, nI ms, g_terms, g_goals, g_searching, nI q, g_read, nI (lv + 1), g_frames, g_neqs, g_numbered, g_kept, b_termToken, b_termLen, b_kind, b_goalSize, b_part, b_relation, b_outcome, b_val, b_len, b_neqT, b_neqU, b_neqF, b_stackGoal, b_stackFrame, b_buf, b_bufLen, b_tmp, b_base, b_baseLen, b_num, b_relevant, b_implies, b_keptAt)) :
    ∀ (d p : Nat) (b_outcome : Nat → Int32) (g_frames g_neqs : Int32) (b_val b_len b_neqT b_neqU b_neqF b_stackGoal b_stackFrame b_buf b_bufLen b_tmp : Nat → Int32), p + d = 2 ^ (lv + 2) → 2 ^ (lv + 1) ≤ p → (∀ p', p' < 256 → b_outcome p' = nI (if p' < p then rs_oc' oc (fun p => (rs_path ts G q p).1) lv p' else oc p')) → wY_advance_51 post (d + 1) (nI p) g_maxLevel (nI mc) (nI ms) g_terms g_goals g_searching (nI q) g_read (nI (lv + 1)) g_frames g_neqs g_numbered g_kept b_termToken b_termLen b_kind b_goalSize b_part b_relation b_outcome b_val b_len b_neqT b_neqU b_neqF b_stackGoal b_stackFrame b_buf b_bufLen b_tmp b_base b_baseLen b_num b_relevant b_implies b_keptAt := by
  obtain ⟨h1, h2⟩ := rs_pow_le hl
  have e2 : 2 ^ (lv + 2) = 2 ^ (lv + 1) + 2 ^ (lv + 1) := by rw [Nat.pow_succ]; omega
  have hOC' := rs_OC_s hOC hl
  intro d
  induction d with
  | zero =>
    intro p b_outcome g_frames g_neqs b_val b_len b_neqT b_neqU b_neqF b_stackGoal b_stackFrame b_buf b_bufLen b_tmp hp hlo hO
    obtain rfl : p = 2 ^ (lv + 2) := by omega
    have hO' : ∀ p', p' < 256 → b_outcome p' = nI (rs_oc' oc (fun p => (rs_path ts G q p).1) lv p') := by
      intro p' hp'
      rw [hO p' hp']
      by_cases z : p' < 2 ^ (lv + 2)
      · rw [if_pos z]
      · rw [if_neg z, rs_OC_hi hOC (p := p') (by omega) hp', rs_OC_hi hOC' (p := p') (by rw [show lv + 1 + 1 = lv + 2 by rfl]; omega) hp']
    have e97 : wY_advance_97 post g_maxLevel (nI mc) (nI ms) g_terms g_goals g_searching (nI q) g_read (nI (lv + 1)) g_frames g_neqs g_numbered g_kept b_termToken b_termLen b_kind b_goalSize b_part b_relation b_outcome b_val b_len b_neqT b_neqU b_neqF b_stackGoal b_stackFrame b_buf b_bufLen b_tmp b_base b_baseLen b_num b_relevant b_implies b_keptAt := by
      unfold wY_advance_97
      rw [rs_shl1 (lv + 1) (by omega)]
      exact yw_count (w := 1) (lo := 2 ^ (lv + 1)) hO' (fun p hp => rs_OC_le hOC' hp) (by omega) (by omega) (h _ _ _ _ _ _ _ _ _ _ _ _ _ hO')
    refine br_c (fun _ => e97) (fun _ => br_t ?_ e97)
    rw [rs_shl2 (lv + 1) (by omega)]
    exact nI_le (Nat.le_refl _) (by omega)
  | succ d ih =>
    intro p b_outcome g_frames g_neqs b_val b_len b_neqT b_neqU b_neqF b_stackGoal b_stackFrame b_buf b_bufLen b_tmp hp hlo hO
    have ep2 : (nI p >>> ((1 : Int32) &&& 31)) = nI (p / 2) := pk_shrN (by omega) _ 1 (by decide)
    have eh : b_outcome (p / 2) = nI (oc (p / 2)) := by
      rw [hO (p / 2) (by omega), if_pos (by omega)]
      congr 1
      exact if_pos (by omega)
    have ho := rs_OC_le hOC (p := p / 2) (by omega)
    have ep : rs_oc' oc (fun p => (rs_path ts G q p).1) lv p = if p < 2 ^ (lv + 1) then oc p else if p < 2 ^ (lv + 2) ∧ oc (p / 2) = 4 then (rs_path ts G q p).1 else 0 := rfl
    rw [if_neg (by omega)] at ep
    refine br_f (nI_ge (b := 256) (by omega) (by decide)) (br_f (by rw [rs_shl2 (lv + 1) (by omega)]; exact nI_ge (by rw [show lv + 1 + 1 = lv + 2 by rfl]; omega) (by rw [show lv + 1 + 1 = lv + 2 by rfl]; omega)) ?_)
    rw [ep2]
    refine ⟨vp_in_nI (by omega) (by decide), ?_⟩
    rw [nI_clamp (n := p / 2) (by omega), eh]
    by_cases z : oc (p / 2) = 4
    · rw [if_pos ⟨by omega, z⟩] at ep
      refine br_t (by rw [z]; rfl) ?_
      refine yw_run hT hG hGX htc hgc ems emc (by omega) (by omega) hq ?_
      intro g_frames g_neqs b_val b_len b_neqT b_neqU b_neqF b_stackGoal b_stackFrame b_buf b_bufLen b_tmp _
      refine ⟨vp_in_nI (by omega) (by decide), nm_r (e' := upd b_outcome p (nI (rs_path ts G q p).1)) (by rw [nI_clamp (by omega)]) (nm_r (nI_1 p) (ih (p + 1) _ _ _ _ _ _ _ _ _ _ _ _ _ (by omega) (by omega) ?_))⟩
      intro p' hp'
      by_cases e : p' = p
      · subst e
        rw [if_pos (by omega), ep]
        exact if_pos rfl
      · rw [show upd b_outcome p (nI (rs_path ts G q p).1) p' = b_outcome p' from if_neg e, hO p' hp']
        by_cases y : p' < p
        · rw [if_pos y, if_pos (by omega)]
        · rw [if_neg y, if_neg (by omega)]
    · rw [if_neg (fun y => z y.2)] at ep
      refine br_f (fun y => z ((nI_eq (b := 4) (by omega) (by decide)).mp y)) (nm_r (nI_1 p) (ih (p + 1) _ _ _ _ _ _ _ _ _ _ _ _ _ (by omega) (by omega) ?_))
      intro p' hp'
      rw [hO p' hp']
      by_cases e : p' = p
      · subst e
        rw [if_neg (Nat.lt_irrefl _), if_pos (by omega), ep, rs_OC_hi hOC (p := p') (by omega) hp']
      · by_cases y : p' < p
        · rw [if_pos y, if_pos (by omega)]
        · rw [if_neg y, if_neg (by omega)]
end
end
section
/-! the calls of the search -/
section
variable {f_kindSymbol f_kindSlot f_kindPair f_goalEq f_goalNeq f_goalBoth f_goalEither f_goalCall f_goOn f_outAnswer f_outFailure f_outCut f_outPending f_firstVariable f_maxLevel f_maxCalls f_maxSize f_termCount f_goalCount f_searching f_queryGoal f_queryWidth f_levelNow f_pendingCount f_nextCount f_answerCount f_failureCount f_cutCount f_trailTop f_callsDone f_choicesLeft f_neqCount f_workTop f_walkTop f_loaded f_numberedCount f_endUnknownCount f_constraintsReady f_relevantMask f_keptCount : Int32} {a_termKind a_termLeft a_termRight a_termSize a_goalKind a_goalFirst a_goalSecond a_goalThird a_goalFourth a_goalSize a_relationGoal a_pendingPath a_nextPath a_answerPath a_link a_trail a_neqLeft a_neqRight a_workGoal a_workFrame a_stackA a_stackB a_walk a_numberOf a_numbered a_endUnknown a_implied a_kept a_sightings a_lastSeen : Nat → Int32}
variable {g_maxLevel g_maxCalls g_maxSize g_terms g_goals g_searching g_query g_read g_level g_frames g_neqs g_numbered g_kept : Int32} {b_termToken b_termLen b_kind b_goalSize b_part b_relation b_outcome b_val b_len b_neqT b_neqU b_neqF b_stackGoal b_stackFrame b_buf b_bufLen b_tmp b_base b_baseLen b_num b_relevant b_implies b_keptAt : Nat → Int32}
variable {k : Nat}
theorem rs_oc0 (ts : Nat → List Nat) (G : rs_G) (q : Nat) : rs_OC ts G q 0 (fun p => if p = 1 then (rs_path ts G q 1).1 else 0) := by
  refine ⟨if_neg (by omega), if_pos rfl, ?_⟩
  intro p hp _
  refine ⟨fun z => absurd z.1 (by omega), fun _ => if_neg (by omega)⟩
theorem rs_oc0_sel (ts : Nat → List Nat) (G : rs_G) (q : Nat) {w : Nat} (hw : w ≠ 0) : rs_sel (fun p => if p = 1 then (rs_path ts G q 1).1 else 0) w = rs_ff ts G q w [1] := by
  rw [rs_sel_eq (rs_oc0 ts G q) (by omega) hw]
  show ([0, 1] : List Nat).filter _ = _
  rw [List.filter_cons_of_neg (by simp; omega)]
  unfold rs_ff
  exact List.filter_congr (fun p hp => by rw [List.mem_singleton] at hp; rw [hp]; simp)
theorem rs_oc0_pd (ts : Nat → List Nat) (G : rs_G) (q : Nat) : rs_pd (fun p => if p = 1 then (rs_path ts G q 1).1 else 0) 0 = rs_ff ts G q 4 [1] := by
  rw [rs_pd_eq (rs_oc0 ts G q) (by omega)]
  show ([1] : List Nat).filter _ = _
  unfold rs_ff
  exact List.filter_congr (fun p hp => by rw [List.mem_singleton] at hp; rw [hp]; simp)
theorem vc_start (h : rs_REL f_kindSymbol f_kindSlot f_kindPair f_goalEq f_goalNeq f_goalBoth f_goalEither f_goalCall f_goOn f_outAnswer f_outFailure f_outCut f_outPending f_firstVariable f_maxLevel f_maxCalls f_maxSize f_termCount f_goalCount f_searching f_queryGoal f_queryWidth f_levelNow f_pendingCount f_nextCount f_answerCount f_failureCount f_cutCount f_trailTop f_callsDone f_choicesLeft f_neqCount f_workTop f_walkTop f_loaded f_numberedCount f_endUnknownCount f_constraintsReady f_relevantMask f_keptCount a_termKind a_termLeft a_termRight a_termSize a_goalKind a_goalFirst a_goalSecond a_goalThird a_goalFourth a_goalSize a_relationGoal a_pendingPath a_nextPath a_answerPath a_link a_trail a_neqLeft a_neqRight a_workGoal a_workFrame a_stackA a_stackB a_walk a_numberOf a_numbered a_endUnknown a_implied a_kept a_sightings a_lastSeen g_maxLevel g_maxCalls g_maxSize g_terms g_goals g_searching g_query g_read g_level g_frames g_neqs g_numbered g_kept b_termToken b_termLen b_kind b_goalSize b_part b_relation b_outcome b_val b_len b_neqT b_neqU b_neqF b_stackGoal b_stackFrame b_buf b_bufLen b_tmp b_base b_baseLen b_num b_relevant b_implies b_keptAt) (v1 v2 : Int32) : wpX_start (fun r u' => wpY_start (fun r' v' => r' = r ∧ i_Rel k u' v') (g_maxLevel, g_maxCalls, g_maxSize, g_terms, g_goals, g_searching, g_query, g_read, g_level, g_frames, g_neqs, g_numbered, g_kept, b_termToken, b_termLen, b_kind, b_goalSize, b_part, b_relation, b_outcome, b_val, b_len, b_neqT, b_neqU, b_neqF, b_stackGoal, b_stackFrame, b_buf, b_bufLen, b_tmp, b_base, b_baseLen, b_num, b_relevant, b_implies, b_keptAt) v1 v2) (f_kindSymbol, f_kindSlot, f_kindPair, f_goalEq, f_goalNeq, f_goalBoth, f_goalEither, f_goalCall, f_goOn, f_outAnswer, f_outFailure, f_outCut, f_outPending, f_firstVariable, f_maxLevel, f_maxCalls, f_maxSize, f_termCount, f_goalCount, f_searching, f_queryGoal, f_queryWidth, f_levelNow, f_pendingCount, f_nextCount, f_answerCount, f_failureCount, f_cutCount, f_trailTop, f_callsDone, f_choicesLeft, f_neqCount, f_workTop, f_walkTop, f_loaded, f_numberedCount, f_endUnknownCount, f_constraintsReady, f_relevantMask, f_keptCount, a_termKind, a_termLeft, a_termRight, a_termSize, a_goalKind, a_goalFirst, a_goalSecond, a_goalThird, a_goalFourth, a_goalSize, a_relationGoal, a_pendingPath, a_nextPath, a_answerPath, a_link, a_trail, a_neqLeft, a_neqRight, a_workGoal, a_workFrame, a_stackA, a_stackB, a_walk, a_numberOf, a_numbered, a_endUnknown, a_implied, a_kept, a_sightings, a_lastSeen) v1 v2 := by
  have hR := h
  obtain ⟨T, G, gc, ml, hW, hX, hY, hS⟩ := h
  obtain rfl := hX.2.1
  obtain rfl := hX.2.2.1
  obtain rfl := hX.2.2.2.2.1
  obtain rfl := hY.2.1
  obtain rfl := hY.2.2.1
  obtain rfl := hY.2.2.2.2.1
  have hgc := hW.2.2.2.1
  have htc := hW.2.2.1
  unfold wpX_start
  rcases rs_dec v1 (n := gc) (by omega) with hv | ⟨q, hq, rfl⟩
  · refine xw_isGoal_0 hv (br_t rfl ?_)
    show wpY_start _ _ _ _
    unfold wpY_start
    exact yw_isGoal_0 hv (br_t rfl ⟨rfl, hR⟩)
  · refine xw_isGoal_1 hq hgc (br_f (by decide) ?_)
    by_cases h1 : v2 < 1
    · refine br_t h1 ?_
      show wpY_start _ _ _ _
      unfold wpY_start
      exact yw_isGoal_1 hq hgc (br_f (by decide) (br_t h1 ⟨rfl, hR⟩))
    · refine br_f h1 ?_
      by_cases h6 : v2 ≤ 6
      · refine br_t h6 ?_
        have hwd : ∃ wd, 1 ≤ wd ∧ wd ≤ 6 ∧ v2 = nI wd := by
          have h0 : ¬ v2 < 0 := by
            intro z
            exact h1 (Int32.lt_trans z (by decide))
          obtain ⟨j, j1, j2⟩ := nI_of2 (n := 6) (by decide) h0 h6
          refine ⟨j, ?_, j1, j2⟩
          rcases Nat.eq_zero_or_pos j with z | z
          · rw [j2, z] at h1
            exact absurd (by decide) h1
          · exact z
        obtain ⟨wd, w1, w2, rfl⟩ := hwd
        refine xw_settle (p := 1) (LA := []) (NX := []) (fl := 0) (ct := 0) hX.2.2.2.2.2.1 hX.2.2.2.2.2.2.2.1 hW.2.2.2.2.2 htc hgc rfl rfl hq (by omega) (by omega) ⟨rfl, rfl, rfl, rfl, rs_A_nil, rs_A_nil⟩ (by simp) (by simp) ?_
        intro f_answerCount f_failureCount f_cutCount f_nextCount a_answerPath a_nextPath f_trailTop f_callsDone f_choicesLeft f_neqCount f_workTop f_walkTop a_link a_trail a_neqLeft a_neqRight a_workGoal a_workFrame a_stackA a_stackB a_walk hSE
        rw [List.nil_append, List.nil_append, Nat.zero_add, Nat.zero_add] at hSE
        obtain ⟨rfl, rfl, rfl, rfl, hA, hN⟩ := hSE
        have l4 := rs_ff_len (ts := T.2.2.2.1) (G := G) (q := q) (w := 4) [1]
        rw [List.length_singleton] at l4
        refine xw_takeNextPaths (by omega) hN (fun a_pendingPath hpp => ?_)
        show wpY_start _ _ _ _
        unfold wpY_start
        refine yw_isGoal_1 hq hgc (br_f (by decide) (br_f h1 (br_t h6 ⟨257, ?_⟩)))
        refine yw_start_23 hY.2.2.2.2.2.1 hY.2.2.2.2.2.2.1 hW.2.2.2.2.2 htc hgc rfl rfl hq ?_ 256 0 b_outcome (by omega) (fun p hp => absurd hp (by omega))
        intro b_outcome g_frames g_neqs b_val b_len b_neqT b_neqU b_neqF b_stackGoal b_stackFrame b_buf b_bufLen b_tmp hO
        refine ⟨?_, ?_⟩
        · rw [rs_ct_sel (oc := fun p => if p = 1 then (rs_path T.2.2.2.1 G q 1).1 else 0) (w := 1) (if_neg (by omega)) (by omega), rs_oc0_sel _ _ _ (by omega)]
        · refine ⟨T, G, gc, ml, hW, hX, hY, rfl, Or.inr ⟨rfl, q, wd, 0, _, ⟨hq, w1, w2, Nat.zero_le _, rs_oc0 T.2.2.2.1 G q, rfl, rfl, rfl, ?_, ?_, ?_, ?_, ?_, ?_, rfl, rfl, rfl, hO⟩, Or.inl rfl⟩⟩
          · rw [rs_oc0_pd]
          · rw [rs_oc0_sel _ _ _ (by omega)]
          · rw [rs_oc0_sel _ _ _ (by omega)]
          · rw [rs_oc0_sel _ _ _ (by omega)]
          · rw [rs_oc0_pd]; exact hpp
          · rw [rs_oc0_sel _ _ _ (by omega)]; exact hA
      · refine br_f h6 ?_
        show wpY_start _ _ _ _
        unfold wpY_start
        exact yw_isGoal_1 hq hgc (br_f (by decide) (br_f h1 (br_f h6 ⟨rfl, hR⟩)))
theorem rs_sel_sl {ts : Nat → List Nat} {G : rs_G} {q lv : Nat} {oc : Nat → Nat} (h : rs_OC ts G q lv oc) (hl : lv + 1 ≤ 7) {w : Nat} (hw : w ≠ 0) : (rs_sel (rs_oc' oc (fun p => (rs_path ts G q p).1) lv) w).length = (rs_sel oc w).length + (rs_ff ts G q w (rs_kids (rs_pd oc lv))).length := by
  rw [rs_sel_s h hl hw, List.length_append]
  rfl
theorem vc_advance (h : rs_REL f_kindSymbol f_kindSlot f_kindPair f_goalEq f_goalNeq f_goalBoth f_goalEither f_goalCall f_goOn f_outAnswer f_outFailure f_outCut f_outPending f_firstVariable f_maxLevel f_maxCalls f_maxSize f_termCount f_goalCount f_searching f_queryGoal f_queryWidth f_levelNow f_pendingCount f_nextCount f_answerCount f_failureCount f_cutCount f_trailTop f_callsDone f_choicesLeft f_neqCount f_workTop f_walkTop f_loaded f_numberedCount f_endUnknownCount f_constraintsReady f_relevantMask f_keptCount a_termKind a_termLeft a_termRight a_termSize a_goalKind a_goalFirst a_goalSecond a_goalThird a_goalFourth a_goalSize a_relationGoal a_pendingPath a_nextPath a_answerPath a_link a_trail a_neqLeft a_neqRight a_workGoal a_workFrame a_stackA a_stackB a_walk a_numberOf a_numbered a_endUnknown a_implied a_kept a_sightings a_lastSeen g_maxLevel g_maxCalls g_maxSize g_terms g_goals g_searching g_query g_read g_level g_frames g_neqs g_numbered g_kept b_termToken b_termLen b_kind b_goalSize b_part b_relation b_outcome b_val b_len b_neqT b_neqU b_neqF b_stackGoal b_stackFrame b_buf b_bufLen b_tmp b_base b_baseLen b_num b_relevant b_implies b_keptAt) : wpX_advance (fun r u' => wpY_advance (fun r' v' => r' = r ∧ i_Rel k u' v') (g_maxLevel, g_maxCalls, g_maxSize, g_terms, g_goals, g_searching, g_query, g_read, g_level, g_frames, g_neqs, g_numbered, g_kept, b_termToken, b_termLen, b_kind, b_goalSize, b_part, b_relation, b_outcome, b_val, b_len, b_neqT, b_neqU, b_neqF, b_stackGoal, b_stackFrame, b_buf, b_bufLen, b_tmp, b_base, b_baseLen, b_num, b_relevant, b_implies, b_keptAt)) (f_kindSymbol, f_kindSlot, f_kindPair, f_goalEq, f_goalNeq, f_goalBoth, f_goalEither, f_goalCall, f_goOn, f_outAnswer, f_outFailure, f_outCut, f_outPending, f_firstVariable, f_maxLevel, f_maxCalls, f_maxSize, f_termCount, f_goalCount, f_searching, f_queryGoal, f_queryWidth, f_levelNow, f_pendingCount, f_nextCount, f_answerCount, f_failureCount, f_cutCount, f_trailTop, f_callsDone, f_choicesLeft, f_neqCount, f_workTop, f_walkTop, f_loaded, f_numberedCount, f_endUnknownCount, f_constraintsReady, f_relevantMask, f_keptCount, a_termKind, a_termLeft, a_termRight, a_termSize, a_goalKind, a_goalFirst, a_goalSecond, a_goalThird, a_goalFourth, a_goalSize, a_relationGoal, a_pendingPath, a_nextPath, a_answerPath, a_link, a_trail, a_neqLeft, a_neqRight, a_workGoal, a_workFrame, a_stackA, a_stackB, a_walk, a_numberOf, a_numbered, a_endUnknown, a_implied, a_kept, a_sightings, a_lastSeen) := by
  have hR := h
  obtain ⟨T, G, gc, ml, hW, hX, hY, hS⟩ := h
  obtain rfl := hX.1
  obtain rfl := hX.2.1
  obtain rfl := hX.2.2.1
  obtain rfl := hY.1
  obtain rfl := hY.2.1
  obtain rfl := hY.2.2.1
  have hgc := hW.2.2.2.1
  have htc := hW.2.2.1
  have hml := hW.2.1
  obtain ⟨rfl, hS⟩ := hS
  rcases hS with rfl | ⟨rfl, q, wd, lv, oc, hSS, hLO⟩
  · exact br_t rfl (br_t rfl ⟨rfl, hR⟩)
  · obtain ⟨hq, w1, w2, hlv, hOC, rfl, rfl, rfl, rfl, rfl, rfl, rfl, hpp, hans, rfl, rfl, rfl, hO⟩ := hSS
    have hpl : (rs_pd oc lv).length ≤ 128 := by
      have h1 := (rs_pow_le (lv := lv) (by omega)).1
      have h2 := List.length_filter_le (fun p => decide (oc p = 4)) (rs_iv (2 ^ lv) (2 ^ lv))
      rw [← rs_pd_eq hOC (by omega), rs_iv_len] at h2
      omega
    have hY0 : ∀ post : Int32 → Prop, post (nI (rs_pd oc lv).length) → wpY_pending post (nI ml, nI G.2.2.2.2.2.2.2.1, nI G.2.2.2.2.2.2.2.2, g_terms, g_goals, 1, nI q, nI wd, nI lv, g_frames, g_neqs, g_numbered, g_kept, b_termToken, b_termLen, b_kind, b_goalSize, b_part, b_relation, b_outcome, b_val, b_len, b_neqT, b_neqU, b_neqF, b_stackGoal, b_stackFrame, b_buf, b_bufLen, b_tmp, b_base, b_baseLen, b_num, b_relevant, b_implies, b_keptAt) := by
      intro post hp
      refine br_f (by decide) ?_
      rw [rs_shl1 lv (by omega)]
      have h1 := (rs_pow_le (lv := lv) (by omega)).1
      exact yw_count (w := 4) (lo := 2 ^ lv) hO (fun p hp => rs_OC_le hOC hp) (by omega) (by omega) (by rw [rs_ct_pd (by omega)]; exact hp)
    refine br_f (by decide) ?_
    by_cases h0 : (rs_pd oc lv).length = 0
    · refine br_t (by rw [h0]; rfl) (br_f (by decide) (hY0 _ (br_t (by rw [h0]; rfl) ⟨rfl, hR⟩)))
    · refine br_f (nI_ne0 (by omega) (by omega)) ?_
      by_cases hl : lv < ml
      · refine br_t (nI_lt hl (by omega)) ⟨(rs_pd oc lv).length + 1, ?_⟩
        obtain ⟨hp1, hp2⟩ := rs_pow_le (lv := lv) (by omega)
        have e2 : 2 ^ (lv + 1) = 2 * 2 ^ lv := by rw [Nat.pow_succ]; omega
        have e3 : 2 ^ (lv + 2) = 2 ^ (lv + 1) + 2 ^ (lv + 1) := by rw [Nat.pow_succ]; omega
        obtain ⟨hp3, hp4⟩ := rs_pow_le (lv := lv + 1) (by omega)
        have hpm : ∀ x, x ∈ rs_pd oc lv → 1 ≤ x ∧ x < 128 := by
          intro x hx
          rw [rs_pd_eq hOC (by omega)] at hx
          have := rs_iv_mem.mp (List.mem_filter.mp hx).1
          omega
        have hL1 : (rs_sel oc 1).length + 2 * (rs_pd oc lv).length ≤ 256 := by
          have h2 := List.length_filter_le (fun p => decide (oc p = 1)) (rs_iv 0 (2 ^ (lv + 1)))
          rw [← rs_sel_eq hOC (by omega) (by omega), rs_iv_len] at h2
          have h3 := List.length_filter_le (fun p => decide (oc p = 4)) (rs_iv (2 ^ lv) (2 ^ lv))
          rw [← rs_pd_eq hOC (by omega), rs_iv_len] at h3
          omega
        have l2 := rs_sel_len oc 2
        have l3 := rs_sel_len oc 3
        refine xw_advance_51 (LA := rs_sel oc 1) (fl := (rs_sel oc 2).length) (ct := (rs_sel oc 3).length) hX.2.2.2.2.2.1 hX.2.2.2.2.2.2.2.1 hW.2.2.2.2.2 htc hgc rfl rfl hq hpm hL1 (by omega) (by omega) hpp ?_ (rs_pd oc lv) [] _ _ _ _ _ _ _ _ _ _ _ _ _ _ _ _ _ _ _ _ _ _ rfl (by omega) ⟨by rw [show rs_kids [] = [] from rfl]; exact congrArg nI (by rw [List.length_append]; rfl), rfl, rfl, rfl, by rw [show rs_ff T.2.2.2.1 G q 1 (rs_kids []) = [] from rfl, List.append_nil]; exact hans, rs_A_nil⟩
        intro f_answerCount f_failureCount f_cutCount f_nextCount a_answerPath a_nextPath a_pendingPath f_trailTop f_callsDone f_choicesLeft f_neqCount f_workTop f_walkTop a_link a_trail a_neqLeft a_neqRight a_workGoal a_workFrame a_stackA a_stackB a_walk hSE hpp'
        obtain ⟨rfl, rfl, rfl, rfl, hA, hN⟩ := hSE
        refine br_f (by decide) (hY0 _ (br_f (nI_ne0 (by omega) (by omega)) (br_t (nI_lt hl (by omega)) (nm_r (nI_1 lv) ?_))))
        rw [rs_shl1 (lv + 1) (by omega)]
        refine nm_e ⟨2 ^ (lv + 1) + 1, ?_⟩
        refine yw_advance_51 hY.2.2.2.2.2.1 hY.2.2.2.2.2.2.1 hW.2.2.2.2.2 htc hgc rfl rfl hq hOC (by omega) ?_ (2 ^ (lv + 1)) (2 ^ (lv + 1)) b_outcome _ _ _ _ _ _ _ _ _ _ _ _ (by omega) (Nat.le_refl _) ?_
        · intro b_outcome g_frames g_neqs b_val b_len b_neqT b_neqU b_neqF b_stackGoal b_stackFrame b_buf b_bufLen b_tmp hO'
          refine ⟨?_, ?_⟩
          · rw [rs_ct_s hOC (by omega), pk_sub (by rw [List.length_append]; omega), List.length_append, Nat.add_sub_cancel_left]
            rfl
          · refine ⟨T, G, gc, ml, hW, hX, hY, rfl, Or.inr ⟨rfl, q, wd, lv + 1, _, ⟨hq, w1, w2, hl, rs_OC_s hOC (by omega), rfl, rfl, rfl, ?_, ?_, ?_, ?_, ?_, ?_, rfl, rfl, rfl, hO'⟩, Or.inl rfl⟩⟩
            · rw [rs_pd_s hOC (by omega)]; rfl
            · rw [rs_sel_s hOC (by omega) (by omega)]; rfl
            · exact congrArg nI (rs_sel_sl hOC (by omega) (w := 2) (by omega)).symm
            · exact congrArg nI (rs_sel_sl hOC (by omega) (w := 3) (by omega)).symm
            · rw [rs_pd_s hOC (by omega)]; exact hpp'
            · rw [rs_sel_s hOC (by omega) (by omega)]; exact hA
        · intro p' hp'
          rw [hO p' hp']
          by_cases z : p' < 2 ^ (lv + 1)
          · rw [if_pos z]
            congr 1
            exact (if_pos z).symm
          · rw [if_neg z]
      · exact br_f (nI_nlt (by omega) (by omega)) (br_f (by decide) (hY0 _ (br_f (nI_ne0 (by omega) (by omega)) (br_f (nI_nlt (by omega) (by omega)) ⟨rfl, hR⟩))))
theorem vc_level (h : rs_REL f_kindSymbol f_kindSlot f_kindPair f_goalEq f_goalNeq f_goalBoth f_goalEither f_goalCall f_goOn f_outAnswer f_outFailure f_outCut f_outPending f_firstVariable f_maxLevel f_maxCalls f_maxSize f_termCount f_goalCount f_searching f_queryGoal f_queryWidth f_levelNow f_pendingCount f_nextCount f_answerCount f_failureCount f_cutCount f_trailTop f_callsDone f_choicesLeft f_neqCount f_workTop f_walkTop f_loaded f_numberedCount f_endUnknownCount f_constraintsReady f_relevantMask f_keptCount a_termKind a_termLeft a_termRight a_termSize a_goalKind a_goalFirst a_goalSecond a_goalThird a_goalFourth a_goalSize a_relationGoal a_pendingPath a_nextPath a_answerPath a_link a_trail a_neqLeft a_neqRight a_workGoal a_workFrame a_stackA a_stackB a_walk a_numberOf a_numbered a_endUnknown a_implied a_kept a_sightings a_lastSeen g_maxLevel g_maxCalls g_maxSize g_terms g_goals g_searching g_query g_read g_level g_frames g_neqs g_numbered g_kept b_termToken b_termLen b_kind b_goalSize b_part b_relation b_outcome b_val b_len b_neqT b_neqU b_neqF b_stackGoal b_stackFrame b_buf b_bufLen b_tmp b_base b_baseLen b_num b_relevant b_implies b_keptAt) : wpX_level (fun r => wpY_level (fun r' => r' = r ∧ i_Rel k (f_kindSymbol, f_kindSlot, f_kindPair, f_goalEq, f_goalNeq, f_goalBoth, f_goalEither, f_goalCall, f_goOn, f_outAnswer, f_outFailure, f_outCut, f_outPending, f_firstVariable, f_maxLevel, f_maxCalls, f_maxSize, f_termCount, f_goalCount, f_searching, f_queryGoal, f_queryWidth, f_levelNow, f_pendingCount, f_nextCount, f_answerCount, f_failureCount, f_cutCount, f_trailTop, f_callsDone, f_choicesLeft, f_neqCount, f_workTop, f_walkTop, f_loaded, f_numberedCount, f_endUnknownCount, f_constraintsReady, f_relevantMask, f_keptCount, a_termKind, a_termLeft, a_termRight, a_termSize, a_goalKind, a_goalFirst, a_goalSecond, a_goalThird, a_goalFourth, a_goalSize, a_relationGoal, a_pendingPath, a_nextPath, a_answerPath, a_link, a_trail, a_neqLeft, a_neqRight, a_workGoal, a_workFrame, a_stackA, a_stackB, a_walk, a_numberOf, a_numbered, a_endUnknown, a_implied, a_kept, a_sightings, a_lastSeen) (g_maxLevel, g_maxCalls, g_maxSize, g_terms, g_goals, g_searching, g_query, g_read, g_level, g_frames, g_neqs, g_numbered, g_kept, b_termToken, b_termLen, b_kind, b_goalSize, b_part, b_relation, b_outcome, b_val, b_len, b_neqT, b_neqU, b_neqF, b_stackGoal, b_stackFrame, b_buf, b_bufLen, b_tmp, b_base, b_baseLen, b_num, b_relevant, b_implies, b_keptAt)) (g_maxLevel, g_maxCalls, g_maxSize, g_terms, g_goals, g_searching, g_query, g_read, g_level, g_frames, g_neqs, g_numbered, g_kept, b_termToken, b_termLen, b_kind, b_goalSize, b_part, b_relation, b_outcome, b_val, b_len, b_neqT, b_neqU, b_neqF, b_stackGoal, b_stackFrame, b_buf, b_bufLen, b_tmp, b_base, b_baseLen, b_num, b_relevant, b_implies, b_keptAt)) (f_kindSymbol, f_kindSlot, f_kindPair, f_goalEq, f_goalNeq, f_goalBoth, f_goalEither, f_goalCall, f_goOn, f_outAnswer, f_outFailure, f_outCut, f_outPending, f_firstVariable, f_maxLevel, f_maxCalls, f_maxSize, f_termCount, f_goalCount, f_searching, f_queryGoal, f_queryWidth, f_levelNow, f_pendingCount, f_nextCount, f_answerCount, f_failureCount, f_cutCount, f_trailTop, f_callsDone, f_choicesLeft, f_neqCount, f_workTop, f_walkTop, f_loaded, f_numberedCount, f_endUnknownCount, f_constraintsReady, f_relevantMask, f_keptCount, a_termKind, a_termLeft, a_termRight, a_termSize, a_goalKind, a_goalFirst, a_goalSecond, a_goalThird, a_goalFourth, a_goalSize, a_relationGoal, a_pendingPath, a_nextPath, a_answerPath, a_link, a_trail, a_neqLeft, a_neqRight, a_workGoal, a_workFrame, a_stackA, a_stackB, a_walk, a_numberOf, a_numbered, a_endUnknown, a_implied, a_kept, a_sightings, a_lastSeen) := by
  have hR := h
  obtain ⟨T, G, gc, ml, hW, hX, hY, hS⟩ := h
  obtain ⟨rfl, hS⟩ := hS
  rcases hS with rfl | ⟨rfl, q, wd, lv, oc, hSS, hLO⟩
  · exact br_t rfl (br_t rfl ⟨rfl, hR⟩)
  · obtain ⟨hq, w1, w2, hlv, hOC, rfl, rfl, rfl, rfl, rfl, rfl, rfl, hpp, hans, rfl, rfl, rfl, hO⟩ := hSS
    exact br_f (by decide) (br_f (by decide) ⟨rfl, hR⟩)
theorem vc_pending (h : rs_REL f_kindSymbol f_kindSlot f_kindPair f_goalEq f_goalNeq f_goalBoth f_goalEither f_goalCall f_goOn f_outAnswer f_outFailure f_outCut f_outPending f_firstVariable f_maxLevel f_maxCalls f_maxSize f_termCount f_goalCount f_searching f_queryGoal f_queryWidth f_levelNow f_pendingCount f_nextCount f_answerCount f_failureCount f_cutCount f_trailTop f_callsDone f_choicesLeft f_neqCount f_workTop f_walkTop f_loaded f_numberedCount f_endUnknownCount f_constraintsReady f_relevantMask f_keptCount a_termKind a_termLeft a_termRight a_termSize a_goalKind a_goalFirst a_goalSecond a_goalThird a_goalFourth a_goalSize a_relationGoal a_pendingPath a_nextPath a_answerPath a_link a_trail a_neqLeft a_neqRight a_workGoal a_workFrame a_stackA a_stackB a_walk a_numberOf a_numbered a_endUnknown a_implied a_kept a_sightings a_lastSeen g_maxLevel g_maxCalls g_maxSize g_terms g_goals g_searching g_query g_read g_level g_frames g_neqs g_numbered g_kept b_termToken b_termLen b_kind b_goalSize b_part b_relation b_outcome b_val b_len b_neqT b_neqU b_neqF b_stackGoal b_stackFrame b_buf b_bufLen b_tmp b_base b_baseLen b_num b_relevant b_implies b_keptAt) : wpX_pending (fun r => wpY_pending (fun r' => r' = r ∧ i_Rel k (f_kindSymbol, f_kindSlot, f_kindPair, f_goalEq, f_goalNeq, f_goalBoth, f_goalEither, f_goalCall, f_goOn, f_outAnswer, f_outFailure, f_outCut, f_outPending, f_firstVariable, f_maxLevel, f_maxCalls, f_maxSize, f_termCount, f_goalCount, f_searching, f_queryGoal, f_queryWidth, f_levelNow, f_pendingCount, f_nextCount, f_answerCount, f_failureCount, f_cutCount, f_trailTop, f_callsDone, f_choicesLeft, f_neqCount, f_workTop, f_walkTop, f_loaded, f_numberedCount, f_endUnknownCount, f_constraintsReady, f_relevantMask, f_keptCount, a_termKind, a_termLeft, a_termRight, a_termSize, a_goalKind, a_goalFirst, a_goalSecond, a_goalThird, a_goalFourth, a_goalSize, a_relationGoal, a_pendingPath, a_nextPath, a_answerPath, a_link, a_trail, a_neqLeft, a_neqRight, a_workGoal, a_workFrame, a_stackA, a_stackB, a_walk, a_numberOf, a_numbered, a_endUnknown, a_implied, a_kept, a_sightings, a_lastSeen) (g_maxLevel, g_maxCalls, g_maxSize, g_terms, g_goals, g_searching, g_query, g_read, g_level, g_frames, g_neqs, g_numbered, g_kept, b_termToken, b_termLen, b_kind, b_goalSize, b_part, b_relation, b_outcome, b_val, b_len, b_neqT, b_neqU, b_neqF, b_stackGoal, b_stackFrame, b_buf, b_bufLen, b_tmp, b_base, b_baseLen, b_num, b_relevant, b_implies, b_keptAt)) (g_maxLevel, g_maxCalls, g_maxSize, g_terms, g_goals, g_searching, g_query, g_read, g_level, g_frames, g_neqs, g_numbered, g_kept, b_termToken, b_termLen, b_kind, b_goalSize, b_part, b_relation, b_outcome, b_val, b_len, b_neqT, b_neqU, b_neqF, b_stackGoal, b_stackFrame, b_buf, b_bufLen, b_tmp, b_base, b_baseLen, b_num, b_relevant, b_implies, b_keptAt)) (f_kindSymbol, f_kindSlot, f_kindPair, f_goalEq, f_goalNeq, f_goalBoth, f_goalEither, f_goalCall, f_goOn, f_outAnswer, f_outFailure, f_outCut, f_outPending, f_firstVariable, f_maxLevel, f_maxCalls, f_maxSize, f_termCount, f_goalCount, f_searching, f_queryGoal, f_queryWidth, f_levelNow, f_pendingCount, f_nextCount, f_answerCount, f_failureCount, f_cutCount, f_trailTop, f_callsDone, f_choicesLeft, f_neqCount, f_workTop, f_walkTop, f_loaded, f_numberedCount, f_endUnknownCount, f_constraintsReady, f_relevantMask, f_keptCount, a_termKind, a_termLeft, a_termRight, a_termSize, a_goalKind, a_goalFirst, a_goalSecond, a_goalThird, a_goalFourth, a_goalSize, a_relationGoal, a_pendingPath, a_nextPath, a_answerPath, a_link, a_trail, a_neqLeft, a_neqRight, a_workGoal, a_workFrame, a_stackA, a_stackB, a_walk, a_numberOf, a_numbered, a_endUnknown, a_implied, a_kept, a_sightings, a_lastSeen) := by
  have hR := h
  obtain ⟨T, G, gc, ml, hW, hX, hY, hS⟩ := h
  have hml := hW.2.1
  obtain ⟨rfl, hS⟩ := hS
  rcases hS with rfl | ⟨rfl, q, wd, lv, oc, hSS, hLO⟩
  · exact br_t rfl (br_t rfl ⟨rfl, hR⟩)
  · obtain ⟨hq, w1, w2, hlv, hOC, rfl, rfl, rfl, rfl, rfl, rfl, rfl, hpp, hans, rfl, rfl, rfl, hO⟩ := hSS
    refine br_f (by decide) (br_f (by decide) ?_)
    rw [rs_shl1 lv (by omega)]
    have h1 := (rs_pow_le (lv := lv) (by omega)).1
    exact yw_count (w := 4) (lo := 2 ^ lv) hO (fun p hp => rs_OC_le hOC hp) (by omega) (by omega) ⟨by rw [rs_ct_pd (by omega)], hR⟩
theorem vc_answers (h : rs_REL f_kindSymbol f_kindSlot f_kindPair f_goalEq f_goalNeq f_goalBoth f_goalEither f_goalCall f_goOn f_outAnswer f_outFailure f_outCut f_outPending f_firstVariable f_maxLevel f_maxCalls f_maxSize f_termCount f_goalCount f_searching f_queryGoal f_queryWidth f_levelNow f_pendingCount f_nextCount f_answerCount f_failureCount f_cutCount f_trailTop f_callsDone f_choicesLeft f_neqCount f_workTop f_walkTop f_loaded f_numberedCount f_endUnknownCount f_constraintsReady f_relevantMask f_keptCount a_termKind a_termLeft a_termRight a_termSize a_goalKind a_goalFirst a_goalSecond a_goalThird a_goalFourth a_goalSize a_relationGoal a_pendingPath a_nextPath a_answerPath a_link a_trail a_neqLeft a_neqRight a_workGoal a_workFrame a_stackA a_stackB a_walk a_numberOf a_numbered a_endUnknown a_implied a_kept a_sightings a_lastSeen g_maxLevel g_maxCalls g_maxSize g_terms g_goals g_searching g_query g_read g_level g_frames g_neqs g_numbered g_kept b_termToken b_termLen b_kind b_goalSize b_part b_relation b_outcome b_val b_len b_neqT b_neqU b_neqF b_stackGoal b_stackFrame b_buf b_bufLen b_tmp b_base b_baseLen b_num b_relevant b_implies b_keptAt) : wpX_answers (fun r => wpY_answers (fun r' => r' = r ∧ i_Rel k (f_kindSymbol, f_kindSlot, f_kindPair, f_goalEq, f_goalNeq, f_goalBoth, f_goalEither, f_goalCall, f_goOn, f_outAnswer, f_outFailure, f_outCut, f_outPending, f_firstVariable, f_maxLevel, f_maxCalls, f_maxSize, f_termCount, f_goalCount, f_searching, f_queryGoal, f_queryWidth, f_levelNow, f_pendingCount, f_nextCount, f_answerCount, f_failureCount, f_cutCount, f_trailTop, f_callsDone, f_choicesLeft, f_neqCount, f_workTop, f_walkTop, f_loaded, f_numberedCount, f_endUnknownCount, f_constraintsReady, f_relevantMask, f_keptCount, a_termKind, a_termLeft, a_termRight, a_termSize, a_goalKind, a_goalFirst, a_goalSecond, a_goalThird, a_goalFourth, a_goalSize, a_relationGoal, a_pendingPath, a_nextPath, a_answerPath, a_link, a_trail, a_neqLeft, a_neqRight, a_workGoal, a_workFrame, a_stackA, a_stackB, a_walk, a_numberOf, a_numbered, a_endUnknown, a_implied, a_kept, a_sightings, a_lastSeen) (g_maxLevel, g_maxCalls, g_maxSize, g_terms, g_goals, g_searching, g_query, g_read, g_level, g_frames, g_neqs, g_numbered, g_kept, b_termToken, b_termLen, b_kind, b_goalSize, b_part, b_relation, b_outcome, b_val, b_len, b_neqT, b_neqU, b_neqF, b_stackGoal, b_stackFrame, b_buf, b_bufLen, b_tmp, b_base, b_baseLen, b_num, b_relevant, b_implies, b_keptAt)) (g_maxLevel, g_maxCalls, g_maxSize, g_terms, g_goals, g_searching, g_query, g_read, g_level, g_frames, g_neqs, g_numbered, g_kept, b_termToken, b_termLen, b_kind, b_goalSize, b_part, b_relation, b_outcome, b_val, b_len, b_neqT, b_neqU, b_neqF, b_stackGoal, b_stackFrame, b_buf, b_bufLen, b_tmp, b_base, b_baseLen, b_num, b_relevant, b_implies, b_keptAt)) (f_kindSymbol, f_kindSlot, f_kindPair, f_goalEq, f_goalNeq, f_goalBoth, f_goalEither, f_goalCall, f_goOn, f_outAnswer, f_outFailure, f_outCut, f_outPending, f_firstVariable, f_maxLevel, f_maxCalls, f_maxSize, f_termCount, f_goalCount, f_searching, f_queryGoal, f_queryWidth, f_levelNow, f_pendingCount, f_nextCount, f_answerCount, f_failureCount, f_cutCount, f_trailTop, f_callsDone, f_choicesLeft, f_neqCount, f_workTop, f_walkTop, f_loaded, f_numberedCount, f_endUnknownCount, f_constraintsReady, f_relevantMask, f_keptCount, a_termKind, a_termLeft, a_termRight, a_termSize, a_goalKind, a_goalFirst, a_goalSecond, a_goalThird, a_goalFourth, a_goalSize, a_relationGoal, a_pendingPath, a_nextPath, a_answerPath, a_link, a_trail, a_neqLeft, a_neqRight, a_workGoal, a_workFrame, a_stackA, a_stackB, a_walk, a_numberOf, a_numbered, a_endUnknown, a_implied, a_kept, a_sightings, a_lastSeen) := by
  have hR := h
  obtain ⟨T, G, gc, ml, hW, hX, hY, hS⟩ := h
  obtain ⟨rfl, hS⟩ := hS
  rcases hS with rfl | ⟨rfl, q, wd, lv, oc, hSS, hLO⟩
  · exact br_t rfl (br_t rfl ⟨rfl, hR⟩)
  · obtain ⟨hq, w1, w2, hlv, hOC, rfl, rfl, rfl, rfl, rfl, rfl, rfl, hpp, hans, rfl, rfl, rfl, hO⟩ := hSS
    refine br_f (by decide) (br_f (by decide) ?_)
    exact yw_count (w := 1) (lo := 1) hO (fun p hp => rs_OC_le hOC hp) (by omega) (by omega) ⟨by rw [rs_ct_sel hOC.1 (by omega)], hR⟩
theorem vc_failures (h : rs_REL f_kindSymbol f_kindSlot f_kindPair f_goalEq f_goalNeq f_goalBoth f_goalEither f_goalCall f_goOn f_outAnswer f_outFailure f_outCut f_outPending f_firstVariable f_maxLevel f_maxCalls f_maxSize f_termCount f_goalCount f_searching f_queryGoal f_queryWidth f_levelNow f_pendingCount f_nextCount f_answerCount f_failureCount f_cutCount f_trailTop f_callsDone f_choicesLeft f_neqCount f_workTop f_walkTop f_loaded f_numberedCount f_endUnknownCount f_constraintsReady f_relevantMask f_keptCount a_termKind a_termLeft a_termRight a_termSize a_goalKind a_goalFirst a_goalSecond a_goalThird a_goalFourth a_goalSize a_relationGoal a_pendingPath a_nextPath a_answerPath a_link a_trail a_neqLeft a_neqRight a_workGoal a_workFrame a_stackA a_stackB a_walk a_numberOf a_numbered a_endUnknown a_implied a_kept a_sightings a_lastSeen g_maxLevel g_maxCalls g_maxSize g_terms g_goals g_searching g_query g_read g_level g_frames g_neqs g_numbered g_kept b_termToken b_termLen b_kind b_goalSize b_part b_relation b_outcome b_val b_len b_neqT b_neqU b_neqF b_stackGoal b_stackFrame b_buf b_bufLen b_tmp b_base b_baseLen b_num b_relevant b_implies b_keptAt) : wpX_failures (fun r => wpY_failures (fun r' => r' = r ∧ i_Rel k (f_kindSymbol, f_kindSlot, f_kindPair, f_goalEq, f_goalNeq, f_goalBoth, f_goalEither, f_goalCall, f_goOn, f_outAnswer, f_outFailure, f_outCut, f_outPending, f_firstVariable, f_maxLevel, f_maxCalls, f_maxSize, f_termCount, f_goalCount, f_searching, f_queryGoal, f_queryWidth, f_levelNow, f_pendingCount, f_nextCount, f_answerCount, f_failureCount, f_cutCount, f_trailTop, f_callsDone, f_choicesLeft, f_neqCount, f_workTop, f_walkTop, f_loaded, f_numberedCount, f_endUnknownCount, f_constraintsReady, f_relevantMask, f_keptCount, a_termKind, a_termLeft, a_termRight, a_termSize, a_goalKind, a_goalFirst, a_goalSecond, a_goalThird, a_goalFourth, a_goalSize, a_relationGoal, a_pendingPath, a_nextPath, a_answerPath, a_link, a_trail, a_neqLeft, a_neqRight, a_workGoal, a_workFrame, a_stackA, a_stackB, a_walk, a_numberOf, a_numbered, a_endUnknown, a_implied, a_kept, a_sightings, a_lastSeen) (g_maxLevel, g_maxCalls, g_maxSize, g_terms, g_goals, g_searching, g_query, g_read, g_level, g_frames, g_neqs, g_numbered, g_kept, b_termToken, b_termLen, b_kind, b_goalSize, b_part, b_relation, b_outcome, b_val, b_len, b_neqT, b_neqU, b_neqF, b_stackGoal, b_stackFrame, b_buf, b_bufLen, b_tmp, b_base, b_baseLen, b_num, b_relevant, b_implies, b_keptAt)) (g_maxLevel, g_maxCalls, g_maxSize, g_terms, g_goals, g_searching, g_query, g_read, g_level, g_frames, g_neqs, g_numbered, g_kept, b_termToken, b_termLen, b_kind, b_goalSize, b_part, b_relation, b_outcome, b_val, b_len, b_neqT, b_neqU, b_neqF, b_stackGoal, b_stackFrame, b_buf, b_bufLen, b_tmp, b_base, b_baseLen, b_num, b_relevant, b_implies, b_keptAt)) (f_kindSymbol, f_kindSlot, f_kindPair, f_goalEq, f_goalNeq, f_goalBoth, f_goalEither, f_goalCall, f_goOn, f_outAnswer, f_outFailure, f_outCut, f_outPending, f_firstVariable, f_maxLevel, f_maxCalls, f_maxSize, f_termCount, f_goalCount, f_searching, f_queryGoal, f_queryWidth, f_levelNow, f_pendingCount, f_nextCount, f_answerCount, f_failureCount, f_cutCount, f_trailTop, f_callsDone, f_choicesLeft, f_neqCount, f_workTop, f_walkTop, f_loaded, f_numberedCount, f_endUnknownCount, f_constraintsReady, f_relevantMask, f_keptCount, a_termKind, a_termLeft, a_termRight, a_termSize, a_goalKind, a_goalFirst, a_goalSecond, a_goalThird, a_goalFourth, a_goalSize, a_relationGoal, a_pendingPath, a_nextPath, a_answerPath, a_link, a_trail, a_neqLeft, a_neqRight, a_workGoal, a_workFrame, a_stackA, a_stackB, a_walk, a_numberOf, a_numbered, a_endUnknown, a_implied, a_kept, a_sightings, a_lastSeen) := by
  have hR := h
  obtain ⟨T, G, gc, ml, hW, hX, hY, hS⟩ := h
  obtain ⟨rfl, hS⟩ := hS
  rcases hS with rfl | ⟨rfl, q, wd, lv, oc, hSS, hLO⟩
  · exact br_t rfl (br_t rfl ⟨rfl, hR⟩)
  · obtain ⟨hq, w1, w2, hlv, hOC, rfl, rfl, rfl, rfl, rfl, rfl, rfl, hpp, hans, rfl, rfl, rfl, hO⟩ := hSS
    refine br_f (by decide) (br_f (by decide) ?_)
    exact yw_count (w := 2) (lo := 1) hO (fun p hp => rs_OC_le hOC hp) (by omega) (by omega) ⟨by rw [rs_ct_sel hOC.1 (by omega)], hR⟩
theorem vc_cuts (h : rs_REL f_kindSymbol f_kindSlot f_kindPair f_goalEq f_goalNeq f_goalBoth f_goalEither f_goalCall f_goOn f_outAnswer f_outFailure f_outCut f_outPending f_firstVariable f_maxLevel f_maxCalls f_maxSize f_termCount f_goalCount f_searching f_queryGoal f_queryWidth f_levelNow f_pendingCount f_nextCount f_answerCount f_failureCount f_cutCount f_trailTop f_callsDone f_choicesLeft f_neqCount f_workTop f_walkTop f_loaded f_numberedCount f_endUnknownCount f_constraintsReady f_relevantMask f_keptCount a_termKind a_termLeft a_termRight a_termSize a_goalKind a_goalFirst a_goalSecond a_goalThird a_goalFourth a_goalSize a_relationGoal a_pendingPath a_nextPath a_answerPath a_link a_trail a_neqLeft a_neqRight a_workGoal a_workFrame a_stackA a_stackB a_walk a_numberOf a_numbered a_endUnknown a_implied a_kept a_sightings a_lastSeen g_maxLevel g_maxCalls g_maxSize g_terms g_goals g_searching g_query g_read g_level g_frames g_neqs g_numbered g_kept b_termToken b_termLen b_kind b_goalSize b_part b_relation b_outcome b_val b_len b_neqT b_neqU b_neqF b_stackGoal b_stackFrame b_buf b_bufLen b_tmp b_base b_baseLen b_num b_relevant b_implies b_keptAt) : wpX_cuts (fun r => wpY_cuts (fun r' => r' = r ∧ i_Rel k (f_kindSymbol, f_kindSlot, f_kindPair, f_goalEq, f_goalNeq, f_goalBoth, f_goalEither, f_goalCall, f_goOn, f_outAnswer, f_outFailure, f_outCut, f_outPending, f_firstVariable, f_maxLevel, f_maxCalls, f_maxSize, f_termCount, f_goalCount, f_searching, f_queryGoal, f_queryWidth, f_levelNow, f_pendingCount, f_nextCount, f_answerCount, f_failureCount, f_cutCount, f_trailTop, f_callsDone, f_choicesLeft, f_neqCount, f_workTop, f_walkTop, f_loaded, f_numberedCount, f_endUnknownCount, f_constraintsReady, f_relevantMask, f_keptCount, a_termKind, a_termLeft, a_termRight, a_termSize, a_goalKind, a_goalFirst, a_goalSecond, a_goalThird, a_goalFourth, a_goalSize, a_relationGoal, a_pendingPath, a_nextPath, a_answerPath, a_link, a_trail, a_neqLeft, a_neqRight, a_workGoal, a_workFrame, a_stackA, a_stackB, a_walk, a_numberOf, a_numbered, a_endUnknown, a_implied, a_kept, a_sightings, a_lastSeen) (g_maxLevel, g_maxCalls, g_maxSize, g_terms, g_goals, g_searching, g_query, g_read, g_level, g_frames, g_neqs, g_numbered, g_kept, b_termToken, b_termLen, b_kind, b_goalSize, b_part, b_relation, b_outcome, b_val, b_len, b_neqT, b_neqU, b_neqF, b_stackGoal, b_stackFrame, b_buf, b_bufLen, b_tmp, b_base, b_baseLen, b_num, b_relevant, b_implies, b_keptAt)) (g_maxLevel, g_maxCalls, g_maxSize, g_terms, g_goals, g_searching, g_query, g_read, g_level, g_frames, g_neqs, g_numbered, g_kept, b_termToken, b_termLen, b_kind, b_goalSize, b_part, b_relation, b_outcome, b_val, b_len, b_neqT, b_neqU, b_neqF, b_stackGoal, b_stackFrame, b_buf, b_bufLen, b_tmp, b_base, b_baseLen, b_num, b_relevant, b_implies, b_keptAt)) (f_kindSymbol, f_kindSlot, f_kindPair, f_goalEq, f_goalNeq, f_goalBoth, f_goalEither, f_goalCall, f_goOn, f_outAnswer, f_outFailure, f_outCut, f_outPending, f_firstVariable, f_maxLevel, f_maxCalls, f_maxSize, f_termCount, f_goalCount, f_searching, f_queryGoal, f_queryWidth, f_levelNow, f_pendingCount, f_nextCount, f_answerCount, f_failureCount, f_cutCount, f_trailTop, f_callsDone, f_choicesLeft, f_neqCount, f_workTop, f_walkTop, f_loaded, f_numberedCount, f_endUnknownCount, f_constraintsReady, f_relevantMask, f_keptCount, a_termKind, a_termLeft, a_termRight, a_termSize, a_goalKind, a_goalFirst, a_goalSecond, a_goalThird, a_goalFourth, a_goalSize, a_relationGoal, a_pendingPath, a_nextPath, a_answerPath, a_link, a_trail, a_neqLeft, a_neqRight, a_workGoal, a_workFrame, a_stackA, a_stackB, a_walk, a_numberOf, a_numbered, a_endUnknown, a_implied, a_kept, a_sightings, a_lastSeen) := by
  have hR := h
  obtain ⟨T, G, gc, ml, hW, hX, hY, hS⟩ := h
  obtain ⟨rfl, hS⟩ := hS
  rcases hS with rfl | ⟨rfl, q, wd, lv, oc, hSS, hLO⟩
  · exact br_t rfl (br_t rfl ⟨rfl, hR⟩)
  · obtain ⟨hq, w1, w2, hlv, hOC, rfl, rfl, rfl, rfl, rfl, rfl, rfl, hpp, hans, rfl, rfl, rfl, hO⟩ := hSS
    refine br_f (by decide) (br_f (by decide) ?_)
    exact yw_count (w := 3) (lo := 1) hO (fun p hp => rs_OC_le hOC hp) (by omega) (by omega) ⟨by rw [rs_ct_sel hOC.1 (by omega)], hR⟩
theorem xw_check_1 {post : Int32 → Prop} {n j : Nat} (hj : j < n) (hn : n ≤ 256) (h : post 0) : wpX_checkAnswer post (f_kindSymbol, f_kindSlot, f_kindPair, f_goalEq, f_goalNeq, f_goalBoth, f_goalEither, f_goalCall, f_goOn, f_outAnswer, f_outFailure, f_outCut, f_outPending, f_firstVariable, f_maxLevel, f_maxCalls, f_maxSize, f_termCount, f_goalCount, 1, f_queryGoal, f_queryWidth, f_levelNow, f_pendingCount, f_nextCount, nI n, f_failureCount, f_cutCount, f_trailTop, f_callsDone, f_choicesLeft, f_neqCount, f_workTop, f_walkTop, f_loaded, f_numberedCount, f_endUnknownCount, f_constraintsReady, f_relevantMask, f_keptCount, a_termKind, a_termLeft, a_termRight, a_termSize, a_goalKind, a_goalFirst, a_goalSecond, a_goalThird, a_goalFourth, a_goalSize, a_relationGoal, a_pendingPath, a_nextPath, a_answerPath, a_link, a_trail, a_neqLeft, a_neqRight, a_workGoal, a_workFrame, a_stackA, a_stackB, a_walk, a_numberOf, a_numbered, a_endUnknown, a_implied, a_kept, a_sightings, a_lastSeen) (nI j) := br_f (by decide) (br_f (nI_pos (by omega)) (br_t (nI_lt hj (by omega)) h))
theorem xw_check_0 {post : Int32 → Prop} {n : Nat} {v : Int32} (hv : v < 0 ∨ nI n ≤ v) (h : post (-1)) : wpX_checkAnswer post (f_kindSymbol, f_kindSlot, f_kindPair, f_goalEq, f_goalNeq, f_goalBoth, f_goalEither, f_goalCall, f_goOn, f_outAnswer, f_outFailure, f_outCut, f_outPending, f_firstVariable, f_maxLevel, f_maxCalls, f_maxSize, f_termCount, f_goalCount, 1, f_queryGoal, f_queryWidth, f_levelNow, f_pendingCount, f_nextCount, nI n, f_failureCount, f_cutCount, f_trailTop, f_callsDone, f_choicesLeft, f_neqCount, f_workTop, f_walkTop, f_loaded, f_numberedCount, f_endUnknownCount, f_constraintsReady, f_relevantMask, f_keptCount, a_termKind, a_termLeft, a_termRight, a_termSize, a_goalKind, a_goalFirst, a_goalSecond, a_goalThird, a_goalFourth, a_goalSize, a_relationGoal, a_pendingPath, a_nextPath, a_answerPath, a_link, a_trail, a_neqLeft, a_neqRight, a_workGoal, a_workFrame, a_stackA, a_stackB, a_walk, a_numberOf, a_numbered, a_endUnknown, a_implied, a_kept, a_sightings, a_lastSeen) v := br_f (by decide) (br_c (fun _ => h) (fun z => br_f (Int32.not_lt.mpr (hv.resolve_left z)) h))
/-- the k-th answer from p on -/
theorem yw_path_14 {post : Int32 → Prop} {oc : Nat → Nat} {x1 : Int32} (hO : ∀ p, p < 256 → b_outcome p = nI (oc p)) (hb : ∀ p, p < 256 → oc p ≤ 4) :
    ∀ (d p c : Nat), p + d = 256 → c ≤ p → (∀ j, j < ((rs_iv p d).filter (fun p => decide (oc p = 1))).length → x1 = nI (c + j) → post (nI (((rs_iv p d).filter (fun p => decide (oc p = 1))).getD j 0))) → ((∀ j, j < ((rs_iv p d).filter (fun p => decide (oc p = 1))).length → x1 ≠ nI (c + j)) → post (-1)) → wY_path_14 post x1 g_maxLevel g_maxCalls g_maxSize g_terms g_goals g_searching g_query g_read g_level g_frames g_neqs g_numbered g_kept b_termToken b_termLen b_kind b_goalSize b_part b_relation b_outcome b_val b_len b_neqT b_neqU b_neqF b_stackGoal b_stackFrame b_buf b_bufLen b_tmp b_base b_baseLen b_num b_relevant b_implies b_keptAt (d + 1) (nI c) (nI p) := by
  intro d
  induction d with
  | zero =>
    intro p c hp hc _ h0
    obtain rfl : p = 256 := by omega
    exact br_t (by decide) (h0 (fun j hj => absurd hj (Nat.not_lt_zero _)))
  | succ d ih =>
    intro p c hp hc h1 h0
    have hbp := hb p (by omega)
    refine br_f (nI_ge (b := 256) (by omega) (by decide)) ⟨vp_in_nI (by omega) (by decide), ?_⟩
    rw [nI_clamp (n := p) (by omega), hO p (by omega)]
    have e : rs_iv p (d + 1) = p :: rs_iv (p + 1) d := rfl
    rw [e] at h1 h0
    by_cases z : oc p = 1
    · rw [List.filter_cons_of_pos (by rw [z]; rfl)] at h1 h0
      refine br_t (by rw [z]; rfl) ?_
      by_cases y : x1 = nI c
      · exact br_t y.symm (h1 0 (by rw [List.length_cons]; omega) y)
      · refine br_f (fun w => y w.symm) (nm_r (nI_1 c) (nm_r (nI_1 p) (ih (p + 1) (c + 1) (by omega) (by omega) ?_ ?_)))
        · intro j hj hx
          have := h1 (j + 1) (by rw [List.length_cons]; omega) (by rw [hx]; congr 1; omega)
          exact this
        · intro hn
          refine h0 (fun j hj => ?_)
          cases j with
          | zero => exact y
          | succ j =>
            rw [List.length_cons] at hj
            have := hn j (by omega)
            rwa [show c + 1 + j = c + (j + 1) by omega] at this
    · rw [List.filter_cons_of_neg (by simpa using z)] at h1 h0
      exact br_f (fun y => z ((nI_eq (b := 1) (by omega) (by decide)).mp y)) (nm_r (nI_1 p) (ih (p + 1) c (by omega) (by omega) h1 h0))
theorem rs_sel_1 {oc : Nat → Nat} (h0 : oc 0 = 0) : rs_sel oc 1 = (rs_iv 1 255).filter (fun p => decide (oc p = 1)) := by
  unfold rs_sel
  show ((0 :: rs_iv 1 255).filter (fun p => decide (oc p = 1))) = _
  rw [List.filter_cons_of_neg]
  rw [h0]
  simp
theorem yw_path_1 {post : Int32 → Prop} {oc : Nat → Nat} {j : Nat} (h0 : oc 0 = 0) (hO : ∀ p, p < 256 → b_outcome p = nI (oc p)) (hb : ∀ p, p < 256 → oc p ≤ 4) (hj : j < (rs_sel oc 1).length) (h : post (nI ((rs_sel oc 1).getD j 0))) : wpY_path post (g_maxLevel, g_maxCalls, g_maxSize, g_terms, g_goals, 1, g_query, g_read, g_level, g_frames, g_neqs, g_numbered, g_kept, b_termToken, b_termLen, b_kind, b_goalSize, b_part, b_relation, b_outcome, b_val, b_len, b_neqT, b_neqU, b_neqF, b_stackGoal, b_stackFrame, b_buf, b_bufLen, b_tmp, b_base, b_baseLen, b_num, b_relevant, b_implies, b_keptAt) (nI j) := by
  have hl := rs_sel_len oc 1
  rw [rs_sel_1 h0] at hj h hl
  refine br_f (by decide) ⟨256, yw_path_14 hO hb 255 1 0 (by omega) (by omega) ?_ ?_⟩
  · intro i hi e
    rw [Nat.zero_add] at e
    have := (nI_eq (by omega) (by omega)).mp e
    rw [← this]; exact h
  · intro hn
    exact absurd (by rw [Nat.zero_add]) (hn j hj)
theorem yw_path_0 {post : Int32 → Prop} {oc : Nat → Nat} {v : Int32} (h0 : oc 0 = 0) (hO : ∀ p, p < 256 → b_outcome p = nI (oc p)) (hb : ∀ p, p < 256 → oc p ≤ 4) (hv : v < 0 ∨ nI (rs_sel oc 1).length ≤ v) (h : post (-1)) : wpY_path post (g_maxLevel, g_maxCalls, g_maxSize, g_terms, g_goals, 1, g_query, g_read, g_level, g_frames, g_neqs, g_numbered, g_kept, b_termToken, b_termLen, b_kind, b_goalSize, b_part, b_relation, b_outcome, b_val, b_len, b_neqT, b_neqU, b_neqF, b_stackGoal, b_stackFrame, b_buf, b_bufLen, b_tmp, b_base, b_baseLen, b_num, b_relevant, b_implies, b_keptAt) v := by
  have hl := rs_sel_len oc 1
  rw [rs_sel_1 h0] at hv hl
  refine br_f (by decide) ⟨256, yw_path_14 hO hb 255 1 0 (by omega) (by omega) ?_ (fun _ => h)⟩
  intro i hi e
  rw [Nat.zero_add] at e
  rw [e] at hv
  rcases hv with z | z
  · exact absurd z (nI_pos (by omega))
  · exact absurd z (nI_ge hi (by omega))
theorem vc_path (h : rs_REL f_kindSymbol f_kindSlot f_kindPair f_goalEq f_goalNeq f_goalBoth f_goalEither f_goalCall f_goOn f_outAnswer f_outFailure f_outCut f_outPending f_firstVariable f_maxLevel f_maxCalls f_maxSize f_termCount f_goalCount f_searching f_queryGoal f_queryWidth f_levelNow f_pendingCount f_nextCount f_answerCount f_failureCount f_cutCount f_trailTop f_callsDone f_choicesLeft f_neqCount f_workTop f_walkTop f_loaded f_numberedCount f_endUnknownCount f_constraintsReady f_relevantMask f_keptCount a_termKind a_termLeft a_termRight a_termSize a_goalKind a_goalFirst a_goalSecond a_goalThird a_goalFourth a_goalSize a_relationGoal a_pendingPath a_nextPath a_answerPath a_link a_trail a_neqLeft a_neqRight a_workGoal a_workFrame a_stackA a_stackB a_walk a_numberOf a_numbered a_endUnknown a_implied a_kept a_sightings a_lastSeen g_maxLevel g_maxCalls g_maxSize g_terms g_goals g_searching g_query g_read g_level g_frames g_neqs g_numbered g_kept b_termToken b_termLen b_kind b_goalSize b_part b_relation b_outcome b_val b_len b_neqT b_neqU b_neqF b_stackGoal b_stackFrame b_buf b_bufLen b_tmp b_base b_baseLen b_num b_relevant b_implies b_keptAt) (v1 : Int32) : wpX_path (fun r => wpY_path (fun r' => r' = r ∧ i_Rel k (f_kindSymbol, f_kindSlot, f_kindPair, f_goalEq, f_goalNeq, f_goalBoth, f_goalEither, f_goalCall, f_goOn, f_outAnswer, f_outFailure, f_outCut, f_outPending, f_firstVariable, f_maxLevel, f_maxCalls, f_maxSize, f_termCount, f_goalCount, f_searching, f_queryGoal, f_queryWidth, f_levelNow, f_pendingCount, f_nextCount, f_answerCount, f_failureCount, f_cutCount, f_trailTop, f_callsDone, f_choicesLeft, f_neqCount, f_workTop, f_walkTop, f_loaded, f_numberedCount, f_endUnknownCount, f_constraintsReady, f_relevantMask, f_keptCount, a_termKind, a_termLeft, a_termRight, a_termSize, a_goalKind, a_goalFirst, a_goalSecond, a_goalThird, a_goalFourth, a_goalSize, a_relationGoal, a_pendingPath, a_nextPath, a_answerPath, a_link, a_trail, a_neqLeft, a_neqRight, a_workGoal, a_workFrame, a_stackA, a_stackB, a_walk, a_numberOf, a_numbered, a_endUnknown, a_implied, a_kept, a_sightings, a_lastSeen) (g_maxLevel, g_maxCalls, g_maxSize, g_terms, g_goals, g_searching, g_query, g_read, g_level, g_frames, g_neqs, g_numbered, g_kept, b_termToken, b_termLen, b_kind, b_goalSize, b_part, b_relation, b_outcome, b_val, b_len, b_neqT, b_neqU, b_neqF, b_stackGoal, b_stackFrame, b_buf, b_bufLen, b_tmp, b_base, b_baseLen, b_num, b_relevant, b_implies, b_keptAt)) (g_maxLevel, g_maxCalls, g_maxSize, g_terms, g_goals, g_searching, g_query, g_read, g_level, g_frames, g_neqs, g_numbered, g_kept, b_termToken, b_termLen, b_kind, b_goalSize, b_part, b_relation, b_outcome, b_val, b_len, b_neqT, b_neqU, b_neqF, b_stackGoal, b_stackFrame, b_buf, b_bufLen, b_tmp, b_base, b_baseLen, b_num, b_relevant, b_implies, b_keptAt) v1) (f_kindSymbol, f_kindSlot, f_kindPair, f_goalEq, f_goalNeq, f_goalBoth, f_goalEither, f_goalCall, f_goOn, f_outAnswer, f_outFailure, f_outCut, f_outPending, f_firstVariable, f_maxLevel, f_maxCalls, f_maxSize, f_termCount, f_goalCount, f_searching, f_queryGoal, f_queryWidth, f_levelNow, f_pendingCount, f_nextCount, f_answerCount, f_failureCount, f_cutCount, f_trailTop, f_callsDone, f_choicesLeft, f_neqCount, f_workTop, f_walkTop, f_loaded, f_numberedCount, f_endUnknownCount, f_constraintsReady, f_relevantMask, f_keptCount, a_termKind, a_termLeft, a_termRight, a_termSize, a_goalKind, a_goalFirst, a_goalSecond, a_goalThird, a_goalFourth, a_goalSize, a_relationGoal, a_pendingPath, a_nextPath, a_answerPath, a_link, a_trail, a_neqLeft, a_neqRight, a_workGoal, a_workFrame, a_stackA, a_stackB, a_walk, a_numberOf, a_numbered, a_endUnknown, a_implied, a_kept, a_sightings, a_lastSeen) v1 := by
  have hR := h
  obtain ⟨T, G, gc, ml, hW, hX, hY, hS⟩ := h
  obtain ⟨rfl, hS⟩ := hS
  unfold wpX_path
  rcases hS with rfl | ⟨rfl, q, wd, lv, oc, hSS, hLO⟩
  · refine br_t rfl (br_f (by decide) ?_)
    exact br_t rfl ⟨rfl, hR⟩
  · obtain ⟨hq, w1, w2, hlv, hOC, rfl, rfl, rfl, rfl, rfl, rfl, rfl, hpp, hans, rfl, rfl, rfl, hO⟩ := hSS
    have hl := rs_sel_len oc 1
    rcases rs_dec v1 (n := (rs_sel oc 1).length) (by omega) with hv | ⟨j, hj, rfl⟩
    · refine xw_check_0 hv (br_f (by decide) ?_)
      exact yw_path_0 hOC.1 hO (fun p hp => rs_OC_le hOC hp) hv ⟨rfl, hR⟩
    · refine xw_check_1 hj hl (br_t rfl ⟨vp_in_nI (by omega) (by decide), ?_⟩)
      refine yw_path_1 hOC.1 hO (fun p hp => rs_OC_le hOC hp) hj ⟨?_, hR⟩
      have := hans j hj
      rw [Nat.zero_add] at this
      rw [nI_clamp (by omega), this]
end
end
section
/-! the component loads an answer -/
def rs_NI (acc : List Nat) (cnt : Int32) (no nm : Nat → Int32) : Prop :=
  cnt = nI acc.length ∧ rs_A nm 0 acc ∧ (∀ v, v < 66 → (v ∈ acc → no v = nI (rs_ix v acc)) ∧ (v ∉ acc → no v = -1)) ∧ acc.Nodup ∧ ∀ a, a ∈ acc → a < 66
theorem rs_NI_len {acc : List Nat} {cnt : Int32} {no nm : Nat → Int32} (h : rs_NI acc cnt no nm) : acc.length ≤ 66 := rs_nd_len h.2.2.2.1 h.2.2.2.2
theorem rs_nd_snoc {acc : List Nat} {v : Nat} (h : acc.Nodup) (hv : v ∉ acc) : (acc ++ [v]).Nodup := by
  rw [List.nodup_append]
  refine ⟨h, List.nodup_cons.mpr ⟨List.not_mem_nil, List.nodup_nil⟩, ?_⟩
  intro a ha b hb
  rw [List.mem_singleton] at hb
  intro e
  rw [e, hb] at ha
  exact hv ha
theorem rs_NI_lt {acc : List Nat} {cnt : Int32} {no nm : Nat → Int32} (h : rs_NI acc cnt no nm) {v : Nat} (hv : v < 66) (hn : v ∉ acc) : acc.length < 66 := by
  have := rs_nd_len (n := 66) (rs_nd_snoc h.2.2.2.1 hn) (by
    intro a ha
    rcases List.mem_append.mp ha with z | z
    · exact h.2.2.2.2 a z
    · rw [List.mem_singleton] at z; omega)
  rw [List.length_append, List.length_singleton] at this
  omega
theorem rs_NI_add {acc : List Nat} {cnt : Int32} {no nm : Nat → Int32} (h : rs_NI acc cnt no nm) {v : Nat} (hv : v < 66) (hn : v ∉ acc) : rs_NI (acc ++ [v]) (nI (acc.length + 1)) (upd no v (nI acc.length)) (upd nm acc.length (nI v)) := by
  obtain ⟨h1, h2, h3, h4, h5⟩ := h
  refine ⟨by rw [List.length_append]; rfl, ?_, ?_, rs_nd_snoc h4 hn, ?_⟩
  · have := rs_A_snoc (x := v) h2 rfl
    rwa [Nat.zero_add] at this
  · intro a ha
    obtain ⟨q1, q2⟩ := h3 a ha
    by_cases e : a = v
    · subst e
      refine ⟨fun _ => ?_, fun z => absurd (List.mem_append_right _ (List.mem_cons_self ..)) z⟩
      rw [rs_ix_new hn]
      exact if_pos rfl
    · refine ⟨fun z => ?_, fun z => (if_neg e).trans (q2 (fun y => z (List.mem_append_left _ y)))⟩
      rcases List.mem_append.mp z with z | z
      · rw [rs_ix_app z]
        exact (if_neg e).trans (q1 z)
      · rw [List.mem_singleton] at z
        exact absurd z e
  · intro a ha
    rcases List.mem_append.mp ha with z | z
    · exact h5 a z
    · rw [List.mem_singleton] at z; omega
theorem rs_nb_lo {acc l : List Nat} {t : Nat} (h : t < 100) : rs_nb acc (t :: l) = rs_nb acc l := if_neg (by omega)
theorem rs_nb_in {acc l : List Nat} {v : Nat} (h : v ∈ acc) : rs_nb acc ((100 + v) :: l) = rs_nb acc l := by
  refine if_neg (fun z => z.2 ?_)
  rw [Nat.add_sub_cancel_left]; exact h
theorem rs_nb_new {acc l : List Nat} {v : Nat} (h : v ∉ acc) : rs_nb acc ((100 + v) :: l) = rs_nb (acc ++ [v]) l := by
  have e : 100 + v - 100 = v := Nat.add_sub_cancel_left ..
  show (if 100 ≤ 100 + v ∧ 100 + v - 100 ∉ acc then rs_nb (acc ++ [100 + v - 100]) l else rs_nb acc l) = _
  rw [e, if_pos ⟨by omega, h⟩]
section
variable {f_kindSymbol f_kindSlot f_kindPair f_goalEq f_goalNeq f_goalBoth f_goalEither f_goalCall f_goOn f_outAnswer f_outFailure f_outCut f_outPending f_firstVariable f_maxLevel f_maxCalls f_maxSize f_termCount f_goalCount f_searching f_queryGoal f_queryWidth f_levelNow f_pendingCount f_nextCount f_answerCount f_failureCount f_cutCount f_trailTop f_callsDone f_choicesLeft f_neqCount f_workTop f_walkTop f_loaded f_numberedCount f_endUnknownCount f_constraintsReady f_relevantMask f_keptCount : Int32} {a_termKind a_termLeft a_termRight a_termSize a_goalKind a_goalFirst a_goalSecond a_goalThird a_goalFourth a_goalSize a_relationGoal a_pendingPath a_nextPath a_answerPath a_link a_trail a_neqLeft a_neqRight a_workGoal a_workFrame a_stackA a_stackB a_walk a_numberOf a_numbered a_endUnknown a_implied a_kept a_sightings a_lastSeen : Nat → Int32}
variable {T : rs_T} {nf tt : Nat}
theorem xw_listUnknowns {post : SX → Prop} (hf : nf ≤ 11) (hf1 : 1 ≤ nf) (hR : rs_LR a_link)
    (h : ∀ a_numberOf a_endUnknown, (∀ v, v < 66 → a_numberOf v = -1) → rs_A a_endUnknown 0 (rs_eu nf a_link) → post (f_kindSymbol, f_kindSlot, f_kindPair, f_goalEq, f_goalNeq, f_goalBoth, f_goalEither, f_goalCall, f_goOn, f_outAnswer, f_outFailure, f_outCut, f_outPending, f_firstVariable, f_maxLevel, f_maxCalls, f_maxSize, f_termCount, f_goalCount, f_searching, f_queryGoal, f_queryWidth, f_levelNow, f_pendingCount, f_nextCount, f_answerCount, f_failureCount, f_cutCount, f_trailTop, nI (nf - 1), f_choicesLeft, f_neqCount, f_workTop, f_walkTop, f_loaded, 0, nI (rs_eu nf a_link).length, f_constraintsReady, f_relevantMask, f_keptCount, a_termKind, a_termLeft, a_termRight, a_termSize, a_goalKind, a_goalFirst, a_goalSecond, a_goalThird, a_goalFourth, a_goalSize, a_relationGoal, a_pendingPath, a_nextPath, a_answerPath, a_link, a_trail, a_neqLeft, a_neqRight, a_workGoal, a_workFrame, a_stackA, a_stackB, a_walk, a_numberOf, a_numbered, a_endUnknown, a_implied, a_kept, a_sightings, a_lastSeen)) : wpX_listUnknowns post (f_kindSymbol, f_kindSlot, f_kindPair, f_goalEq, f_goalNeq, f_goalBoth, f_goalEither, f_goalCall, f_goOn, f_outAnswer, f_outFailure, f_outCut, f_outPending, f_firstVariable, f_maxLevel, f_maxCalls, f_maxSize, f_termCount, f_goalCount, f_searching, f_queryGoal, f_queryWidth, f_levelNow, f_pendingCount, f_nextCount, f_answerCount, f_failureCount, f_cutCount, f_trailTop, nI (nf - 1), f_choicesLeft, f_neqCount, f_workTop, f_walkTop, f_loaded, f_numberedCount, f_endUnknownCount, f_constraintsReady, f_relevantMask, f_keptCount, a_termKind, a_termLeft, a_termRight, a_termSize, a_goalKind, a_goalFirst, a_goalSecond, a_goalThird, a_goalFourth, a_goalSize, a_relationGoal, a_pendingPath, a_nextPath, a_answerPath, a_link, a_trail, a_neqLeft, a_neqRight, a_workGoal, a_workFrame, a_stackA, a_stackB, a_walk, a_numberOf, a_numbered, a_endUnknown, a_implied, a_kept, a_sightings, a_lastSeen) := by
  have key : ∀ (d i : Nat) (a_numberOf a_endUnknown : Nat → Int32), i + d = 66 → (∀ v, v < i → a_numberOf v = -1) → rs_A a_endUnknown 0 ((rs_iv 0 i).filter (fun v => decide (v < 6 * nf ∧ rs_lk a_link (704 + v) = none))) →
      wX_listUnknowns_22 post (nI (6 * nf)) f_kindSymbol f_kindSlot f_kindPair f_goalEq f_goalNeq f_goalBoth f_goalEither f_goalCall f_goOn f_outAnswer f_outFailure f_outCut f_outPending f_firstVariable f_maxLevel f_maxCalls f_maxSize f_termCount f_goalCount f_searching f_queryGoal f_queryWidth f_levelNow f_pendingCount f_nextCount f_answerCount f_failureCount f_cutCount f_trailTop (nI (nf - 1)) f_choicesLeft f_neqCount f_workTop f_walkTop f_loaded 0 f_constraintsReady f_relevantMask f_keptCount (d + 1) (nI i) (nI ((rs_iv 0 i).filter (fun v => decide (v < 6 * nf ∧ rs_lk a_link (704 + v) = none))).length) a_termKind a_termLeft a_termRight a_termSize a_goalKind a_goalFirst a_goalSecond a_goalThird a_goalFourth a_goalSize a_relationGoal a_pendingPath a_nextPath a_answerPath a_link a_trail a_neqLeft a_neqRight a_workGoal a_workFrame a_stackA a_stackB a_walk a_numberOf a_numbered a_endUnknown a_implied a_kept a_sightings a_lastSeen := by
    intro d
    induction d with
    | zero =>
      intro i a_numberOf a_endUnknown hi hO hA
      obtain rfl : i = 66 := by omega
      exact br_t (by decide) (h _ _ hO hA)
    | succ d ih =>
      intro i a_numberOf a_endUnknown hi hO hA
      have hO' : ∀ v, v < i + 1 → upd a_numberOf i (-1) v = -1 := by
        intro v hv
        by_cases e : v = i
        · exact if_pos e
        · exact (if_neg e).trans (hO v (by omega))
      have e1 : rs_iv 0 (i + 1) = rs_iv 0 i ++ [i] := by
        rw [rs_iv_app, Nat.zero_add]; rfl
      have hlen := List.length_filter_le (fun v => decide (v < 6 * nf ∧ rs_lk a_link (704 + v) = none)) (rs_iv 0 i)
      rw [rs_iv_len] at hlen
      have e7 : 704 + nI i = nI (704 + i) := nI_add 704 i
      refine br_f (nI_ge (b := 66) (by omega) (by decide)) ⟨vp_in_nI (by omega) (by decide), nm_r (e' := upd a_numberOf i (-1)) (by rw [nI_clamp (by omega)]) ?_⟩
      have key2 := ih (i + 1)
      rw [e1, List.filter_append] at key2
      by_cases h6 : 6 * nf ≤ i
      · refine br_t (nI_le h6 (by omega)) (nm_r (nI_1 i) ?_)
        rw [List.filter_cons_of_neg (by simp; omega), List.filter_nil, List.append_nil] at key2
        exact key2 _ _ (by omega) hO' hA
      · refine br_f (nI_ge (by omega) (by omega)) ?_
        rw [e7]
        refine ⟨vp_in_nI (by omega) (by decide), ?_⟩
        rw [nI_clamp (n := 704 + i) (by omega)]
        rcases hR (704 + i) (by omega) with e | ⟨m, hm, e⟩
        · rw [List.filter_cons_of_pos (by simp; exact ⟨by omega, rs_lk_n e⟩), List.filter_nil] at key2
          refine br_f (by rw [e]; decide) ⟨vp_in_nI (by omega) (by decide), nm_r (e' := upd a_endUnknown ((rs_iv 0 i).filter (fun v => decide (v < 6 * nf ∧ rs_lk a_link (704 + v) = none))).length (nI i)) (by rw [nI_clamp (by omega)]) (nm_r (nI_1 _) (nm_r (nI_1 i) ?_))⟩
          rw [List.length_append] at key2
          refine key2 _ _ (by omega) hO' ?_
          have := rs_A_snoc (x := i) hA rfl
          rwa [Nat.zero_add] at this
        · rw [List.filter_cons_of_neg (by simp; intro _; rw [rs_lk_s (by omega) hm e]; simp), List.filter_nil, List.append_nil] at key2
          refine br_t (by rw [e]; exact nI_pos' (by omega)) (nm_r (nI_1 i) ?_)
          exact key2 _ _ (by omega) hO' hA
  have e6 : (nI (nf - 1) + 1) * 6 = nI (6 * nf) := by
    rw [nI_1, show (6 : Int32) = nI 6 from rfl, pk_mul]
    congr 1
    omega
  exact nm_r e6 ⟨67, key 66 0 a_numberOf a_endUnknown (by omega) (fun v hv => absurd hv (by omega)) rs_A_nil⟩
theorem xw_number_end {post : SX → Prop} {j : Nat} {x3 : Int32} (h : post (f_kindSymbol, f_kindSlot, f_kindPair, f_goalEq, f_goalNeq, f_goalBoth, f_goalEither, f_goalCall, f_goOn, f_outAnswer, f_outFailure, f_outCut, f_outPending, f_firstVariable, f_maxLevel, f_maxCalls, f_maxSize, f_termCount, f_goalCount, f_searching, f_queryGoal, f_queryWidth, f_levelNow, f_pendingCount, f_nextCount, f_answerCount, f_failureCount, f_cutCount, f_trailTop, f_callsDone, f_choicesLeft, f_neqCount, f_workTop, f_walkTop, f_loaded, f_numberedCount, f_endUnknownCount, f_constraintsReady, f_relevantMask, f_keptCount, a_termKind, a_termLeft, a_termRight, a_termSize, a_goalKind, a_goalFirst, a_goalSecond, a_goalThird, a_goalFourth, a_goalSize, a_relationGoal, a_pendingPath, a_nextPath, a_answerPath, a_link, a_trail, a_neqLeft, a_neqRight, a_workGoal, a_workFrame, a_stackA, a_stackB, a_walk, a_numberOf, a_numbered, a_endUnknown, a_implied, a_kept, a_sightings, a_lastSeen)) : wX_numberUnknowns_16 post (j + 1) (-1) x3 f_kindSymbol f_kindSlot f_kindPair f_goalEq f_goalNeq f_goalBoth f_goalEither f_goalCall f_goOn f_outAnswer f_outFailure f_outCut f_outPending f_firstVariable f_maxLevel f_maxCalls f_maxSize f_termCount f_goalCount f_searching f_queryGoal f_queryWidth f_levelNow f_pendingCount f_nextCount f_answerCount f_failureCount f_cutCount f_trailTop f_callsDone f_choicesLeft f_neqCount f_workTop f_walkTop f_loaded f_numberedCount f_endUnknownCount f_constraintsReady f_relevantMask f_keptCount a_termKind a_termLeft a_termRight a_termSize a_goalKind a_goalFirst a_goalSecond a_goalThird a_goalFourth a_goalSize a_relationGoal a_pendingPath a_nextPath a_answerPath a_link a_trail a_neqLeft a_neqRight a_workGoal a_workFrame a_stackA a_stackB a_walk a_numberOf a_numbered a_endUnknown a_implied a_kept a_sightings a_lastSeen := br_c (fun _ => h) (fun _ => br_t (by decide) h)
theorem xw_numberUnknowns_16 {post : SX → Prop} {L : List Nat} (hT : rs_TA T a_termKind a_termLeft a_termRight) (hR : rs_LR a_link) (hL : rs_LK T nf (rs_lk a_link) tt)
    (h : ∀ (f_walkTop f_numberedCount : Int32) (a_walk a_numberOf a_numbered : Nat → Int32), rs_NI L f_numberedCount a_numberOf a_numbered → post (f_kindSymbol, f_kindSlot, f_kindPair, f_goalEq, f_goalNeq, f_goalBoth, f_goalEither, f_goalCall, f_goOn, f_outAnswer, f_outFailure, f_outCut, f_outPending, f_firstVariable, f_maxLevel, f_maxCalls, f_maxSize, f_termCount, f_goalCount, f_searching, f_queryGoal, f_queryWidth, f_levelNow, f_pendingCount, f_nextCount, f_answerCount, f_failureCount, f_cutCount, f_trailTop, f_callsDone, f_choicesLeft, f_neqCount, f_workTop, f_walkTop, f_loaded, f_numberedCount, f_endUnknownCount, f_constraintsReady, f_relevantMask, f_keptCount, a_termKind, a_termLeft, a_termRight, a_termSize, a_goalKind, a_goalFirst, a_goalSecond, a_goalThird, a_goalFourth, a_goalSize, a_relationGoal, a_pendingPath, a_nextPath, a_answerPath, a_link, a_trail, a_neqLeft, a_neqRight, a_workGoal, a_workFrame, a_stackA, a_stackB, a_walk, a_numberOf, a_numbered, a_endUnknown, a_implied, a_kept, a_sightings, a_lastSeen)) :
    ∀ (l : List Nat) (r : Nat) (st : List Nat) (i j : Nat) (acc : List Nat) (f_numberedCount : Int32) (a_walk a_numberOf a_numbered : Nat → Int32), r < 770 → rs_nx T (rs_lk a_link) r = none → (∀ n, n ∈ st → n < 770) → rs_WA a_walk st → rs_WK T (rs_lk a_link) st l → l.length + i < 32 → l.length + 1 < j → rs_NI acc f_numberedCount a_numberOf a_numbered → rs_nb acc (rs_tkn T r :: l) = L →
      wX_numberUnknowns_16 post j (nI r) (nI i) f_kindSymbol f_kindSlot f_kindPair f_goalEq f_goalNeq f_goalBoth f_goalEither f_goalCall f_goOn f_outAnswer f_outFailure f_outCut f_outPending f_firstVariable f_maxLevel f_maxCalls f_maxSize f_termCount f_goalCount f_searching f_queryGoal f_queryWidth f_levelNow f_pendingCount f_nextCount f_answerCount f_failureCount f_cutCount f_trailTop f_callsDone f_choicesLeft f_neqCount f_workTop (nI st.length) f_loaded f_numberedCount f_endUnknownCount f_constraintsReady f_relevantMask f_keptCount a_termKind a_termLeft a_termRight a_termSize a_goalKind a_goalFirst a_goalSecond a_goalThird a_goalFourth a_goalSize a_relationGoal a_pendingPath a_nextPath a_answerPath a_link a_trail a_neqLeft a_neqRight a_workGoal a_workFrame a_stackA a_stackB a_walk a_numberOf a_numbered a_endUnknown a_implied a_kept a_sightings a_lastSeen := by
  intro l
  induction l with
  | nil =>
    intro r st i j acc f_numberedCount a_walk a_numberOf a_numbered hr hx hst hW hK hi hj hN hE
    obtain ⟨j, rfl⟩ : ∃ m, j = m + 1 := ⟨j - 1, by omega⟩
    obtain ⟨j, rfl⟩ : ∃ m, j = m + 1 := ⟨j - 1, by omega⟩
    have h0 : st = [] := hK
    subst h0
    refine br_f (nI_ge (b := 32) (by simp at hi; omega) (by decide)) (br_f (nI_pos (by omega)) ?_)
    have fin : ∀ (f_numberedCount : Int32) (a_numberOf a_numbered : Nat → Int32), rs_NI L f_numberedCount a_numberOf a_numbered → wX_numberUnknowns_82 post (wX_numberUnknowns_16 post (j + 1)) (nI i) f_kindSymbol f_kindSlot f_kindPair f_goalEq f_goalNeq f_goalBoth f_goalEither f_goalCall f_goOn f_outAnswer f_outFailure f_outCut f_outPending f_firstVariable f_maxLevel f_maxCalls f_maxSize f_termCount f_goalCount f_searching f_queryGoal f_queryWidth f_levelNow f_pendingCount f_nextCount f_answerCount f_failureCount f_cutCount f_trailTop f_callsDone f_choicesLeft f_neqCount f_workTop 0 f_loaded f_numberedCount f_endUnknownCount f_constraintsReady f_relevantMask f_keptCount a_termKind a_termLeft a_termRight a_termSize a_goalKind a_goalFirst a_goalSecond a_goalThird a_goalFourth a_goalSize a_relationGoal a_pendingPath a_nextPath a_answerPath a_link a_trail a_neqLeft a_neqRight a_workGoal a_workFrame a_stackA a_stackB a_walk a_numberOf a_numbered a_endUnknown a_implied a_kept a_sightings a_lastSeen := by
      intro f_numberedCount a_numberOf a_numbered hN'
      exact xw_nextNode_0 (nm_r (nI_1 i) (xw_number_end (h _ _ _ _ _ hN')))
    by_cases h7 : r < 704
    · rw [rs_nb_lo (rs_tkn_lo hT.1 h7 hx)] at hE
      exact br_t (nI_lt (b := 704) h7 (by decide)) (fin _ _ _ (hE ▸ hN))
    · obtain ⟨v, rfl⟩ : ∃ v, r = 704 + v := ⟨r - 704, by omega⟩
      have ev : nI (704 + v) - 704 = nI v := by
        rw [show (704 : Int32) = nI 704 from rfl, pk_sub (by omega), Nat.add_sub_cancel_left]
      rw [rs_tkn_hi (by omega), Nat.add_sub_cancel_left] at hE
      refine br_f (nI_nlt (b := 704) (by omega) (by omega)) (nm_r ev ⟨vp_in_nI (by omega) (by decide), ?_⟩)
      rw [nI_clamp (n := v) (by omega)]
      obtain ⟨n1, n2⟩ := hN.2.2.1 v (by omega)
      by_cases hm : v ∈ acc
      · rw [rs_nb_in hm] at hE
        exact br_t (by rw [n1 hm]; have := rs_NI_len hN; have := rs_ix_mem.mp hm; exact nI_pos' (by omega)) (fin _ _ _ (hE ▸ hN))
      · rw [rs_nb_new hm] at hE
        have hl := rs_NI_lt hN (by omega) hm
        obtain rfl := hN.1
        refine br_f (by rw [n2 hm]; decide) ⟨vp_in_nI (by omega) (by decide), nm_e ⟨vp_in_nI hl (by decide), nm_r (e' := upd a_numbered acc.length (nI v)) (by rw [nI_clamp (by omega)]) (nm_r (nI_1 _) ?_)⟩⟩
        exact fin _ _ _ (hE ▸ rs_NI_add hN (by omega) hm)
  | cons t l ih =>
    intro r st i j acc f_numberedCount a_walk a_numberOf a_numbered hr hx hst hW hK hi hj hN hE
    obtain ⟨j, rfl⟩ : ∃ m, j = m + 1 := ⟨j - 1, by omega⟩
    obtain ⟨n, st', rfl, e1, e2⟩ := hK
    have hn := hst n (List.mem_cons_self ..)
    have hsl := rs_W_le _ _ (rs_WK_W (t :: l) (n :: st') ⟨n, st', rfl, e1, e2⟩)
    rw [List.length_cons] at hi hj
    rw [List.length_cons, List.length_cons] at hsl
    refine br_f (nI_ge (b := 32) (by omega) (by decide)) (br_f (nI_pos (by omega)) ?_)
    have fin : ∀ (acc : List Nat) (f_numberedCount : Int32) (a_numberOf a_numbered : Nat → Int32), rs_NI acc f_numberedCount a_numberOf a_numbered → rs_nb acc (t :: l) = L → wX_numberUnknowns_82 post (wX_numberUnknowns_16 post j) (nI i) f_kindSymbol f_kindSlot f_kindPair f_goalEq f_goalNeq f_goalBoth f_goalEither f_goalCall f_goOn f_outAnswer f_outFailure f_outCut f_outPending f_firstVariable f_maxLevel f_maxCalls f_maxSize f_termCount f_goalCount f_searching f_queryGoal f_queryWidth f_levelNow f_pendingCount f_nextCount f_answerCount f_failureCount f_cutCount f_trailTop f_callsDone f_choicesLeft f_neqCount f_workTop (nI (n :: st').length) f_loaded f_numberedCount f_endUnknownCount f_constraintsReady f_relevantMask f_keptCount a_termKind a_termLeft a_termRight a_termSize a_goalKind a_goalFirst a_goalSecond a_goalThird a_goalFourth a_goalSize a_relationGoal a_pendingPath a_nextPath a_answerPath a_link a_trail a_neqLeft a_neqRight a_workGoal a_workFrame a_stackA a_stackB a_walk a_numberOf a_numbered a_endUnknown a_implied a_kept a_sightings a_lastSeen := by
      intro acc f_numberedCount a_numberOf a_numbered hN' hE'
      unfold wX_numberUnknowns_82
      refine xw_nextNode hT hR hL hn hW (by omega) (fun a_walk hW' => nm_r (nI_1 i) ?_)
      refine ih (rs_rt T (rs_lk a_link) n) _ (i + 1) j acc f_numberedCount a_walk a_numberOf a_numbered (rs_rt_lt hT.1 hL hn) (rs_rt_root hT.1 hL hn) ?_ hW' e2 (by omega) (by omega) hN' (by rw [← e1]; exact hE')
      intro x hx1
      rcases List.mem_append.mp hx1 with z | z
      · exact rs_kd_lt hT.1 z
      · exact hst x (List.mem_cons_of_mem _ z)
    by_cases h7 : r < 704
    · rw [rs_nb_lo (rs_tkn_lo hT.1 h7 hx)] at hE
      exact br_t (nI_lt (b := 704) h7 (by decide)) (fin _ _ _ _ hN hE)
    · obtain ⟨v, rfl⟩ : ∃ v, r = 704 + v := ⟨r - 704, by omega⟩
      have ev : nI (704 + v) - 704 = nI v := by
        rw [show (704 : Int32) = nI 704 from rfl, pk_sub (by omega), Nat.add_sub_cancel_left]
      rw [rs_tkn_hi (by omega), Nat.add_sub_cancel_left] at hE
      refine br_f (nI_nlt (b := 704) (by omega) (by omega)) (nm_r ev ⟨vp_in_nI (by omega) (by decide), ?_⟩)
      rw [nI_clamp (n := v) (by omega)]
      obtain ⟨n1, n2⟩ := hN.2.2.1 v (by omega)
      by_cases hm : v ∈ acc
      · rw [rs_nb_in hm] at hE
        exact br_t (by rw [n1 hm]; have := rs_NI_len hN; have := rs_ix_mem.mp hm; exact nI_pos' (by omega)) (fin _ _ _ _ hN hE)
      · rw [rs_nb_new hm] at hE
        have hl := rs_NI_lt hN (by omega) hm
        obtain rfl := hN.1
        refine br_f (by rw [n2 hm]; decide) ⟨vp_in_nI (by omega) (by decide), nm_e ⟨vp_in_nI hl (by decide), nm_r (e' := upd a_numbered acc.length (nI v)) (by rw [nI_clamp (by omega)]) (nm_r (nI_1 _) ?_)⟩⟩
        exact fin _ _ _ _ (rs_NI_add hN (by omega) hm) hE
theorem xw_numberUnknowns {post : SX → Prop} {v : Nat} {l acc : List Nat} (hT : rs_TA T a_termKind a_termLeft a_termRight) (hR : rs_LR a_link) (hL : rs_LK T nf (rs_lk a_link) tt) (hv : v < 66) (hK : rs_WK T (rs_lk a_link) [704 + v] l) (hl : l.length ≤ 31) (hN : rs_NI acc f_numberedCount a_numberOf a_numbered)
    (h : ∀ (f_walkTop f_numberedCount : Int32) (a_walk a_numberOf a_numbered : Nat → Int32), rs_NI (rs_nb acc l) f_numberedCount a_numberOf a_numbered → post (f_kindSymbol, f_kindSlot, f_kindPair, f_goalEq, f_goalNeq, f_goalBoth, f_goalEither, f_goalCall, f_goOn, f_outAnswer, f_outFailure, f_outCut, f_outPending, f_firstVariable, f_maxLevel, f_maxCalls, f_maxSize, f_termCount, f_goalCount, f_searching, f_queryGoal, f_queryWidth, f_levelNow, f_pendingCount, f_nextCount, f_answerCount, f_failureCount, f_cutCount, f_trailTop, f_callsDone, f_choicesLeft, f_neqCount, f_workTop, f_walkTop, f_loaded, f_numberedCount, f_endUnknownCount, f_constraintsReady, f_relevantMask, f_keptCount, a_termKind, a_termLeft, a_termRight, a_termSize, a_goalKind, a_goalFirst, a_goalSecond, a_goalThird, a_goalFourth, a_goalSize, a_relationGoal, a_pendingPath, a_nextPath, a_answerPath, a_link, a_trail, a_neqLeft, a_neqRight, a_workGoal, a_workFrame, a_stackA, a_stackB, a_walk, a_numberOf, a_numbered, a_endUnknown, a_implied, a_kept, a_sightings, a_lastSeen)) : wpX_numberUnknowns post (f_kindSymbol, f_kindSlot, f_kindPair, f_goalEq, f_goalNeq, f_goalBoth, f_goalEither, f_goalCall, f_goOn, f_outAnswer, f_outFailure, f_outCut, f_outPending, f_firstVariable, f_maxLevel, f_maxCalls, f_maxSize, f_termCount, f_goalCount, f_searching, f_queryGoal, f_queryWidth, f_levelNow, f_pendingCount, f_nextCount, f_answerCount, f_failureCount, f_cutCount, f_trailTop, f_callsDone, f_choicesLeft, f_neqCount, f_workTop, f_walkTop, f_loaded, f_numberedCount, f_endUnknownCount, f_constraintsReady, f_relevantMask, f_keptCount, a_termKind, a_termLeft, a_termRight, a_termSize, a_goalKind, a_goalFirst, a_goalSecond, a_goalThird, a_goalFourth, a_goalSize, a_relationGoal, a_pendingPath, a_nextPath, a_answerPath, a_link, a_trail, a_neqLeft, a_neqRight, a_workGoal, a_workFrame, a_stackA, a_stackB, a_walk, a_numberOf, a_numbered, a_endUnknown, a_implied, a_kept, a_sightings, a_lastSeen) (nI v) := by
  have e7 : 704 + nI v = nI (704 + v) := nI_add 704 v
  cases l with
  | nil => exact absurd (show [704 + v] = [] from hK) (by simp)
  | cons t l =>
    obtain ⟨n, st', e0, e1, e2⟩ := hK
    injection e0 with e3 e4
    subst e3 e4
    rw [List.length_cons] at hl
    unfold wpX_numberUnknowns
    rw [e7]
    refine xw_startWalk ?_
    refine xw_nextNode (n := 704 + v) (st := []) hT hR hL (by omega) ⟨if_pos rfl, trivial⟩ (by simp) (fun a_walk hW' => ⟨34, ?_⟩)
    refine xw_numberUnknowns_16 hT hR hL h l (rs_rt T (rs_lk a_link) (704 + v)) _ 0 34 acc f_numberedCount a_walk a_numberOf a_numbered (rs_rt_lt hT.1 hL (by omega)) (rs_rt_root hT.1 hL (by omega)) ?_ hW' e2 (by omega) (by omega) hN (by rw [← e1])
    intro x hx1
    rcases List.mem_append.mp hx1 with z | z
    · exact rs_kd_lt hT.1 z
    · exact absurd z List.not_mem_nil
end
end
section
/-! loading on both sides, tokens -/
theorem rs_sel_path {ts : Nat → List Nat} {G : rs_G} {q lv : Nat} {oc : Nat → Nat} (h : rs_OC ts G q lv oc) {j : Nat} (hj : j < (rs_sel oc 1).length) : 1 ≤ (rs_sel oc 1).getD j 0 ∧ (rs_sel oc 1).getD j 0 < 256 ∧ (rs_path ts G q ((rs_sel oc 1).getD j 0)).1 = 1 := by
  have hm : (rs_sel oc 1).getD j 0 ∈ rs_sel oc 1 := by
    rw [List.getD_eq_getElem?_getD, List.getElem?_eq_getElem hj]
    exact List.getElem_mem hj
  generalize (rs_sel oc 1).getD j 0 = p at hm
  obtain ⟨m1, m2⟩ := List.mem_filter.mp hm
  have m1 := rs_iv_mem.mp m1
  have m2 : oc p = 1 := by simpa using m2
  have h0 : p ≠ 0 := by
    intro z
    rw [z, h.1] at m2
    omega
  refine ⟨by omega, by omega, ?_⟩
  by_cases h1 : p = 1
  · rw [h1] at m2 ⊢
    rw [← h.2.1]; exact m2
  · obtain ⟨a, b⟩ := h.2.2 p (by omega) (by omega)
    by_cases z : p < 2 ^ (lv + 1) ∧ oc (p / 2) = 4
    · rw [← a z]; exact m2
    · rw [b z] at m2; omega
section
variable {f_kindSymbol f_kindSlot f_kindPair f_goalEq f_goalNeq f_goalBoth f_goalEither f_goalCall f_goOn f_outAnswer f_outFailure f_outCut f_outPending f_firstVariable f_maxLevel f_maxCalls f_maxSize f_termCount f_goalCount f_searching f_queryGoal f_queryWidth f_levelNow f_pendingCount f_nextCount f_answerCount f_failureCount f_cutCount f_trailTop f_callsDone f_choicesLeft f_neqCount f_workTop f_walkTop f_loaded f_numberedCount f_endUnknownCount f_constraintsReady f_relevantMask f_keptCount : Int32} {a_termKind a_termLeft a_termRight a_termSize a_goalKind a_goalFirst a_goalSecond a_goalThird a_goalFourth a_goalSize a_relationGoal a_pendingPath a_nextPath a_answerPath a_link a_trail a_neqLeft a_neqRight a_workGoal a_workFrame a_stackA a_stackB a_walk a_numberOf a_numbered a_endUnknown a_implied a_kept a_sightings a_lastSeen : Nat → Int32}
variable {T : rs_T} {G : rs_G} {gc q wd lv j ms mc : Nat} {oc : Nat → Nat}
theorem xw_load {post : SX → Prop} (hT : rs_TA T a_termKind a_termLeft a_termRight) (hG : rs_GA gc G a_goalKind a_goalFirst a_goalSecond a_goalThird a_goalFourth a_relationGoal) (hGX : rs_GX T.2.2.2.2 gc G) (htc : T.2.2.2.2 ≤ 64) (hgc : gc ≤ 48) (ems : G.2.2.2.2.2.2.2.2 = ms) (emc : G.2.2.2.2.2.2.2.1 = mc) (hq : q < gc) (w2 : wd ≤ 6)
    (hOC : rs_OC T.2.2.2.1 G q lv oc) (hans : rs_A a_answerPath 0 (rs_sel oc 1)) (hj : j < (rs_sel oc 1).length) (hLO : rs_LO T G q wd oc f_trailTop f_callsDone f_neqCount f_loaded f_numberedCount f_endUnknownCount f_constraintsReady f_keptCount a_link a_neqLeft a_neqRight a_numberOf a_numbered a_endUnknown a_kept)
    (h : ∀ (f_trailTop f_callsDone f_choicesLeft f_neqCount f_workTop f_walkTop f_numberedCount f_endUnknownCount f_constraintsReady : Int32) (a_link a_trail a_neqLeft a_neqRight a_workGoal a_workFrame a_stackA a_stackB a_walk a_numberOf a_numbered a_endUnknown : Nat → Int32), rs_LS T ms wd (rs_path T.2.2.2.1 G q ((rs_sel oc 1).getD j 0)).2.1 (rs_path T.2.2.2.1 G q ((rs_sel oc 1).getD j 0)).2.2.1 (rs_path T.2.2.2.1 G q ((rs_sel oc 1).getD j 0)).2.2.2.1 f_trailTop f_callsDone f_neqCount f_numberedCount f_endUnknownCount a_link a_neqLeft a_neqRight a_numberOf a_numbered a_endUnknown → rs_KP ms (rs_path T.2.2.2.1 G q ((rs_sel oc 1).getD j 0)).2.2.1 wd (rs_path T.2.2.2.1 G q ((rs_sel oc 1).getD j 0)).2.1 (rs_path T.2.2.2.1 G q ((rs_sel oc 1).getD j 0)).2.2.2.1 f_constraintsReady f_keptCount a_kept → post (f_kindSymbol, f_kindSlot, f_kindPair, f_goalEq, f_goalNeq, f_goalBoth, f_goalEither, f_goalCall, f_goOn, f_outAnswer, f_outFailure, f_outCut, f_outPending, f_firstVariable, f_maxLevel, nI mc, nI ms, f_termCount, f_goalCount, f_searching, nI q, nI wd, f_levelNow, f_pendingCount, f_nextCount, f_answerCount, f_failureCount, f_cutCount, f_trailTop, f_callsDone, f_choicesLeft, f_neqCount, f_workTop, f_walkTop, nI j, f_numberedCount, f_endUnknownCount, f_constraintsReady, f_relevantMask, f_keptCount, a_termKind, a_termLeft, a_termRight, a_termSize, a_goalKind, a_goalFirst, a_goalSecond, a_goalThird, a_goalFourth, a_goalSize, a_relationGoal, a_pendingPath, a_nextPath, a_answerPath, a_link, a_trail, a_neqLeft, a_neqRight, a_workGoal, a_workFrame, a_stackA, a_stackB, a_walk, a_numberOf, a_numbered, a_endUnknown, a_implied, a_kept, a_sightings, a_lastSeen)) :
    wpX_load post (f_kindSymbol, f_kindSlot, f_kindPair, f_goalEq, f_goalNeq, f_goalBoth, f_goalEither, f_goalCall, f_goOn, f_outAnswer, f_outFailure, f_outCut, f_outPending, f_firstVariable, f_maxLevel, nI mc, nI ms, f_termCount, f_goalCount, f_searching, nI q, nI wd, f_levelNow, f_pendingCount, f_nextCount, f_answerCount, f_failureCount, f_cutCount, f_trailTop, f_callsDone, f_choicesLeft, f_neqCount, f_workTop, f_walkTop, f_loaded, f_numberedCount, f_endUnknownCount, f_constraintsReady, f_relevantMask, f_keptCount, a_termKind, a_termLeft, a_termRight, a_termSize, a_goalKind, a_goalFirst, a_goalSecond, a_goalThird, a_goalFourth, a_goalSize, a_relationGoal, a_pendingPath, a_nextPath, a_answerPath, a_link, a_trail, a_neqLeft, a_neqRight, a_workGoal, a_workFrame, a_stackA, a_stackB, a_walk, a_numberOf, a_numbered, a_endUnknown, a_implied, a_kept, a_sightings, a_lastSeen) (nI j) := by
  have hl := rs_sel_len oc 1
  obtain ⟨p1, p2, p3⟩ := rs_sel_path hOC hj
  refine br_c (fun e => ?_) (fun _ => ⟨vp_in_nI (by omega) (by decide), ?_⟩)
  · subst e
    rcases hLO with z | ⟨j', j1, j2, hLS, hKP⟩
    · exfalso
      have : (nI j).toInt = (-1 : Int32).toInt := by rw [z]
      rw [nI_toInt (by omega)] at this
      have e2 : (-1 : Int32).toInt = -1 := by decide
      omega
    · obtain rfl : j = j' := (nI_eq (by omega) (by omega)).mp j2
      rw [ems] at hLS hKP
      exact h _ _ _ _ _ _ _ _ _ _ _ _ _ _ _ _ _ _ _ _ _ hLS hKP
  · have ea := hans j hj
    rw [Nat.zero_add] at ea
    rw [nI_clamp (n := j) (by omega), ea]
    refine xw_run hT hG hGX htc hgc ems emc p2 p1 hq ?_
    intro f_trailTop f_callsDone f_choicesLeft f_neqCount f_workTop f_walkTop a_link a_trail a_neqLeft a_neqRight a_workGoal a_workFrame a_stackA a_stackB a_walk hXS
    have hXS := hXS p3
    generalize (rs_path T.2.2.2.1 G q ((rs_sel oc 1).getD j 0)) = R at *
    obtain ⟨o, C, nf, ne, st, lf⟩ := R
    obtain ⟨tt, rfl, rfl, rfl, rfl, rfl, hX, hn, hN, hNS, hSK⟩ := hXS
    have hnf : nf ≤ 11 := hX.2.2.1.1
    have hnf1 : 1 ≤ nf := hX.1
    obtain ⟨s, s1, s2, s3, s4, s5⟩ := rs_XL_can hT.1 hX
    have hm4 := hGX.2.2.2.2.2
    have s2 : ∀ v, v < 6 * nf → (s v).length ≤ ms := s2
    refine xw_listUnknowns (nf := nf) hnf hnf1 hX.2.1 ?_
    intro a_numberOf a_endUnknown hno heu
    have key : ∀ (d w : Nat) (f_walkTop f_numberedCount : Int32) (a_walk a_numberOf a_numbered : Nat → Int32), w + d = wd → rs_NI (rs_num s w) f_numberedCount a_numberOf a_numbered → wX_load_26 post (nI j) (d + 1) (nI w) f_kindSymbol f_kindSlot f_kindPair f_goalEq f_goalNeq f_goalBoth f_goalEither f_goalCall f_goOn f_outAnswer f_outFailure f_outCut f_outPending f_firstVariable f_maxLevel (nI mc) (nI ms) f_termCount f_goalCount f_searching (nI q) (nI wd) f_levelNow f_pendingCount f_nextCount f_answerCount f_failureCount f_cutCount (nI tt) (nI (nf - 1)) (nI lf) (nI ne.length) (nI st.length) f_walkTop f_loaded f_numberedCount (nI (rs_eu nf a_link).length) f_constraintsReady f_relevantMask f_keptCount a_termKind a_termLeft a_termRight a_termSize a_goalKind a_goalFirst a_goalSecond a_goalThird a_goalFourth a_goalSize a_relationGoal a_pendingPath a_nextPath a_answerPath a_link a_trail a_neqLeft a_neqRight a_workGoal a_workFrame a_stackA a_stackB a_walk a_numberOf a_numbered a_endUnknown a_implied a_kept a_sightings a_lastSeen := by
      intro d
      induction d with
      | zero =>
        intro w f_walkTop f_numberedCount a_walk a_numberOf a_numbered hw hNI
        obtain rfl : w = wd := by omega
        refine br_t (nI_le (Nat.le_refl _) (by omega)) (h _ _ _ _ _ _ _ _ _ _ _ _ _ _ _ _ _ _ _ _ _ ?_ (Or.inl rfl))
        exact ⟨tt, s, rfl, rfl, rfl, hX, hn, hN, s1, ⟨hNI.1, hNI.2.1, hNI.2.2.1⟩, rfl, heu⟩
      | succ d ih =>
        intro w f_walkTop f_numberedCount a_walk a_numberOf a_numbered hw hNI
        have hsw := s2 w (by omega)
        refine br_f (nI_ge (by omega) (by omega)) ?_
        refine xw_numberUnknowns hT hX.2.1 hX.2.2.1 (by omega) (s1 w) (by omega) hNI ?_
        intro f_walkTop f_numberedCount a_walk a_numberOf a_numbered hNI'
        exact nm_r (nI_1 w) (ih (w + 1) _ _ _ _ _ (by omega) hNI')
    exact ⟨wd + 1, key wd 0 _ _ _ _ _ (by omega) ⟨rfl, rs_A_nil, fun v hv => ⟨fun z => absurd z List.not_mem_nil, fun _ => hno v hv⟩, List.nodup_nil, fun a ha => absurd ha List.not_mem_nil⟩⟩
variable {nf tt : Nat}
theorem xw_nodeAt_end {post : Int32 → SX → Prop} {x2 x4 : Int32} {n : Nat} (h : post (-1) (f_kindSymbol, f_kindSlot, f_kindPair, f_goalEq, f_goalNeq, f_goalBoth, f_goalEither, f_goalCall, f_goOn, f_outAnswer, f_outFailure, f_outCut, f_outPending, f_firstVariable, f_maxLevel, f_maxCalls, f_maxSize, f_termCount, f_goalCount, f_searching, f_queryGoal, f_queryWidth, f_levelNow, f_pendingCount, f_nextCount, f_answerCount, f_failureCount, f_cutCount, f_trailTop, f_callsDone, f_choicesLeft, f_neqCount, f_workTop, f_walkTop, f_loaded, f_numberedCount, f_endUnknownCount, f_constraintsReady, f_relevantMask, f_keptCount, a_termKind, a_termLeft, a_termRight, a_termSize, a_goalKind, a_goalFirst, a_goalSecond, a_goalThird, a_goalFourth, a_goalSize, a_relationGoal, a_pendingPath, a_nextPath, a_answerPath, a_link, a_trail, a_neqLeft, a_neqRight, a_workGoal, a_workFrame, a_stackA, a_stackB, a_walk, a_numberOf, a_numbered, a_endUnknown, a_implied, a_kept, a_sightings, a_lastSeen)) : wX_nodeAt_21 post x2 (n + 1) (-1) x4 f_kindSymbol f_kindSlot f_kindPair f_goalEq f_goalNeq f_goalBoth f_goalEither f_goalCall f_goOn f_outAnswer f_outFailure f_outCut f_outPending f_firstVariable f_maxLevel f_maxCalls f_maxSize f_termCount f_goalCount f_searching f_queryGoal f_queryWidth f_levelNow f_pendingCount f_nextCount f_answerCount f_failureCount f_cutCount f_trailTop f_callsDone f_choicesLeft f_neqCount f_workTop f_walkTop f_loaded f_numberedCount f_endUnknownCount f_constraintsReady f_relevantMask f_keptCount a_termKind a_termLeft a_termRight a_termSize a_goalKind a_goalFirst a_goalSecond a_goalThird a_goalFourth a_goalSize a_relationGoal a_pendingPath a_nextPath a_answerPath a_link a_trail a_neqLeft a_neqRight a_workGoal a_workFrame a_stackA a_stackB a_walk a_numberOf a_numbered a_endUnknown a_implied a_kept a_sightings a_lastSeen := br_c (fun _ => h) (fun _ => br_t (by decide) h)
/-- the token at a place -/
theorem xw_nodeAt_21 {post : Int32 → SX → Prop} {pos : Nat} {S : List Nat} (hT : rs_TA T a_termKind a_termLeft a_termRight) (hR : rs_LR a_link) (hL : rs_LK T nf (rs_lk a_link) tt) (hpos : pos ≤ 31)
    (k1 : ∀ (r : Nat) (f_walkTop : Int32) (a_walk : Nat → Int32), r < 770 → rs_nx T (rs_lk a_link) r = none → S[pos]? = some (rs_tkn T r) → post (nI r) (f_kindSymbol, f_kindSlot, f_kindPair, f_goalEq, f_goalNeq, f_goalBoth, f_goalEither, f_goalCall, f_goOn, f_outAnswer, f_outFailure, f_outCut, f_outPending, f_firstVariable, f_maxLevel, f_maxCalls, f_maxSize, f_termCount, f_goalCount, f_searching, f_queryGoal, f_queryWidth, f_levelNow, f_pendingCount, f_nextCount, f_answerCount, f_failureCount, f_cutCount, f_trailTop, f_callsDone, f_choicesLeft, f_neqCount, f_workTop, f_walkTop, f_loaded, f_numberedCount, f_endUnknownCount, f_constraintsReady, f_relevantMask, f_keptCount, a_termKind, a_termLeft, a_termRight, a_termSize, a_goalKind, a_goalFirst, a_goalSecond, a_goalThird, a_goalFourth, a_goalSize, a_relationGoal, a_pendingPath, a_nextPath, a_answerPath, a_link, a_trail, a_neqLeft, a_neqRight, a_workGoal, a_workFrame, a_stackA, a_stackB, a_walk, a_numberOf, a_numbered, a_endUnknown, a_implied, a_kept, a_sightings, a_lastSeen))
    (k0 : S.length ≤ pos → ∀ (f_walkTop : Int32) (a_walk : Nat → Int32), post (-1) (f_kindSymbol, f_kindSlot, f_kindPair, f_goalEq, f_goalNeq, f_goalBoth, f_goalEither, f_goalCall, f_goOn, f_outAnswer, f_outFailure, f_outCut, f_outPending, f_firstVariable, f_maxLevel, f_maxCalls, f_maxSize, f_termCount, f_goalCount, f_searching, f_queryGoal, f_queryWidth, f_levelNow, f_pendingCount, f_nextCount, f_answerCount, f_failureCount, f_cutCount, f_trailTop, f_callsDone, f_choicesLeft, f_neqCount, f_workTop, f_walkTop, f_loaded, f_numberedCount, f_endUnknownCount, f_constraintsReady, f_relevantMask, f_keptCount, a_termKind, a_termLeft, a_termRight, a_termSize, a_goalKind, a_goalFirst, a_goalSecond, a_goalThird, a_goalFourth, a_goalSize, a_relationGoal, a_pendingPath, a_nextPath, a_answerPath, a_link, a_trail, a_neqLeft, a_neqRight, a_workGoal, a_workFrame, a_stackA, a_stackB, a_walk, a_numberOf, a_numbered, a_endUnknown, a_implied, a_kept, a_sightings, a_lastSeen)) :
    ∀ (l : List Nat) (r : Nat) (st : List Nat) (i n : Nat) (a_walk : Nat → Int32), r < 770 → rs_nx T (rs_lk a_link) r = none → (∀ x, x ∈ st → x < 770) → rs_WA a_walk st → rs_WK T (rs_lk a_link) st l → l.length ≤ 31 → i ≤ pos → S.length = i + 1 + l.length → (∀ m, S[i + m]? = (rs_tkn T r :: l)[m]?) → l.length + 1 < n →
      wX_nodeAt_21 post (nI pos) n (nI r) (nI i) f_kindSymbol f_kindSlot f_kindPair f_goalEq f_goalNeq f_goalBoth f_goalEither f_goalCall f_goOn f_outAnswer f_outFailure f_outCut f_outPending f_firstVariable f_maxLevel f_maxCalls f_maxSize f_termCount f_goalCount f_searching f_queryGoal f_queryWidth f_levelNow f_pendingCount f_nextCount f_answerCount f_failureCount f_cutCount f_trailTop f_callsDone f_choicesLeft f_neqCount f_workTop (nI st.length) f_loaded f_numberedCount f_endUnknownCount f_constraintsReady f_relevantMask f_keptCount a_termKind a_termLeft a_termRight a_termSize a_goalKind a_goalFirst a_goalSecond a_goalThird a_goalFourth a_goalSize a_relationGoal a_pendingPath a_nextPath a_answerPath a_link a_trail a_neqLeft a_neqRight a_workGoal a_workFrame a_stackA a_stackB a_walk a_numberOf a_numbered a_endUnknown a_implied a_kept a_sightings a_lastSeen := by
  intro l
  induction l with
  | nil =>
    intro r st i n a_walk hr hx hst hW hK hl hi hS hm hn
    obtain ⟨n, rfl⟩ : ∃ m, n = m + 1 := ⟨n - 1, by omega⟩
    obtain ⟨n, rfl⟩ : ∃ m, n = m + 1 := ⟨n - 1, by omega⟩
    have h0 : st = [] := hK
    subst h0
    by_cases z : pos ≤ i
    · obtain rfl : pos = i := by omega
      exact br_t (nI_le z (by omega)) (k1 r _ _ hr hx (hm 0))
    · refine br_f (nI_ge (by omega) (by omega)) (br_f (nI_pos (by omega)) ?_)
      refine xw_nextNode_0 (nm_r (nI_1 i) (xw_nodeAt_end (k0 ?_ _ _)))
      simp at hS
      omega
  | cons t l ih =>
    intro r st i n a_walk hr hx hst hW hK hl hi hS hm hn
    obtain ⟨n, rfl⟩ : ∃ m, n = m + 1 := ⟨n - 1, by omega⟩
    by_cases z : pos ≤ i
    · obtain rfl : pos = i := by omega
      exact br_t (nI_le z (by omega)) (k1 r _ _ hr hx (hm 0))
    · obtain ⟨x, st', rfl, e1, e2⟩ := hK
      have hxx := hst x (List.mem_cons_self ..)
      have hsl := rs_W_le _ _ (rs_WK_W (t :: l) (x :: st') ⟨x, st', rfl, e1, e2⟩)
      rw [List.length_cons] at hl hn hS
      rw [List.length_cons, List.length_cons] at hsl
      refine br_f (nI_ge (by omega) (by omega)) (br_f (nI_pos (by omega)) ?_)
      refine xw_nextNode hT hR hL hxx hW (by omega) (fun a_walk hW' => nm_r (nI_1 i) ?_)
      refine ih (rs_rt T (rs_lk a_link) x) _ (i + 1) n a_walk (rs_rt_lt hT.1 hL hxx) (rs_rt_root hT.1 hL hxx) ?_ hW' e2 (by omega) (by omega) (by omega) ?_ (by omega)
      · intro y hy
        rcases List.mem_append.mp hy with w | w
        · exact rs_kd_lt hT.1 w
        · exact hst y (List.mem_cons_of_mem _ w)
      · intro m
        rw [← e1, show i + 1 + m = i + (m + 1) by omega, hm (m + 1)]
        rfl
theorem xw_nodeAt {post : Int32 → SX → Prop} {pos v : Nat} {S : List Nat} (hT : rs_TA T a_termKind a_termLeft a_termRight) (hR : rs_LR a_link) (hL : rs_LK T nf (rs_lk a_link) tt) (hp : pos < 2 ^ 31) (hv : v < 66) (hK : rs_WK T (rs_lk a_link) [704 + v] S) (hS : S.length ≤ 31)
    (k1 : ∀ (r : Nat) (f_walkTop : Int32) (a_walk : Nat → Int32), r < 770 → rs_nx T (rs_lk a_link) r = none → S[pos]? = some (rs_tkn T r) → post (nI r) (f_kindSymbol, f_kindSlot, f_kindPair, f_goalEq, f_goalNeq, f_goalBoth, f_goalEither, f_goalCall, f_goOn, f_outAnswer, f_outFailure, f_outCut, f_outPending, f_firstVariable, f_maxLevel, f_maxCalls, f_maxSize, f_termCount, f_goalCount, f_searching, f_queryGoal, f_queryWidth, f_levelNow, f_pendingCount, f_nextCount, f_answerCount, f_failureCount, f_cutCount, f_trailTop, f_callsDone, f_choicesLeft, f_neqCount, f_workTop, f_walkTop, f_loaded, f_numberedCount, f_endUnknownCount, f_constraintsReady, f_relevantMask, f_keptCount, a_termKind, a_termLeft, a_termRight, a_termSize, a_goalKind, a_goalFirst, a_goalSecond, a_goalThird, a_goalFourth, a_goalSize, a_relationGoal, a_pendingPath, a_nextPath, a_answerPath, a_link, a_trail, a_neqLeft, a_neqRight, a_workGoal, a_workFrame, a_stackA, a_stackB, a_walk, a_numberOf, a_numbered, a_endUnknown, a_implied, a_kept, a_sightings, a_lastSeen))
    (k0 : S.length ≤ pos → ∀ (f_walkTop : Int32) (a_walk : Nat → Int32), post (-1) (f_kindSymbol, f_kindSlot, f_kindPair, f_goalEq, f_goalNeq, f_goalBoth, f_goalEither, f_goalCall, f_goOn, f_outAnswer, f_outFailure, f_outCut, f_outPending, f_firstVariable, f_maxLevel, f_maxCalls, f_maxSize, f_termCount, f_goalCount, f_searching, f_queryGoal, f_queryWidth, f_levelNow, f_pendingCount, f_nextCount, f_answerCount, f_failureCount, f_cutCount, f_trailTop, f_callsDone, f_choicesLeft, f_neqCount, f_workTop, f_walkTop, f_loaded, f_numberedCount, f_endUnknownCount, f_constraintsReady, f_relevantMask, f_keptCount, a_termKind, a_termLeft, a_termRight, a_termSize, a_goalKind, a_goalFirst, a_goalSecond, a_goalThird, a_goalFourth, a_goalSize, a_relationGoal, a_pendingPath, a_nextPath, a_answerPath, a_link, a_trail, a_neqLeft, a_neqRight, a_workGoal, a_workFrame, a_stackA, a_stackB, a_walk, a_numberOf, a_numbered, a_endUnknown, a_implied, a_kept, a_sightings, a_lastSeen)) : wpX_nodeAt post (f_kindSymbol, f_kindSlot, f_kindPair, f_goalEq, f_goalNeq, f_goalBoth, f_goalEither, f_goalCall, f_goOn, f_outAnswer, f_outFailure, f_outCut, f_outPending, f_firstVariable, f_maxLevel, f_maxCalls, f_maxSize, f_termCount, f_goalCount, f_searching, f_queryGoal, f_queryWidth, f_levelNow, f_pendingCount, f_nextCount, f_answerCount, f_failureCount, f_cutCount, f_trailTop, f_callsDone, f_choicesLeft, f_neqCount, f_workTop, f_walkTop, f_loaded, f_numberedCount, f_endUnknownCount, f_constraintsReady, f_relevantMask, f_keptCount, a_termKind, a_termLeft, a_termRight, a_termSize, a_goalKind, a_goalFirst, a_goalSecond, a_goalThird, a_goalFourth, a_goalSize, a_relationGoal, a_pendingPath, a_nextPath, a_answerPath, a_link, a_trail, a_neqLeft, a_neqRight, a_workGoal, a_workFrame, a_stackA, a_stackB, a_walk, a_numberOf, a_numbered, a_endUnknown, a_implied, a_kept, a_sightings, a_lastSeen) (nI (704 + v)) (nI pos) := by
  by_cases h31 : pos ≤ 31
  · refine br_t (nI_le (b := 31) h31 (by decide)) ?_
    cases S with
    | nil => exact absurd (show [704 + v] = [] from hK) (by simp)
    | cons t l =>
      obtain ⟨n, st', e0, e1, e2⟩ := hK
      injection e0 with e3 e4
      subst e3 e4
      rw [List.length_cons] at hS
      refine xw_startWalk ?_
      refine xw_nextNode (n := 704 + v) (st := []) hT hR hL (by omega) ⟨if_pos rfl, trivial⟩ (by simp) (fun a_walk hW' => ⟨34, ?_⟩)
      refine xw_nodeAt_21 (S := t :: l) hT hR hL h31 k1 k0 l (rs_rt T (rs_lk a_link) (704 + v)) _ 0 34 a_walk (rs_rt_lt hT.1 hL (by omega)) (rs_rt_root hT.1 hL (by omega)) ?_ hW' e2 (by omega) (by omega) (by rw [List.length_cons]; omega) (fun m => by rw [Nat.zero_add, ← e1]) (by omega)
      intro x hx1
      rcases List.mem_append.mp hx1 with z | z
      · exact rs_kd_lt hT.1 z
      · exact absurd z List.not_mem_nil
  · exact br_f (nI_ge (a := 31) (by omega) hp) (k0 (by omega) _ _)
theorem xw_termToken {post : Int32 → Prop} {r : Nat} (hT : rs_TA T a_termKind a_termLeft a_termRight) (hr : r < 704) (h : post (nI (rs_tkn T r))) : wpX_termToken post (f_kindSymbol, f_kindSlot, f_kindPair, f_goalEq, f_goalNeq, f_goalBoth, f_goalEither, f_goalCall, f_goOn, f_outAnswer, f_outFailure, f_outCut, f_outPending, f_firstVariable, f_maxLevel, f_maxCalls, f_maxSize, f_termCount, f_goalCount, f_searching, f_queryGoal, f_queryWidth, f_levelNow, f_pendingCount, f_nextCount, f_answerCount, f_failureCount, f_cutCount, f_trailTop, f_callsDone, f_choicesLeft, f_neqCount, f_workTop, f_walkTop, f_loaded, f_numberedCount, f_endUnknownCount, f_constraintsReady, f_relevantMask, f_keptCount, a_termKind, a_termLeft, a_termRight, a_termSize, a_goalKind, a_goalFirst, a_goalSecond, a_goalThird, a_goalFourth, a_goalSize, a_relationGoal, a_pendingPath, a_nextPath, a_answerPath, a_link, a_trail, a_neqLeft, a_neqRight, a_workGoal, a_workFrame, a_stackA, a_stackB, a_walk, a_numberOf, a_numbered, a_endUnknown, a_implied, a_kept, a_sightings, a_lastSeen) (nI r) := by
  have kr := rs_TX_k hT.1 (t := r % 64) (by omega)
  refine nm_r (rs_and63 (by omega)) ⟨vp_in_nI (by omega) (by decide), ?_⟩
  rw [nI_clamp (n := r % 64) (by omega), (hT.2 (r % 64) (by omega)).1, (hT.2 (r % 64) (by omega)).2.1]
  unfold rs_tkn at h
  rw [if_neg (show ¬ 704 ≤ r by omega)] at h
  by_cases e : T.1 (r % 64) = 2
  · rw [if_pos e] at h
    exact br_t (by rw [e]; rfl) h
  · rw [if_neg e] at h
    refine br_f (fun z => e ((nI_eq (b := 2) (by omega) (by decide)).mp z)) ⟨vp_in_nI (by omega) (by decide), ?_⟩
    have e1 : 1 + nI (T.2.1 (r % 64)) = nI (1 + T.2.1 (r % 64)) := nI_add 1 _
    rw [e1]
    exact h
end
section
variable {g_maxLevel g_maxCalls g_maxSize g_terms g_goals g_searching g_query g_read g_level g_frames g_neqs g_numbered g_kept : Int32} {b_termToken b_termLen b_kind b_goalSize b_part b_relation b_outcome b_val b_len b_neqT b_neqU b_neqF b_stackGoal b_stackFrame b_buf b_bufLen b_tmp b_base b_baseLen b_num b_relevant b_implies b_keptAt : Nat → Int32}
variable {ts : Nat → List Nat} {G : rs_G} {tc gc q wd lv j ms mc : Nat} {oc : Nat → Nat} {σ : Nat → List Nat}
theorem yw_numberOf {post : Int32 → Prop} {acc : List Nat} {a : Nat} (hA : rs_A b_num 0 acc) (hl : acc.length ≤ 66) (hb : ∀ x, x ∈ acc → x < 66) (ha : a < 66) (h1 : a ∈ acc → post (nI (rs_ix a acc))) (h0 : a ∉ acc → post (-1)) : wpY_numberOf post (g_maxLevel, g_maxCalls, g_maxSize, g_terms, g_goals, g_searching, g_query, g_read, g_level, g_frames, g_neqs, nI acc.length, g_kept, b_termToken, b_termLen, b_kind, b_goalSize, b_part, b_relation, b_outcome, b_val, b_len, b_neqT, b_neqU, b_neqF, b_stackGoal, b_stackFrame, b_buf, b_bufLen, b_tmp, b_base, b_baseLen, b_num, b_relevant, b_implies, b_keptAt) (nI (100 + a)) := by
  have e1 : nI (100 + a) - 100 = nI a := by
    rw [show (100 : Int32) = nI 100 from rfl, pk_sub (by omega), Nat.add_sub_cancel_left]
  have key : ∀ (suf pre : List Nat) (n : Nat), acc = pre ++ suf → suf.length < n → a ∉ pre → wY_numberOf_2 post (nI (100 + a)) g_maxLevel g_maxCalls g_maxSize g_terms g_goals g_searching g_query g_read g_level g_frames g_neqs (nI acc.length) g_kept b_termToken b_termLen b_kind b_goalSize b_part b_relation b_outcome b_val b_len b_neqT b_neqU b_neqF b_stackGoal b_stackFrame b_buf b_bufLen b_tmp b_base b_baseLen b_num b_relevant b_implies b_keptAt n (nI pre.length) := by
    intro suf
    induction suf with
    | nil =>
      intro pre n e hn hp
      obtain ⟨n, rfl⟩ : ∃ m, n = m + 1 := ⟨n - 1, by omega⟩
      rw [List.append_nil] at e
      subst e
      exact br_t (nI_le (Nat.le_refl _) (by omega)) (h0 hp)
    | cons x suf ih =>
      intro pre n e hn hp
      obtain ⟨n, rfl⟩ : ∃ m, n = m + 1 := ⟨n - 1, by omega⟩
      have hlen : acc.length = pre.length + (suf.length + 1) := by rw [e, List.length_append, List.length_cons]
      have hx := hb x (by rw [e]; exact List.mem_append_right _ (List.mem_cons_self ..))
      have ex : b_num pre.length = nI x := by
        have h := hA
        rw [e] at h
        have := rs_A_mid h
        rwa [Nat.zero_add] at this
      refine br_f (nI_ge (by omega) (by omega)) ⟨vp_in_nI (by omega) (by decide), ?_⟩
      rw [nI_clamp (n := pre.length) (by omega), ex, e1]
      by_cases z : x = a
      · refine br_t (by rw [z]) ?_
        have hm : a ∈ acc := by rw [e, z]; exact List.mem_append_right _ (List.mem_cons_self ..)
        have := h1 hm
        have ei : rs_ix a acc = pre.length := by
          rw [e, z, show pre ++ a :: suf = (pre ++ [a]) ++ suf by rw [List.append_assoc]; rfl, rs_ix_app (List.mem_append_right _ (List.mem_cons_self ..)), rs_ix_new hp]
        rwa [ei] at this
      · refine br_f (fun y => z ((nI_eq (by omega) (by omega)).mp y)) (nm_r (nI_1 _) ?_)
        have key := ih (pre ++ [x]) n (by rw [e, List.append_assoc]; rfl) (by rw [List.length_cons] at hn; omega) (fun y => by
          rcases List.mem_append.mp y with y | y
          · exact hp y
          · rw [List.mem_singleton] at y; exact z y.symm)
        rw [List.length_append] at key
        exact key
  exact ⟨acc.length + 1, key acc [] _ rfl (by omega) List.not_mem_nil⟩
end
end
section
/-! nodes and unknowns of an answer -/
def rs_YL (tc : Nat) (ts : Nat → List Nat) (ms wd : Nat) (C : rs_V) (nf : Nat) (ne : List (List Nat × List Nat)) (σ : Nat → List Nat) (g_frames g_neqs g_numbered : Int32) (b_val b_len b_neqT b_neqU b_neqF b_num : Nat → Int32) : Prop :=
  g_frames = nI nf ∧ g_neqs = nI ne.length ∧ g_numbered = nI (rs_num σ wd).length ∧ rs_Y ms nf C σ ∧ rs_VA (6 * nf) σ b_val b_len ∧ ne.length ≤ 24 ∧ rs_NY tc nf ts ne b_neqT b_neqU b_neqF ∧ rs_A b_num 0 (rs_num σ wd)
theorem rs_num_in {s : Nat → List Nat} {v : Nat} : ∀ {wd w : Nat}, w < wd → 100 + v ∈ s w → v ∈ rs_num s wd := by
  have keep : ∀ (l acc : List Nat), v ∈ acc → v ∈ rs_nb acc l := by
    intro l
    induction l with
    | nil => intro acc h; exact h
    | cons t l ih =>
      intro acc h
      show v ∈ (if 100 ≤ t ∧ t - 100 ∉ acc then rs_nb (acc ++ [t - 100]) l else rs_nb acc l)
      split
      · exact ih _ (List.mem_append_left _ h)
      · exact ih _ h
  have add : ∀ (l acc : List Nat), 100 + v ∈ l → v ∈ rs_nb acc l := by
    intro l
    induction l with
    | nil => intro acc h; exact absurd h List.not_mem_nil
    | cons t l ih =>
      intro acc h
      rcases List.mem_cons.mp h with z | z
      · rw [← z]
        by_cases hm : v ∈ acc
        · rw [rs_nb_in hm]; exact keep _ _ hm
        · rw [rs_nb_new hm]; exact keep _ _ (List.mem_append_right _ (List.mem_cons_self ..))
      · show v ∈ (if 100 ≤ t ∧ t - 100 ∉ acc then rs_nb (acc ++ [t - 100]) l else rs_nb acc l)
        split
        · exact ih _ z
        · exact ih _ z
  intro wd
  induction wd with
  | zero => intro w hw; omega
  | succ wd ih =>
    intro w hw h
    show v ∈ rs_nb (rs_num s wd) (s wd)
    by_cases e : w = wd
    · subst e; exact add _ _ h
    · exact keep _ _ (ih (by omega) h)
theorem rs_WK_op {T : rs_T} {nf tt : Nat} {L : Nat → Option Nat} (hT : rs_TX T) (hL : rs_LK T nf L tt) : ∀ (l st : List Nat), (∀ n, n ∈ st → rs_op T nf n) → rs_WK T L st l → ∀ w, 100 + w ∈ l → w < 6 * nf
  | [], _, _, _, w, hw => absurd hw List.not_mem_nil
  | a :: l, st, hs, h, w, hw => by
    obtain ⟨n, st1, e0, e1, e2⟩ := h
    subst e0
    have hn := hs n (List.mem_cons_self ..)
    have ob := rs_rt_op hT hL hn
    have hf := hL.1
    rcases List.mem_cons.mp hw with z | z
    · rw [e1] at z
      by_cases h7 : rs_rt T L n < 704
      · have := rs_tkn_lo hT h7 (rs_rt_root hT hL (rs_op_lt hf hn))
        omega
      · rw [rs_tkn_hi (by omega)] at z
        rcases ob with ⟨y, _⟩ | y <;> omega
    · refine rs_WK_op hT hL l _ ?_ e2 w z
      intro x hx
      rcases List.mem_append.mp hx with y | y
      · exact rs_kd_op hT hf ob y
      · exact hs x (List.mem_cons_of_mem _ y)
theorem rs_LS_Mg {T : rs_T} {ms nf tt : Nat} {C : rs_V} {link : Nat → Int32} {s : Nat → List Nat} (hT : rs_TX T) (hX : rs_XL T ms C nf link tt) (hs : ∀ v, rs_WK T (rs_lk link) [704 + v] (s v)) : rs_Mg (6 * nf) C s := by
  refine ⟨rs_can_MG hT hX.2.2.1 hX.2.2.2.1 hs hX.2.2.2.2.1, ?_⟩
  intro x hx w hw
  refine rs_WK_op hT hX.2.2.1 (s x) [704 + x] ?_ (hs x) w hw
  intro n hn
  rw [List.mem_singleton] at hn
  exact Or.inr (by omega)
theorem rs_Y_Mg {ms nf : Nat} {C : rs_V} {σ : Nat → List Nat} (h : rs_Y ms nf C σ) : rs_Mg (6 * nf) C σ := by
  refine ⟨rs_Y_MG h, ?_⟩
  intro x hx w hw
  rcases h.2.2.2.1 x _ hx hw with z | ⟨u, z1, z2, _⟩ <;> omega
theorem rs_perf_nf {G : rs_G} {p g f nf lf : Nat} {C : rs_V} {ne : List (List Nat × List Nat)} {st : List (Nat × Nat)} (ts : Nat → List Nat) : (rs_perf ts G p g f C nf ne st lf).1 = 0 ∨ (rs_perf ts G p g f C nf ne st lf).2.2.1 = nf := by
  unfold rs_perf
  split
  · unfold rs_pEq
    by_cases y : ¬ rs_Sat G.2.2.2.2.2.2.2.2 (6 * nf) (rs_eqC C (rs_sh f (ts (G.2.1 g))) (rs_sh f (ts (G.2.2.1 g)))) ∨ ∃ d, d ∈ ne ∧ rs_Same (rs_eqC C (rs_sh f (ts (G.2.1 g))) (rs_sh f (ts (G.2.2.1 g)))) d.1 d.2
    · rw [rs_if_t y]; exact Or.inr rfl
    · rw [rs_if_f y]; exact Or.inr rfl
  · split
    · unfold rs_pNeq
      split
      · exact Or.inr rfl
      · by_cases y : rs_Same C (rs_sh f (ts (G.2.1 g))) (rs_sh f (ts (G.2.2.1 g)))
        · rw [rs_if_t y]; exact Or.inr rfl
        · rw [rs_if_f y]; exact Or.inr rfl
    · split
      · exact Or.inr rfl
      · split
        · unfold rs_pEi
          split
          · exact Or.inr rfl
          · exact Or.inr rfl
        · unfold rs_pCall
          split
          · exact Or.inr rfl
          · split
            · exact Or.inr rfl
            · by_cases y : rs_Sat G.2.2.2.2.2.2.2.2 (6 * (nf + 1)) (rs_callC C (6 * nf) (rs_sh f (ts (G.2.2.1 g))) (rs_sh f (ts (G.2.2.2.1 g))) (rs_sh f (ts (G.2.2.2.2.1 g))))
              · rw [rs_if_t y]; exact Or.inl rfl
              · rw [rs_if_f y]; exact Or.inr rfl
theorem rs_path_nf {tc gc q : Nat} {G : rs_G} (ts : Nat → List Nat) (hG : rs_GX tc gc G) (hq : q < gc) (p : Nat) : 1 ≤ (rs_path ts G q p).2.2.1 ∧ (rs_path ts G q p).2.2.1 ≤ 11 := by
  have hm := hG.2.2.2.1
  have key : ∀ (n : Nat) (C : rs_V) (nf : Nat) (ne : List (List Nat × List Nat)) (st : List (Nat × Nat)) (lf : Nat), rs_RI gc G n nf st → 1 ≤ (rs_run ts G p n C nf ne st lf).2.2.1 ∧ (rs_run ts G p n C nf ne st lf).2.2.1 ≤ 11 := by
    intro n
    induction n with
    | zero =>
      intro C nf ne st lf h
      have h1 := h.1
      have h2 := h.2.1
      show 1 ≤ nf ∧ nf ≤ 11
      omega
    | succ n ih =>
      intro C nf ne st lf h
      have h1 := h.1
      have h2 := h.2.1
      cases st with
      | nil =>
        show 1 ≤ nf ∧ nf ≤ 11
        omega
      | cons gf st =>
        obtain ⟨g, f⟩ := gf
        unfold rs_run
        by_cases z : (rs_perf ts G p g f C nf ne st lf).1 = 0
        · rw [if_pos z]; exact ih _ _ _ _ _ (rs_perf_RI hG h z)
        · rw [if_neg z]
          have := (rs_perf_nf (G := G) (p := p) (g := g) (f := f) (nf := nf) (lf := lf) (C := C) (ne := ne) (st := st) ts).resolve_left z
          rw [this]
          omega
  exact key 165 _ _ _ _ _ (rs_RI_0 hG hq)
section
variable {g_maxLevel g_maxCalls g_maxSize g_terms g_goals g_searching g_query g_read g_level g_frames g_neqs g_numbered g_kept : Int32} {b_termToken b_termLen b_kind b_goalSize b_part b_relation b_outcome b_val b_len b_neqT b_neqU b_neqF b_stackGoal b_stackFrame b_buf b_bufLen b_tmp b_base b_baseLen b_num b_relevant b_implies b_keptAt : Nat → Int32}
variable {ts : Nat → List Nat} {G : rs_G} {tc gc q wd lv j ms mc nf : Nat} {oc : Nat → Nat} {σ : Nat → List Nat} {C : rs_V}
theorem yw_load_36 {post : Int32 → SY → Prop} {J : Int32 → Int32 → (Nat → Int32) → (Nat → Int32) → (Nat → Int32) → (Nat → Int32) → (Nat → Int32) → (Nat → Int32) → (Nat → Int32) → (Nat → Int32) → (Nat → Int32) → (Nat → Int32) → (Nat → Int32) → (Nat → Int32) → (Nat → Int32) → (Nat → Int32) → (Nat → Int32) → (Nat → Int32) → (Nat → Int32) → (Nat → Int32) → (Nat → Int32) → (Nat → Int32) → (Nat → Int32) → (Nat → Int32) → (Nat → Int32) → Prop} {x2 : Int32} {v : Nat} {L : List Nat} (hf : nf ≤ 11) (hms : ms ≤ 31) (hY : rs_Y ms nf C σ) (hV : rs_VA (6 * nf) σ b_val b_len) (hv : v < 6 * nf)
    (k : ∀ b_num, rs_A b_num 0 L → L.Nodup → (∀ a, a ∈ L → a < 66) → J (nI (v + 1)) (nI L.length) b_termToken b_termLen b_kind b_goalSize b_part b_relation b_outcome b_val b_len b_neqT b_neqU b_neqF b_stackGoal b_stackFrame b_buf b_bufLen b_tmp b_base b_baseLen b_num b_relevant b_implies b_keptAt) :
    ∀ (suf pre : List Nat) (n : Nat) (acc : List Nat) (b_num : Nat → Int32), σ v = pre ++ suf → suf.length < n → rs_A b_num 0 acc → acc.Nodup → (∀ a, a ∈ acc → a < 66) → rs_nb acc suf = L → wY_load_36 post J x2 (nI v) g_maxLevel g_maxCalls g_maxSize g_terms g_goals g_searching g_query g_read g_level g_frames g_neqs g_kept n (nI pre.length) (nI acc.length) b_termToken b_termLen b_kind b_goalSize b_part b_relation b_outcome b_val b_len b_neqT b_neqU b_neqF b_stackGoal b_stackFrame b_buf b_bufLen b_tmp b_base b_baseLen b_num b_relevant b_implies b_keptAt := by
  obtain ⟨a1, a2, a3⟩ := hV v hv
  intro suf
  induction suf with
  | nil =>
    intro pre n acc b_num e hn hA hnd hlt hE
    obtain ⟨n, rfl⟩ : ∃ m, n = m + 1 := ⟨n - 1, by omega⟩
    rw [List.append_nil] at e
    subst e
    have hE' : acc = L := hE
    subst hE'
    refine ⟨vp_in_nI (by omega) (by decide), ?_⟩
    rw [nI_clamp (n := v) (by omega), a1]
    exact br_t (nI_le (Nat.le_refl _) (by omega)) (nm_r (nI_1 v) (k b_num hA hnd hlt))
  | cons x suf ih =>
    intro pre n acc b_num e hn hA hnd hlt hE
    obtain ⟨n, rfl⟩ : ∃ m, n = m + 1 := ⟨n - 1, by omega⟩
    have hlen : (σ v).length = pre.length + (suf.length + 1) := by rw [e, List.length_append, List.length_cons]
    have hal := rs_nd_len hnd hlt
    have ex : b_val (31 * v + pre.length) = nI x := by
      have h := a2
      rw [e] at h
      exact rs_A_mid h
    have hpl : (pre ++ [x]).length = pre.length + 1 := by rw [List.length_append]; rfl
    have key := fun acc b_num => ih (pre ++ [x]) n acc b_num (by rw [e, List.append_assoc]; rfl) (by rw [List.length_cons] at hn; omega)
    rw [hpl] at key
    refine ⟨vp_in_nI (by omega) (by decide), ?_⟩
    rw [nI_clamp (n := v) (by omega), a1, rs_n31]
    refine br_f (nI_ge (by omega) (by omega)) ⟨vp_in_nI (by omega) (by decide), nm_r (e' := nI x) (by rw [nI_clamp (by omega)]; exact ex) ?_⟩
    rcases hY.2.2.2.1 v x hv (by rw [e]; exact List.mem_append_right _ (List.mem_cons_self ..)) with z | ⟨w, w1, w2, _⟩
    · rw [rs_nb_lo (by omega)] at hE
      exact br_t (nI_lt (b := 100) (by omega) (by decide)) (nm_r (nI_1 _) (key acc b_num hA hnd hlt hE))
    · subst w2
      refine br_f (nI_nlt (b := 100) (by omega) (by omega)) ?_
      refine yw_numberOf (acc := acc) hA hal hlt (by omega) (fun hm => ?_) (fun hm => ?_)
      · rw [rs_nb_in hm] at hE
        have := rs_ix_mem.mp hm
        exact br_t (nI_pos' (by omega)) (nm_r (nI_1 _) (key acc b_num hA hnd hlt hE))
      · rw [rs_nb_new hm] at hE
        have hlt' : ∀ a, a ∈ acc ++ [w] → a < 66 := by
          intro a ha
          rcases List.mem_append.mp ha with z | z
          · exact hlt a z
          · rw [List.mem_singleton] at z; omega
        have hnd' := rs_nd_snoc hnd hm
        have hal' := rs_nd_len hnd' hlt'
        rw [List.length_append, List.length_singleton] at hal'
        have e1 : nI (100 + w) - 100 = nI w := by
          rw [show (100 : Int32) = nI 100 from rfl, pk_sub (by omega), Nat.add_sub_cancel_left]
        refine br_f (by decide) ⟨vp_in_nI (by omega) (by decide), nm_r (e' := upd b_num acc.length (nI w)) (by rw [nI_clamp (by omega), e1]) (nm_r (nI_1 _) (nm_r (nI_1 _) ?_))⟩
        have k2 := key (acc ++ [w]) (upd b_num acc.length (nI w)) (by
          have := rs_A_snoc (x := w) hA rfl
          rwa [Nat.zero_add] at this) hnd' hlt' hE
        rw [List.length_append] at k2
        exact k2
theorem yw_load_1 {post : Int32 → SY → Prop} (hT : rs_TB tc ts b_termToken b_termLen) (hG : rs_GB gc G b_kind b_part b_relation) (hGX : rs_GX tc gc G) (htc : tc ≤ 64) (hgc : gc ≤ 48) (ems : G.2.2.2.2.2.2.2.2 = ms) (emc : G.2.2.2.2.2.2.2.1 = mc) (hq : q < gc) (w2 : wd ≤ 6)
    (hOC : rs_OC ts G q lv oc) (hO : ∀ p, p < 256 → b_outcome p = nI (oc p)) (hj : j < (rs_sel oc 1).length)
    (h : ∀ (σ : Nat → List Nat) (g_frames g_neqs : Int32) (b_val b_len b_neqT b_neqU b_neqF b_stackGoal b_stackFrame b_buf b_bufLen b_tmp : Nat → Int32) (g_numbered : Int32) (b_num : Nat → Int32), rs_YL tc ts ms wd (rs_path ts G q ((rs_sel oc 1).getD j 0)).2.1 (rs_path ts G q ((rs_sel oc 1).getD j 0)).2.2.1 (rs_path ts G q ((rs_sel oc 1).getD j 0)).2.2.2.1 σ g_frames g_neqs g_numbered b_val b_len b_neqT b_neqU b_neqF b_num → post (nI ((rs_sel oc 1).getD j 0)) (g_maxLevel, nI mc, nI ms, g_terms, g_goals, 1, nI q, nI wd, g_level, g_frames, g_neqs, g_numbered, g_kept, b_termToken, b_termLen, b_kind, b_goalSize, b_part, b_relation, b_outcome, b_val, b_len, b_neqT, b_neqU, b_neqF, b_stackGoal, b_stackFrame, b_buf, b_bufLen, b_tmp, b_base, b_baseLen, b_num, b_relevant, b_implies, b_keptAt)) :
    wpY_load post (g_maxLevel, nI mc, nI ms, g_terms, g_goals, 1, nI q, nI wd, g_level, g_frames, g_neqs, g_numbered, g_kept, b_termToken, b_termLen, b_kind, b_goalSize, b_part, b_relation, b_outcome, b_val, b_len, b_neqT, b_neqU, b_neqF, b_stackGoal, b_stackFrame, b_buf, b_bufLen, b_tmp, b_base, b_baseLen, b_num, b_relevant, b_implies, b_keptAt) (nI j) := by
  obtain ⟨p1, p2, p3⟩ := rs_sel_path hOC hj
  unfold wpY_load
  refine yw_path_1 hOC.1 hO (fun p hp => rs_OC_le hOC hp) hj ?_
  refine br_t (nI_pos' (by omega)) ?_
  refine yw_run hT hG hGX htc hgc ems emc p2 p1 hq ?_
  intro g_frames g_neqs b_val b_len b_neqT b_neqU b_neqF b_stackGoal b_stackFrame b_buf b_bufLen b_tmp hYR
  have hYR := hYR p3
  have hm4 := hGX.2.2.2.2.2
  have hnf0 := rs_path_nf ts hGX hq ((rs_sel oc 1).getD j 0)
  generalize (rs_path ts G q ((rs_sel oc 1).getD j 0)) = R at *
  obtain ⟨o, C, nf, ne, st, lf⟩ := R
  obtain ⟨σ, rfl, rfl, hY, hV, hn, hN⟩ := hYR
  have hY : rs_Y ms nf C σ := hY
  have hV : rs_VA (6 * nf) σ b_val b_len := hV
  have hnf : nf ≤ 11 ∧ 1 ≤ nf := ⟨hnf0.2, hnf0.1⟩
  have key : ∀ (d w : Nat) (b_num : Nat → Int32), w + d = wd → rs_A b_num 0 (rs_num σ w) → (rs_num σ w).Nodup → (∀ a, a ∈ rs_num σ w → a < 66) → wY_load_25 post (nI ((rs_sel oc 1).getD j 0)) g_maxLevel (nI mc) (nI ms) g_terms g_goals 1 (nI q) (nI wd) g_level (nI nf) (nI ne.length) g_kept (d + 1) (nI w) (nI (rs_num σ w).length) b_termToken b_termLen b_kind b_goalSize b_part b_relation b_outcome b_val b_len b_neqT b_neqU b_neqF b_stackGoal b_stackFrame b_buf b_bufLen b_tmp b_base b_baseLen b_num b_relevant b_implies b_keptAt := by
    intro d
    induction d with
    | zero =>
      intro w b_num hw hA _ _
      obtain rfl : w = wd := by omega
      exact br_t (nI_le (Nat.le_refl _) (by omega)) (h σ _ _ _ _ _ _ _ _ _ _ _ _ _ _ ⟨rfl, rfl, rfl, hY, hV, hn, hN, hA⟩)
    | succ d ih =>
      intro w b_num hw hA hnd hlt
      refine br_f (nI_ge (by omega) (by omega)) ⟨(σ w).length + 1, ?_⟩
      exact yw_load_36 hnf.1 (by omega) hY hV (by omega) (fun b_num hA' hnd' hlt' => ih (w + 1) b_num (by omega) hA' hnd' hlt') (σ w) [] _ (rs_num σ w) b_num rfl (by omega) hA hnd hlt rfl
  exact ⟨wd + 1, key wd 0 b_num (by omega) rs_A_nil List.nodup_nil (fun a ha => absurd ha List.not_mem_nil)⟩
theorem yw_load_0 {post : Int32 → SY → Prop} {v : Int32} (hOC : rs_OC ts G q lv oc) (hO : ∀ p, p < 256 → b_outcome p = nI (oc p)) (hv : v < 0 ∨ nI (rs_sel oc 1).length ≤ v) (h : post (-1) (g_maxLevel, g_maxCalls, g_maxSize, g_terms, g_goals, 1, g_query, g_read, g_level, g_frames, g_neqs, g_numbered, g_kept, b_termToken, b_termLen, b_kind, b_goalSize, b_part, b_relation, b_outcome, b_val, b_len, b_neqT, b_neqU, b_neqF, b_stackGoal, b_stackFrame, b_buf, b_bufLen, b_tmp, b_base, b_baseLen, b_num, b_relevant, b_implies, b_keptAt)) : wpY_load post (g_maxLevel, g_maxCalls, g_maxSize, g_terms, g_goals, 1, g_query, g_read, g_level, g_frames, g_neqs, g_numbered, g_kept, b_termToken, b_termLen, b_kind, b_goalSize, b_part, b_relation, b_outcome, b_val, b_len, b_neqT, b_neqU, b_neqF, b_stackGoal, b_stackFrame, b_buf, b_bufLen, b_tmp, b_base, b_baseLen, b_num, b_relevant, b_implies, b_keptAt) v := by
  unfold wpY_load
  exact yw_path_0 hOC.1 hO (fun p hp => rs_OC_le hOC hp) hv (br_f (by decide) h)
theorem yw_load_n {post : Int32 → SY → Prop} {v : Int32} (h : post (-4) (g_maxLevel, g_maxCalls, g_maxSize, g_terms, g_goals, 0, g_query, g_read, g_level, g_frames, g_neqs, g_numbered, g_kept, b_termToken, b_termLen, b_kind, b_goalSize, b_part, b_relation, b_outcome, b_val, b_len, b_neqT, b_neqU, b_neqF, b_stackGoal, b_stackFrame, b_buf, b_bufLen, b_tmp, b_base, b_baseLen, b_num, b_relevant, b_implies, b_keptAt)) : wpY_load post (g_maxLevel, g_maxCalls, g_maxSize, g_terms, g_goals, 0, g_query, g_read, g_level, g_frames, g_neqs, g_numbered, g_kept, b_termToken, b_termLen, b_kind, b_goalSize, b_part, b_relation, b_outcome, b_val, b_len, b_neqT, b_neqU, b_neqF, b_stackGoal, b_stackFrame, b_buf, b_bufLen, b_tmp, b_base, b_baseLen, b_num, b_relevant, b_implies, b_keptAt) v := by
  unfold wpY_load
  exact br_t rfl (br_f (by decide) h)
end
end
section
/-! unknowns, node, compare -/
theorem rs_lk_congr {l l' : Nat → Int32} (h : ∀ n, n < 770 → l' n = l n) : rs_lk l' = rs_lk l := by
  funext n
  unfold rs_lk
  by_cases hn : n < 770
  · rw [h n hn]
  · rw [if_neg (fun z => hn z.1), if_neg (fun z => hn z.1)]
theorem rs_XL_congr {T : rs_T} {ms nf tt : Nat} {C : rs_V} {l l' : Nat → Int32} (h : ∀ n, n < 770 → l' n = l n) (hX : rs_XL T ms C nf l tt) : rs_XL T ms C nf l' tt := by
  obtain ⟨h1, h2, h3⟩ := hX
  refine ⟨h1, fun n hn => by rw [h n hn]; exact h2 n hn, ?_⟩
  rw [rs_lk_congr h]
  exact h3
theorem rs_eu_congr {nf : Nat} {l l' : Nat → Int32} (h : ∀ n, n < 770 → l' n = l n) : rs_eu nf l' = rs_eu nf l := by
  unfold rs_eu
  rw [rs_lk_congr h]
theorem rs_LS_congr {T : rs_T} {ms wd nf : Nat} {C : rs_V} {ne : List (List Nat × List Nat)} {f_trailTop f_callsDone f_neqCount f_numberedCount f_endUnknownCount : Int32} {l l' a_neqLeft a_neqRight a_numberOf a_numbered a_endUnknown : Nat → Int32} (h : ∀ n, n < 770 → l' n = l n) (hLS : rs_LS T ms wd C nf ne f_trailTop f_callsDone f_neqCount f_numberedCount f_endUnknownCount l a_neqLeft a_neqRight a_numberOf a_numbered a_endUnknown) :
    rs_LS T ms wd C nf ne f_trailTop f_callsDone f_neqCount f_numberedCount f_endUnknownCount l' a_neqLeft a_neqRight a_numberOf a_numbered a_endUnknown := by
  obtain ⟨tt, s, e1, e2, e3, e4, e5, e6, e7, e8, e9, e10⟩ := hLS
  refine ⟨tt, s, e1, e2, e3, rs_XL_congr h e4, e5, e6, ?_, e8, ?_, ?_⟩
  · rw [rs_lk_congr h]; exact e7
  · rw [rs_eu_congr h]; exact e9
  · rw [rs_eu_congr h]; exact e10
section
variable {f_kindSymbol f_kindSlot f_kindPair f_goalEq f_goalNeq f_goalBoth f_goalEither f_goalCall f_goOn f_outAnswer f_outFailure f_outCut f_outPending f_firstVariable f_maxLevel f_maxCalls f_maxSize f_termCount f_goalCount f_searching f_queryGoal f_queryWidth f_levelNow f_pendingCount f_nextCount f_answerCount f_failureCount f_cutCount f_trailTop f_callsDone f_choicesLeft f_neqCount f_workTop f_walkTop f_loaded f_numberedCount f_endUnknownCount f_constraintsReady f_relevantMask f_keptCount : Int32} {a_termKind a_termLeft a_termRight a_termSize a_goalKind a_goalFirst a_goalSecond a_goalThird a_goalFourth a_goalSize a_relationGoal a_pendingPath a_nextPath a_answerPath a_link a_trail a_neqLeft a_neqRight a_workGoal a_workFrame a_stackA a_stackB a_walk a_numberOf a_numbered a_endUnknown a_implied a_kept a_sightings a_lastSeen : Nat → Int32}
variable {g_maxLevel g_maxCalls g_maxSize g_terms g_goals g_searching g_query g_read g_level g_frames g_neqs g_numbered g_kept : Int32} {b_termToken b_termLen b_kind b_goalSize b_part b_relation b_outcome b_val b_len b_neqT b_neqU b_neqF b_stackGoal b_stackFrame b_buf b_bufLen b_tmp b_base b_baseLen b_num b_relevant b_implies b_keptAt : Nat → Int32}
variable {k : Nat}
theorem xw_undoTo {post : SX → Prop} {m tt : Nat} {L0 : Nat → Int32} (hTR : rs_TR L0 m a_link a_trail tt) (h : ∀ a_link, (∀ n, n < 770 → a_link n = L0 n) → post (f_kindSymbol, f_kindSlot, f_kindPair, f_goalEq, f_goalNeq, f_goalBoth, f_goalEither, f_goalCall, f_goOn, f_outAnswer, f_outFailure, f_outCut, f_outPending, f_firstVariable, f_maxLevel, f_maxCalls, f_maxSize, f_termCount, f_goalCount, f_searching, f_queryGoal, f_queryWidth, f_levelNow, f_pendingCount, f_nextCount, f_answerCount, f_failureCount, f_cutCount, nI m, f_callsDone, f_choicesLeft, f_neqCount, f_workTop, f_walkTop, f_loaded, f_numberedCount, f_endUnknownCount, f_constraintsReady, f_relevantMask, f_keptCount, a_termKind, a_termLeft, a_termRight, a_termSize, a_goalKind, a_goalFirst, a_goalSecond, a_goalThird, a_goalFourth, a_goalSize, a_relationGoal, a_pendingPath, a_nextPath, a_answerPath, a_link, a_trail, a_neqLeft, a_neqRight, a_workGoal, a_workFrame, a_stackA, a_stackB, a_walk, a_numberOf, a_numbered, a_endUnknown, a_implied, a_kept, a_sightings, a_lastSeen)) : wpX_undoTo post (f_kindSymbol, f_kindSlot, f_kindPair, f_goalEq, f_goalNeq, f_goalBoth, f_goalEither, f_goalCall, f_goOn, f_outAnswer, f_outFailure, f_outCut, f_outPending, f_firstVariable, f_maxLevel, f_maxCalls, f_maxSize, f_termCount, f_goalCount, f_searching, f_queryGoal, f_queryWidth, f_levelNow, f_pendingCount, f_nextCount, f_answerCount, f_failureCount, f_cutCount, nI tt, f_callsDone, f_choicesLeft, f_neqCount, f_workTop, f_walkTop, f_loaded, f_numberedCount, f_endUnknownCount, f_constraintsReady, f_relevantMask, f_keptCount, a_termKind, a_termLeft, a_termRight, a_termSize, a_goalKind, a_goalFirst, a_goalSecond, a_goalThird, a_goalFourth, a_goalSize, a_relationGoal, a_pendingPath, a_nextPath, a_answerPath, a_link, a_trail, a_neqLeft, a_neqRight, a_workGoal, a_workFrame, a_stackA, a_stackB, a_walk, a_numberOf, a_numbered, a_endUnknown, a_implied, a_kept, a_sightings, a_lastSeen) (nI m) := by
  obtain ⟨h1, h2, h3, h4⟩ := hTR
  have key : ∀ (d i : Nat) (a_link : Nat → Int32), m + d = i → i ≤ tt → (∀ n, n < 770 → a_link n = L0 n ∨ ∃ j, m ≤ j ∧ j < i ∧ a_trail j = nI n) → wX_undoTo_7 post (nI m) f_kindSymbol f_kindSlot f_kindPair f_goalEq f_goalNeq f_goalBoth f_goalEither f_goalCall f_goOn f_outAnswer f_outFailure f_outCut f_outPending f_firstVariable f_maxLevel f_maxCalls f_maxSize f_termCount f_goalCount f_searching f_queryGoal f_queryWidth f_levelNow f_pendingCount f_nextCount f_answerCount f_failureCount f_cutCount (nI tt) f_callsDone f_choicesLeft f_neqCount f_workTop f_walkTop f_loaded f_numberedCount f_endUnknownCount f_constraintsReady f_relevantMask f_keptCount (d + 1) (nI i - 1) a_termKind a_termLeft a_termRight a_termSize a_goalKind a_goalFirst a_goalSecond a_goalThird a_goalFourth a_goalSize a_relationGoal a_pendingPath a_nextPath a_answerPath a_link a_trail a_neqLeft a_neqRight a_workGoal a_workFrame a_stackA a_stackB a_walk a_numberOf a_numbered a_endUnknown a_implied a_kept a_sightings a_lastSeen := by
    intro d
    induction d with
    | zero =>
      intro i a_link hi hit hL
      obtain rfl : m = i := by omega
      refine br_t ?_ (h a_link (fun n hn => ?_))
      · rcases Nat.eq_zero_or_pos m with z | z
        · rw [z]; decide
        · obtain ⟨m', rfl⟩ : ∃ m', m = m' + 1 := ⟨m - 1, by omega⟩
          rw [nI_pred]
          exact nI_lt (by omega) (by omega)
      · rcases hL n hn with z | ⟨j, j1, j2, _⟩
        · exact z
        · omega
    | succ d ih =>
      intro i a_link hi hit hL
      obtain ⟨i, rfl⟩ : ∃ i', i = i' + 1 := ⟨i - 1, by omega⟩
      obtain ⟨n0, n1, n2, n3⟩ := h3 i (by omega) (by omega)
      rw [nI_pred]
      refine br_f (nI_nlt (by omega) (by omega)) ⟨vp_in_nI (by omega) (by decide), ?_⟩
      rw [nI_clamp (n := i) (by omega), n2]
      refine ⟨vp_in_nI n1 (by decide), nm_r (e' := upd a_link n0 (-1)) (by rw [nI_clamp (by omega)]) (nm_r (e' := nI i - 1) (by rw [Int32.sub_eq_add_neg]) (ih i _ (by omega) (by omega) ?_))⟩
      intro n hn
      by_cases e : n = n0
      · left
        rw [e]
        exact (if_pos rfl).trans n3.symm
      · rw [show upd a_link n0 (-1) n = a_link n from if_neg e]
        rcases hL n hn with z | ⟨j, j1, j2, j3⟩
        · exact Or.inl z
        · refine Or.inr ⟨j, j1, ?_, j3⟩
          rcases Nat.lt_or_ge j i with w | w
          · exact w
          · obtain rfl : j = i := by omega
            rw [n2] at j3
            exact absurd ((nI_eq (by omega) (by omega)).mp j3).symm e
  refine nm_e ⟨tt - m + 1, key (tt - m) tt a_link (by omega) (Nat.le_refl _) (fun n _ => h4 n)⟩
theorem vc_unknowns (h : rs_REL f_kindSymbol f_kindSlot f_kindPair f_goalEq f_goalNeq f_goalBoth f_goalEither f_goalCall f_goOn f_outAnswer f_outFailure f_outCut f_outPending f_firstVariable f_maxLevel f_maxCalls f_maxSize f_termCount f_goalCount f_searching f_queryGoal f_queryWidth f_levelNow f_pendingCount f_nextCount f_answerCount f_failureCount f_cutCount f_trailTop f_callsDone f_choicesLeft f_neqCount f_workTop f_walkTop f_loaded f_numberedCount f_endUnknownCount f_constraintsReady f_relevantMask f_keptCount a_termKind a_termLeft a_termRight a_termSize a_goalKind a_goalFirst a_goalSecond a_goalThird a_goalFourth a_goalSize a_relationGoal a_pendingPath a_nextPath a_answerPath a_link a_trail a_neqLeft a_neqRight a_workGoal a_workFrame a_stackA a_stackB a_walk a_numberOf a_numbered a_endUnknown a_implied a_kept a_sightings a_lastSeen g_maxLevel g_maxCalls g_maxSize g_terms g_goals g_searching g_query g_read g_level g_frames g_neqs g_numbered g_kept b_termToken b_termLen b_kind b_goalSize b_part b_relation b_outcome b_val b_len b_neqT b_neqU b_neqF b_stackGoal b_stackFrame b_buf b_bufLen b_tmp b_base b_baseLen b_num b_relevant b_implies b_keptAt) (v1 : Int32) : wpX_unknowns (fun r u' => wpY_unknowns (fun r' v' => r' = r ∧ i_Rel k u' v') (g_maxLevel, g_maxCalls, g_maxSize, g_terms, g_goals, g_searching, g_query, g_read, g_level, g_frames, g_neqs, g_numbered, g_kept, b_termToken, b_termLen, b_kind, b_goalSize, b_part, b_relation, b_outcome, b_val, b_len, b_neqT, b_neqU, b_neqF, b_stackGoal, b_stackFrame, b_buf, b_bufLen, b_tmp, b_base, b_baseLen, b_num, b_relevant, b_implies, b_keptAt) v1) (f_kindSymbol, f_kindSlot, f_kindPair, f_goalEq, f_goalNeq, f_goalBoth, f_goalEither, f_goalCall, f_goOn, f_outAnswer, f_outFailure, f_outCut, f_outPending, f_firstVariable, f_maxLevel, f_maxCalls, f_maxSize, f_termCount, f_goalCount, f_searching, f_queryGoal, f_queryWidth, f_levelNow, f_pendingCount, f_nextCount, f_answerCount, f_failureCount, f_cutCount, f_trailTop, f_callsDone, f_choicesLeft, f_neqCount, f_workTop, f_walkTop, f_loaded, f_numberedCount, f_endUnknownCount, f_constraintsReady, f_relevantMask, f_keptCount, a_termKind, a_termLeft, a_termRight, a_termSize, a_goalKind, a_goalFirst, a_goalSecond, a_goalThird, a_goalFourth, a_goalSize, a_relationGoal, a_pendingPath, a_nextPath, a_answerPath, a_link, a_trail, a_neqLeft, a_neqRight, a_workGoal, a_workFrame, a_stackA, a_stackB, a_walk, a_numberOf, a_numbered, a_endUnknown, a_implied, a_kept, a_sightings, a_lastSeen) v1 := by
  have hR := h
  obtain ⟨T, G, gc, ml, hW, hX, hY, hS⟩ := h
  obtain rfl := hX.2.1
  obtain rfl := hX.2.2.1
  obtain rfl := hY.2.1
  obtain rfl := hY.2.2.1
  have hgc := hW.2.2.2.1
  have htc := hW.2.2.1
  obtain ⟨rfl, hS⟩ := hS
  unfold wpX_unknowns
  rcases hS with rfl | ⟨rfl, q, wd, lv, oc, hSS, hLO⟩
  · refine br_t rfl (br_f (by decide) ?_)
    show wpY_unknowns _ _ _
    unfold wpY_unknowns
    exact yw_load_n (br_f (by decide) ⟨rfl, hR⟩)
  · have hSS' := hSS
    obtain ⟨hq, w1, w2, hlv, hOC, rfl, rfl, rfl, rfl, rfl, rfl, rfl, hpp, hans, rfl, rfl, rfl, hO⟩ := hSS
    have hl := rs_sel_len oc 1
    rcases rs_dec v1 (n := (rs_sel oc 1).length) (by omega) with hv | ⟨j, hj, rfl⟩
    · refine xw_check_0 hv (br_f (by decide) ?_)
      show wpY_unknowns _ _ _
      unfold wpY_unknowns
      exact yw_load_0 hOC hO hv (br_f (by decide) ⟨rfl, hR⟩)
    · refine xw_check_1 hj hl (br_t rfl ?_)
      refine xw_load hX.2.2.2.2.2.1 hX.2.2.2.2.2.2.2.1 hW.2.2.2.2.2 htc hgc rfl rfl hq w2 hOC hans hj hLO ?_
      intro f_trailTop f_callsDone f_choicesLeft f_neqCount f_workTop f_walkTop f_numberedCount f_endUnknownCount f_constraintsReady a_link a_trail a_neqLeft a_neqRight a_workGoal a_workFrame a_stackA a_stackB a_walk a_numberOf a_numbered a_endUnknown hLS hKP
      show wpY_unknowns _ _ _
      unfold wpY_unknowns
      refine yw_load_1 hY.2.2.2.2.2.1 hY.2.2.2.2.2.2.1 hW.2.2.2.2.2 htc hgc rfl rfl hq w2 hOC hO hj ?_
      intro σ g_frames g_neqs b_val b_len b_neqT b_neqU b_neqF b_stackGoal b_stackFrame b_buf b_bufLen b_tmp g_numbered b_num hYL
      have hLS' := hLS
      obtain ⟨tt, s, rfl, rfl, rfl, hXL, hn, hNQ, hs, hNU, rfl, heu⟩ := hLS
      obtain ⟨rfl, rfl, rfl, hYY, hV, hn', hNY, hnum⟩ := hYL
      have p2 := (rs_sel_path hOC hj).2.1
      refine br_t (nI_pos' (by omega)) ⟨?_, ⟨T, G, gc, ml, hW, hX, hY, rfl, Or.inr ⟨rfl, q, wd, lv, oc, hSS', Or.inr ⟨j, hj, rfl, hLS', hKP⟩⟩⟩⟩
      have e := (rs_num_map (rs_LS_Mg hX.2.2.2.2.2.1.1 hXL hs).1 (rs_Y_Mg hYY).1 wd wd (Nat.le_refl _)).1
      rw [hNU.1, e, List.length_map]
theorem vc_node (h : rs_REL f_kindSymbol f_kindSlot f_kindPair f_goalEq f_goalNeq f_goalBoth f_goalEither f_goalCall f_goOn f_outAnswer f_outFailure f_outCut f_outPending f_firstVariable f_maxLevel f_maxCalls f_maxSize f_termCount f_goalCount f_searching f_queryGoal f_queryWidth f_levelNow f_pendingCount f_nextCount f_answerCount f_failureCount f_cutCount f_trailTop f_callsDone f_choicesLeft f_neqCount f_workTop f_walkTop f_loaded f_numberedCount f_endUnknownCount f_constraintsReady f_relevantMask f_keptCount a_termKind a_termLeft a_termRight a_termSize a_goalKind a_goalFirst a_goalSecond a_goalThird a_goalFourth a_goalSize a_relationGoal a_pendingPath a_nextPath a_answerPath a_link a_trail a_neqLeft a_neqRight a_workGoal a_workFrame a_stackA a_stackB a_walk a_numberOf a_numbered a_endUnknown a_implied a_kept a_sightings a_lastSeen g_maxLevel g_maxCalls g_maxSize g_terms g_goals g_searching g_query g_read g_level g_frames g_neqs g_numbered g_kept b_termToken b_termLen b_kind b_goalSize b_part b_relation b_outcome b_val b_len b_neqT b_neqU b_neqF b_stackGoal b_stackFrame b_buf b_bufLen b_tmp b_base b_baseLen b_num b_relevant b_implies b_keptAt) (v1 v2 v3 : Int32) : wpX_node (fun r u' => wpY_node (fun r' v' => r' = r ∧ i_Rel k u' v') (g_maxLevel, g_maxCalls, g_maxSize, g_terms, g_goals, g_searching, g_query, g_read, g_level, g_frames, g_neqs, g_numbered, g_kept, b_termToken, b_termLen, b_kind, b_goalSize, b_part, b_relation, b_outcome, b_val, b_len, b_neqT, b_neqU, b_neqF, b_stackGoal, b_stackFrame, b_buf, b_bufLen, b_tmp, b_base, b_baseLen, b_num, b_relevant, b_implies, b_keptAt) v1 v2 v3) (f_kindSymbol, f_kindSlot, f_kindPair, f_goalEq, f_goalNeq, f_goalBoth, f_goalEither, f_goalCall, f_goOn, f_outAnswer, f_outFailure, f_outCut, f_outPending, f_firstVariable, f_maxLevel, f_maxCalls, f_maxSize, f_termCount, f_goalCount, f_searching, f_queryGoal, f_queryWidth, f_levelNow, f_pendingCount, f_nextCount, f_answerCount, f_failureCount, f_cutCount, f_trailTop, f_callsDone, f_choicesLeft, f_neqCount, f_workTop, f_walkTop, f_loaded, f_numberedCount, f_endUnknownCount, f_constraintsReady, f_relevantMask, f_keptCount, a_termKind, a_termLeft, a_termRight, a_termSize, a_goalKind, a_goalFirst, a_goalSecond, a_goalThird, a_goalFourth, a_goalSize, a_relationGoal, a_pendingPath, a_nextPath, a_answerPath, a_link, a_trail, a_neqLeft, a_neqRight, a_workGoal, a_workFrame, a_stackA, a_stackB, a_walk, a_numberOf, a_numbered, a_endUnknown, a_implied, a_kept, a_sightings, a_lastSeen) v1 v2 v3 := by
  have hR := h
  obtain ⟨T, G, gc, ml, hW, hX, hY, hS⟩ := h
  obtain rfl := hX.2.1
  obtain rfl := hX.2.2.1
  obtain rfl := hY.2.1
  obtain rfl := hY.2.2.1
  have hgc := hW.2.2.2.1
  have htc := hW.2.2.1
  have hms := hW.2.2.2.2.2.2.2.2.2.2
  obtain ⟨rfl, hS⟩ := hS
  unfold wpX_node
  rcases hS with rfl | ⟨rfl, q, wd, lv, oc, hSS, hLO⟩
  · refine br_t rfl (br_f (by decide) ?_)
    show wpY_node _ _ _ _ _
    unfold wpY_node
    exact yw_load_n (br_f (by decide) ⟨rfl, hR⟩)
  · have hSS' := hSS
    obtain ⟨hq, w1, w2, hlv, hOC, rfl, rfl, rfl, rfl, rfl, rfl, rfl, hpp, hans, rfl, rfl, rfl, hO⟩ := hSS
    have hl := rs_sel_len oc 1
    rcases rs_dec v1 (n := (rs_sel oc 1).length) (by omega) with hv | ⟨j, hj, rfl⟩
    · refine xw_check_0 hv (br_f (by decide) ?_)
      show wpY_node _ _ _ _ _
      unfold wpY_node
      exact yw_load_0 hOC hO hv (br_f (by decide) ⟨rfl, hR⟩)
    · refine xw_check_1 hj hl (br_t rfl ?_)
      have p2 := (rs_sel_path hOC hj).2.1
      have p0 : 0 ≤ nI ((rs_sel oc 1).getD j 0) := nI_pos' (by omega)
      by_cases s0 : v2 < 0
      · refine br_t s0 ?_
        show wpY_node _ _ _ _ _
        unfold wpY_node
        refine yw_load_1 hY.2.2.2.2.2.1 hY.2.2.2.2.2.2.1 hW.2.2.2.2.2 htc hgc rfl rfl hq w2 hOC hO hj ?_
        intro σ g_frames g_neqs b_val b_len b_neqT b_neqU b_neqF b_stackGoal b_stackFrame b_buf b_bufLen b_tmp g_numbered b_num hYL
        exact br_t p0 (br_t s0 ⟨rfl, ⟨T, G, gc, ml, hW, hX, hY, rfl, Or.inr ⟨rfl, q, wd, lv, oc, hSS', hLO⟩⟩⟩)
      · refine br_f s0 ?_
        obtain ⟨sl, hsl, rfl⟩ := nI_of s0
        by_cases s1 : sl < wd
        · refine br_t (nI_lt s1 (by omega)) ?_
          by_cases s2 : 0 ≤ v3
          · refine br_t s2 ?_
            obtain ⟨pos, hpos, rfl⟩ := nI_of (Int32.not_lt.mpr s2)
            refine xw_load hX.2.2.2.2.2.1 hX.2.2.2.2.2.2.2.1 hW.2.2.2.2.2 htc hgc rfl rfl hq w2 hOC hans hj hLO ?_
            intro f_trailTop f_callsDone f_choicesLeft f_neqCount f_workTop f_walkTop f_numberedCount f_endUnknownCount f_constraintsReady a_link a_trail a_neqLeft a_neqRight a_workGoal a_workFrame a_stackA a_stackB a_walk a_numberOf a_numbered a_endUnknown hLS hKP
            have hLS' := hLS
            have hnf := rs_path_nf T.2.2.2.1 hW.2.2.2.2.2 hq ((rs_sel oc 1).getD j 0)
            obtain ⟨tt, s, rfl, rfl, rfl, hXL, hn, hNQ, hs, hNU, rfl, heu⟩ := hLS
            have hMg := rs_LS_Mg hX.2.2.2.2.2.1.1 hXL hs
            generalize eP : rs_path T.2.2.2.1 G q ((rs_sel oc 1).getD j 0) = P at *
            have hslen : (s sl).length ≤ 31 := by
              obtain ⟨l, q1, q2⟩ := hXL.2.2.2.2.2 sl (by omega)
              rw [rs_WK_det _ _ _ (hs sl) q1]
              omega
            have hYgo : ∀ (post : Int32 → SY → Prop), (∀ (σ : Nat → List Nat) (g_frames g_neqs : Int32) (b_val b_len b_neqT b_neqU b_neqF b_stackGoal b_stackFrame b_buf b_bufLen b_tmp : Nat → Int32) (g_numbered : Int32) (b_num : Nat → Int32), rs_YL T.2.2.2.2 T.2.2.2.1 G.2.2.2.2.2.2.2.2 wd P.2.1 P.2.2.1 P.2.2.2.1 σ g_frames g_neqs g_numbered b_val b_len b_neqT b_neqU b_neqF b_num → post (nI ((rs_sel oc 1).getD j 0)) (g_maxLevel, nI G.2.2.2.2.2.2.2.1, nI G.2.2.2.2.2.2.2.2, g_terms, g_goals, 1, nI q, nI wd, nI lv, g_frames, g_neqs, g_numbered, g_kept, b_termToken, b_termLen, b_kind, b_goalSize, b_part, b_relation, b_outcome, b_val, b_len, b_neqT, b_neqU, b_neqF, b_stackGoal, b_stackFrame, b_buf, b_bufLen, b_tmp, b_base, b_baseLen, b_num, b_relevant, b_implies, b_keptAt)) → wpY_load post (g_maxLevel, nI G.2.2.2.2.2.2.2.1, nI G.2.2.2.2.2.2.2.2, g_terms, g_goals, 1, nI q, nI wd, nI lv, g_frames, g_neqs, g_numbered, g_kept, b_termToken, b_termLen, b_kind, b_goalSize, b_part, b_relation, b_outcome, b_val, b_len, b_neqT, b_neqU, b_neqF, b_stackGoal, b_stackFrame, b_buf, b_bufLen, b_tmp, b_base, b_baseLen, b_num, b_relevant, b_implies, b_keptAt) (nI j) := by
              intro post hp
              refine yw_load_1 hY.2.2.2.2.2.1 hY.2.2.2.2.2.2.1 hW.2.2.2.2.2 htc hgc rfl rfl hq w2 hOC hO hj ?_
              rw [eP]
              exact hp
            have e7 : 704 + nI sl = nI (704 + sl) := nI_add 704 sl
            rw [e7]
            have hLO2 : rs_LO T G q wd oc (nI tt) (nI (P.2.2.1 - 1)) (nI P.2.2.2.1.length) (nI j) f_numberedCount (nI (rs_eu P.2.2.1 a_link).length) f_constraintsReady f_keptCount a_link a_neqLeft a_neqRight a_numberOf a_numbered a_endUnknown a_kept := by
              refine Or.inr ⟨j, hj, rfl, ?_, ?_⟩
              · rw [eP]; exact hLS'
              · rw [eP]; exact hKP
            refine xw_nodeAt hX.2.2.2.2.2.1 hXL.2.1 hXL.2.2.1 hpos (by omega) (hs sl) hslen ?_ ?_
            · intro r f_walkTop a_walk hr hx htok
              refine br_t (nI_pos' (by omega)) ?_
              have fin : ∀ (x : Int32), (∀ (σ : Nat → List Nat) (g_numbered : Int32) (b_num b_val b_len : Nat → Int32) , rs_Y G.2.2.2.2.2.2.2.2 P.2.2.1 P.2.1 σ → g_numbered = nI (rs_num σ wd).length → rs_A b_num 0 (rs_num σ wd) → ∀ y, (σ sl)[pos]? = some y → rs_rn s y = rs_tkn T r → (y < 100 → x = nI y) ∧ (∀ a, y = 100 + a → x = nI (100 + rs_ix a (rs_num σ wd)))) → wpY_node (fun r' v' => r' = x ∧ i_Rel k (f_kindSymbol, f_kindSlot, f_kindPair, f_goalEq, f_goalNeq, f_goalBoth, f_goalEither, f_goalCall, f_goOn, f_outAnswer, f_outFailure, f_outCut, f_outPending, f_firstVariable, f_maxLevel, nI G.2.2.2.2.2.2.2.1, nI G.2.2.2.2.2.2.2.2, f_termCount, f_goalCount, 1, nI q, nI wd, nI lv, nI (rs_pd oc lv).length, f_nextCount, nI (rs_sel oc 1).length, nI (rs_sel oc 2).length, nI (rs_sel oc 3).length, nI tt, nI (P.2.2.1 - 1), f_choicesLeft, nI P.2.2.2.1.length, f_workTop, f_walkTop, nI j, f_numberedCount, nI (rs_eu P.2.2.1 a_link).length, f_constraintsReady, f_relevantMask, f_keptCount, a_termKind, a_termLeft, a_termRight, a_termSize, a_goalKind, a_goalFirst, a_goalSecond, a_goalThird, a_goalFourth, a_goalSize, a_relationGoal, a_pendingPath, a_nextPath, a_answerPath, a_link, a_trail, a_neqLeft, a_neqRight, a_workGoal, a_workFrame, a_stackA, a_stackB, a_walk, a_numberOf, a_numbered, a_endUnknown, a_implied, a_kept, a_sightings, a_lastSeen) v') (g_maxLevel, nI G.2.2.2.2.2.2.2.1, nI G.2.2.2.2.2.2.2.2, g_terms, g_goals, 1, nI q, nI wd, nI lv, g_frames, g_neqs, g_numbered, g_kept, b_termToken, b_termLen, b_kind, b_goalSize, b_part, b_relation, b_outcome, b_val, b_len, b_neqT, b_neqU, b_neqF, b_stackGoal, b_stackFrame, b_buf, b_bufLen, b_tmp, b_base, b_baseLen, b_num, b_relevant, b_implies, b_keptAt) (nI j) (nI sl) (nI pos) := by
                intro x hxv
                unfold wpY_node
                refine hYgo _ ?_
                intro σ g_frames g_neqs b_val b_len b_neqT b_neqU b_neqF b_stackGoal b_stackFrame b_buf b_bufLen b_tmp g_numbered b_num hYL
                obtain ⟨rfl, rfl, rfl, hYY, hV, hn', hNY, hnum⟩ := hYL
                obtain ⟨a1, a2, a3⟩ := hV sl (by omega)
                have hmap := rs_MG_map hMg.1 (rs_Y_Mg hYY).1 sl
                have hy : ∃ y, (σ sl)[pos]? = some y ∧ rs_rn s y = rs_tkn T r := by
                  rw [hmap, List.getElem?_map] at htok
                  cases e : (σ sl)[pos]? with
                  | none => rw [e] at htok; exact absurd htok (by simp)
                  | some y =>
                    rw [e] at htok
                    exact ⟨y, rfl, by simpa using htok⟩
                obtain ⟨y, y1, y2⟩ := hy
                have hpl : pos < (σ sl).length := by
                  rcases Nat.lt_or_ge pos (σ sl).length with z | z
                  · exact z
                  · rw [List.getElem?_eq_none z] at y1; exact absurd y1 (by simp)
                have hymem : y ∈ σ sl := List.mem_iff_getElem?.mpr ⟨pos, y1⟩
                have ey := a2 pos hpl
                rw [List.getD_eq_getElem?_getD, y1] at ey
                have ey : b_val (31 * sl + pos) = nI y := ey
                obtain ⟨x1, x2⟩ := hxv σ _ b_num b_val b_len hYY rfl hnum y y1 y2
                have hrel : i_Rel k (f_kindSymbol, f_kindSlot, f_kindPair, f_goalEq, f_goalNeq, f_goalBoth, f_goalEither, f_goalCall, f_goOn, f_outAnswer, f_outFailure, f_outCut, f_outPending, f_firstVariable, f_maxLevel, nI G.2.2.2.2.2.2.2.1, nI G.2.2.2.2.2.2.2.2, f_termCount, f_goalCount, 1, nI q, nI wd, nI lv, nI (rs_pd oc lv).length, f_nextCount, nI (rs_sel oc 1).length, nI (rs_sel oc 2).length, nI (rs_sel oc 3).length, nI tt, nI (P.2.2.1 - 1), f_choicesLeft, nI P.2.2.2.1.length, f_workTop, f_walkTop, nI j, f_numberedCount, nI (rs_eu P.2.2.1 a_link).length, f_constraintsReady, f_relevantMask, f_keptCount, a_termKind, a_termLeft, a_termRight, a_termSize, a_goalKind, a_goalFirst, a_goalSecond, a_goalThird, a_goalFourth, a_goalSize, a_relationGoal, a_pendingPath, a_nextPath, a_answerPath, a_link, a_trail, a_neqLeft, a_neqRight, a_workGoal, a_workFrame, a_stackA, a_stackB, a_walk, a_numberOf, a_numbered, a_endUnknown, a_implied, a_kept, a_sightings, a_lastSeen) (g_maxLevel, nI G.2.2.2.2.2.2.2.1, nI G.2.2.2.2.2.2.2.2, g_terms, g_goals, 1, nI q, nI wd, nI lv, nI P.2.2.1, nI P.2.2.2.1.length, nI (rs_num σ wd).length, g_kept, b_termToken, b_termLen, b_kind, b_goalSize, b_part, b_relation, b_outcome, b_val, b_len, b_neqT, b_neqU, b_neqF, b_stackGoal, b_stackFrame, b_buf, b_bufLen, b_tmp, b_base, b_baseLen, b_num, b_relevant, b_implies, b_keptAt) := ⟨T, G, gc, ml, hW, hX, hY, rfl, Or.inr ⟨rfl, q, wd, lv, oc, hSS', hLO2⟩⟩
                refine br_t p0 (br_f s0 (br_f (nI_ge s1 (by omega)) (br_t s2 ⟨vp_in_nI (by omega) (by decide), ?_⟩)))
                rw [nI_clamp (n := sl) (by omega), a1, rs_n31]
                refine br_t (nI_lt hpl (by omega)) ⟨vp_in_nI (by omega) (by decide), nm_r (e' := nI y) (by rw [nI_clamp (by omega)]; exact ey) ?_⟩
                rcases hYY.2.2.2.1 sl y (by omega) hymem with z | ⟨a, z1, z2, _⟩
                · refine br_f (nI_ge (b := 100) (by omega) (by decide)) ⟨(x1 (by omega)).symm, hrel⟩
                · subst z2
                  have hmem : a ∈ rs_num σ wd := rs_num_in s1 hymem
                  have hnl := rs_nd_len (n := 66) (rs_num_nd σ wd) (fun b hb => Nat.lt_of_lt_of_le (rs_num_lt (rs_Y_Mg hYY) (by omega) hb) (by omega))
                  refine br_t (nI_le (a := 100) (by omega) (by omega)) ?_
                  refine yw_numberOf hnum hnl (fun b hb => Nat.lt_of_lt_of_le (rs_num_lt (rs_Y_Mg hYY) (by omega) hb) (by omega)) (by omega) (fun _ => ⟨?_, hrel⟩) (fun hm => absurd hmem hm)
                  rw [x2 a rfl]
                  exact nI_add 100 _
              by_cases h7 : r < 704
              · refine br_t (nI_lt (b := 704) h7 (by decide)) ?_
                refine xw_termToken hX.2.2.2.2.2.1 h7 ?_
                refine fin _ ?_
                intro σ g_numbered b_num b_val b_len hYY _ _ y y1 y2
                have hlo := rs_tkn_lo hX.2.2.2.2.2.1.1 h7 hx
                have hymem : y ∈ σ sl := List.mem_iff_getElem?.mpr ⟨pos, y1⟩
                have := rs_MG_hi hMg.1 (rs_Y_Mg hYY).1 hymem
                refine ⟨fun z => ?_, fun a z => ?_⟩
                · rw [rs_rn_lo z] at y2; rw [y2]
                · omega
              · refine br_f (nI_nlt (b := 704) (by omega) (by omega)) ?_
                obtain ⟨v, rfl⟩ : ∃ v, r = 704 + v := ⟨r - 704, by omega⟩
                have ev : nI (704 + v) - 704 = nI v := by
                  rw [show (704 : Int32) = nI 704 from rfl, pk_sub (by omega), Nat.add_sub_cancel_left]
                rw [ev]
                refine ⟨vp_in_nI (by omega) (by decide), ?_⟩
                rw [nI_clamp (n := v) (by omega)]
                refine fin _ ?_
                intro σ g_numbered b_num b_val b_len hYY _ _ y y1 y2
                rw [rs_tkn_hi (by omega), Nat.add_sub_cancel_left] at y2 htok
                have hymem : y ∈ σ sl := List.mem_iff_getElem?.mpr ⟨pos, y1⟩
                have hhi := rs_MG_hi hMg.1 (rs_Y_Mg hYY).1 hymem
                refine ⟨fun z => by omega, fun a z => ?_⟩
                subst z
                have hv : rs_rv s a = v := by
                  unfold rs_rv
                  rw [y2, Nat.add_sub_cancel_left]
                have hvs : 100 + v ∈ s sl := List.mem_iff_getElem?.mpr ⟨pos, htok⟩
                have hvm : v ∈ rs_num s wd := rs_num_in s1 hvs
                obtain ⟨e1, e2⟩ := rs_num_map hMg.1 (rs_Y_Mg hYY).1 wd wd (Nat.le_refl _)
                rw [(hNU.2.2 v (by omega)).1 hvm, e1, ← hv, rs_ix_map]
                · exact nI_add 100 _
                · intro b hb e
                  obtain ⟨w, _, hbw⟩ := e2 b hb
                  exact rs_rv_inj hMg.1 (rs_Y_Mg hYY).1 hbw hymem e
            · intro hbig f_walkTop a_walk
              refine br_f (by decide) ?_
              show wpY_node _ _ _ _ _
              unfold wpY_node
              refine hYgo _ ?_
              intro σ g_frames g_neqs b_val b_len b_neqT b_neqU b_neqF b_stackGoal b_stackFrame b_buf b_bufLen b_tmp g_numbered b_num hYL
              obtain ⟨rfl, rfl, rfl, hYY, hV, hn', hNY, hnum⟩ := hYL
              obtain ⟨a1, a2, a3⟩ := hV sl (by omega)
              have hlen := rs_MG_len hMg.1 (rs_Y_Mg hYY).1 sl
              refine br_t p0 (br_f s0 (br_f (nI_ge s1 (by omega)) (br_t s2 ⟨vp_in_nI (by omega) (by decide), ?_⟩)))
              rw [nI_clamp (n := sl) (by omega), a1]
              exact br_f (nI_nlt (by omega) (by omega)) ⟨rfl, ⟨T, G, gc, ml, hW, hX, hY, rfl, Or.inr ⟨rfl, q, wd, lv, oc, hSS', hLO2⟩⟩⟩
          · refine br_f s2 ?_
            show wpY_node _ _ _ _ _
            unfold wpY_node
            refine yw_load_1 hY.2.2.2.2.2.1 hY.2.2.2.2.2.2.1 hW.2.2.2.2.2 htc hgc rfl rfl hq w2 hOC hO hj ?_
            intro σ g_frames g_neqs b_val b_len b_neqT b_neqU b_neqF b_stackGoal b_stackFrame b_buf b_bufLen b_tmp g_numbered b_num hYL
            exact br_t p0 (br_f s0 (br_f (nI_ge s1 (by omega)) (br_f s2 ⟨rfl, ⟨T, G, gc, ml, hW, hX, hY, rfl, Or.inr ⟨rfl, q, wd, lv, oc, hSS', hLO⟩⟩⟩)))
        · refine br_f (nI_nlt (by omega) hsl) ?_
          show wpY_node _ _ _ _ _
          unfold wpY_node
          refine yw_load_1 hY.2.2.2.2.2.1 hY.2.2.2.2.2.2.1 hW.2.2.2.2.2 htc hgc rfl rfl hq w2 hOC hO hj ?_
          intro σ g_frames g_neqs b_val b_len b_neqT b_neqU b_neqF b_stackGoal b_stackFrame b_buf b_bufLen b_tmp g_numbered b_num hYL
          exact br_t p0 (br_f s0 (br_t (nI_le (by omega) hsl) ⟨rfl, ⟨T, G, gc, ml, hW, hX, hY, rfl, Or.inr ⟨rfl, q, wd, lv, oc, hSS', hLO⟩⟩⟩))
end
end
section
/-! compare -/
section
variable {g_maxLevel g_maxCalls g_maxSize g_terms g_goals g_searching g_query g_read g_level g_frames g_neqs g_numbered g_kept : Int32} {b_termToken b_termLen b_kind b_goalSize b_part b_relation b_outcome b_val b_len b_neqT b_neqU b_neqF b_stackGoal b_stackFrame b_buf b_bufLen b_tmp b_base b_baseLen b_num b_relevant b_implies b_keptAt : Nat → Int32}
variable {tc nf ms t u f : Nat} {ts σ : Nat → List Nat} {C : rs_V}
theorem yw_diff_same {post : Int32 → SY → Prop} (hT : rs_TB tc ts b_termToken b_termLen) (ht : t < tc) (hu : u < tc) (htc : tc ≤ 64) (hf : f < nf) (hnf : nf ≤ 11) (hms : ms ≤ 31) (hY : rs_Y ms nf C σ) (hV : rs_VA (6 * nf) σ b_val b_len)
    (k1 : rs_Same C (rs_sh f (ts t)) (rs_sh f (ts u)) → ∀ b_buf b_bufLen, post (-1) (g_maxLevel, g_maxCalls, g_maxSize, g_terms, g_goals, g_searching, g_query, g_read, g_level, g_frames, g_neqs, g_numbered, g_kept, b_termToken, b_termLen, b_kind, b_goalSize, b_part, b_relation, b_outcome, b_val, b_len, b_neqT, b_neqU, b_neqF, b_stackGoal, b_stackFrame, b_buf, b_bufLen, b_tmp, b_base, b_baseLen, b_num, b_relevant, b_implies, b_keptAt))
    (k0 : ¬ rs_Same C (rs_sh f (ts t)) (rs_sh f (ts u)) → ∀ n, n < 256 → ∀ b_buf b_bufLen, post (nI n) (g_maxLevel, g_maxCalls, g_maxSize, g_terms, g_goals, g_searching, g_query, g_read, g_level, g_frames, g_neqs, g_numbered, g_kept, b_termToken, b_termLen, b_kind, b_goalSize, b_part, b_relation, b_outcome, b_val, b_len, b_neqT, b_neqU, b_neqF, b_stackGoal, b_stackFrame, b_buf, b_bufLen, b_tmp, b_base, b_baseLen, b_num, b_relevant, b_implies, b_keptAt)) :
    wpY_difference post (g_maxLevel, g_maxCalls, g_maxSize, g_terms, g_goals, g_searching, g_query, g_read, g_level, g_frames, g_neqs, g_numbered, g_kept, b_termToken, b_termLen, b_kind, b_goalSize, b_part, b_relation, b_outcome, b_val, b_len, b_neqT, b_neqU, b_neqF, b_stackGoal, b_stackFrame, b_buf, b_bufLen, b_tmp, b_base, b_baseLen, b_num, b_relevant, b_implies, b_keptAt) (nI t) (nI u) (nI f) := by
  have hsm := rs_MG_same (rs_Y_MG hY) (rs_sh f (ts t)) (rs_sh f (ts u))
  refine yw_difference hT ht hu htc hf hnf hV hY.1 (rs_Y_31 hY hms) (rs_Y_b hY hnf) ?_ ?_
  · intro e b_buf b_bufLen
    exact k1 (hsm.mpr e) _ _
  · intro P a b A' B' eA eB hab b_buf b_bufLen _ _
    refine k0 ?_ P.length ?_ _ _
    · rw [hsm, eA, eB]
      intro z
      have z := List.append_cancel_left z
      injection z with z _
      exact hab z
    · have := rs_val_len (rs_Y_31 hY hms) (f := f) (hT t ht).2.2.2.1 (hT t ht).2.2.1
      rw [eA, List.length_append, List.length_cons] at this
      omega
end
section
variable {f_kindSymbol f_kindSlot f_kindPair f_goalEq f_goalNeq f_goalBoth f_goalEither f_goalCall f_goOn f_outAnswer f_outFailure f_outCut f_outPending f_firstVariable f_maxLevel f_maxCalls f_maxSize f_termCount f_goalCount f_searching f_queryGoal f_queryWidth f_levelNow f_pendingCount f_nextCount f_answerCount f_failureCount f_cutCount f_trailTop f_callsDone f_choicesLeft f_neqCount f_workTop f_walkTop f_loaded f_numberedCount f_endUnknownCount f_constraintsReady f_relevantMask f_keptCount : Int32} {a_termKind a_termLeft a_termRight a_termSize a_goalKind a_goalFirst a_goalSecond a_goalThird a_goalFourth a_goalSize a_relationGoal a_pendingPath a_nextPath a_answerPath a_link a_trail a_neqLeft a_neqRight a_workGoal a_workFrame a_stackA a_stackB a_walk a_numberOf a_numbered a_endUnknown a_implied a_kept a_sightings a_lastSeen : Nat → Int32}
variable {g_maxLevel g_maxCalls g_maxSize g_terms g_goals g_searching g_query g_read g_level g_frames g_neqs g_numbered g_kept : Int32} {b_termToken b_termLen b_kind b_goalSize b_part b_relation b_outcome b_val b_len b_neqT b_neqU b_neqF b_stackGoal b_stackFrame b_buf b_bufLen b_tmp b_base b_baseLen b_num b_relevant b_implies b_keptAt : Nat → Int32}
variable {k : Nat}
theorem vc_compare (h : rs_REL f_kindSymbol f_kindSlot f_kindPair f_goalEq f_goalNeq f_goalBoth f_goalEither f_goalCall f_goOn f_outAnswer f_outFailure f_outCut f_outPending f_firstVariable f_maxLevel f_maxCalls f_maxSize f_termCount f_goalCount f_searching f_queryGoal f_queryWidth f_levelNow f_pendingCount f_nextCount f_answerCount f_failureCount f_cutCount f_trailTop f_callsDone f_choicesLeft f_neqCount f_workTop f_walkTop f_loaded f_numberedCount f_endUnknownCount f_constraintsReady f_relevantMask f_keptCount a_termKind a_termLeft a_termRight a_termSize a_goalKind a_goalFirst a_goalSecond a_goalThird a_goalFourth a_goalSize a_relationGoal a_pendingPath a_nextPath a_answerPath a_link a_trail a_neqLeft a_neqRight a_workGoal a_workFrame a_stackA a_stackB a_walk a_numberOf a_numbered a_endUnknown a_implied a_kept a_sightings a_lastSeen g_maxLevel g_maxCalls g_maxSize g_terms g_goals g_searching g_query g_read g_level g_frames g_neqs g_numbered g_kept b_termToken b_termLen b_kind b_goalSize b_part b_relation b_outcome b_val b_len b_neqT b_neqU b_neqF b_stackGoal b_stackFrame b_buf b_bufLen b_tmp b_base b_baseLen b_num b_relevant b_implies b_keptAt) (v1 v2 v3 : Int32) : wpX_compare (fun r u' => wpY_compare (fun r' v' => r' = r ∧ i_Rel k u' v') (g_maxLevel, g_maxCalls, g_maxSize, g_terms, g_goals, g_searching, g_query, g_read, g_level, g_frames, g_neqs, g_numbered, g_kept, b_termToken, b_termLen, b_kind, b_goalSize, b_part, b_relation, b_outcome, b_val, b_len, b_neqT, b_neqU, b_neqF, b_stackGoal, b_stackFrame, b_buf, b_bufLen, b_tmp, b_base, b_baseLen, b_num, b_relevant, b_implies, b_keptAt) v1 v2 v3) (f_kindSymbol, f_kindSlot, f_kindPair, f_goalEq, f_goalNeq, f_goalBoth, f_goalEither, f_goalCall, f_goOn, f_outAnswer, f_outFailure, f_outCut, f_outPending, f_firstVariable, f_maxLevel, f_maxCalls, f_maxSize, f_termCount, f_goalCount, f_searching, f_queryGoal, f_queryWidth, f_levelNow, f_pendingCount, f_nextCount, f_answerCount, f_failureCount, f_cutCount, f_trailTop, f_callsDone, f_choicesLeft, f_neqCount, f_workTop, f_walkTop, f_loaded, f_numberedCount, f_endUnknownCount, f_constraintsReady, f_relevantMask, f_keptCount, a_termKind, a_termLeft, a_termRight, a_termSize, a_goalKind, a_goalFirst, a_goalSecond, a_goalThird, a_goalFourth, a_goalSize, a_relationGoal, a_pendingPath, a_nextPath, a_answerPath, a_link, a_trail, a_neqLeft, a_neqRight, a_workGoal, a_workFrame, a_stackA, a_stackB, a_walk, a_numberOf, a_numbered, a_endUnknown, a_implied, a_kept, a_sightings, a_lastSeen) v1 v2 v3 := by
  have hR := h
  obtain ⟨T, G, gc, ml, hW, hX, hY, hS⟩ := h
  obtain rfl := hX.2.1
  obtain rfl := hX.2.2.1
  obtain rfl := hX.2.2.2.1
  obtain rfl := hY.2.1
  obtain rfl := hY.2.2.1
  obtain rfl := hY.2.2.2.1
  have hgc := hW.2.2.2.1
  have htc := hW.2.2.1
  have hms := hW.2.2.2.2.2.2.2.2.2.2
  have hms3 := hW.2.2.2.2.2.2.2.2.2.1
  obtain ⟨rfl, hS⟩ := hS
  unfold wpX_compare
  rcases hS with rfl | ⟨rfl, q, wd, lv, oc, hSS, hLO⟩
  · refine br_t rfl (br_f (by decide) ?_)
    show wpY_compare _ _ _ _ _
    unfold wpY_compare
    exact yw_load_n (br_f (by decide) ⟨rfl, hR⟩)
  · have hSS' := hSS
    obtain ⟨hq, w1, w2, hlv, hOC, rfl, rfl, rfl, rfl, rfl, rfl, rfl, hpp, hans, rfl, rfl, rfl, hO⟩ := hSS
    have hl := rs_sel_len oc 1
    rcases rs_dec v1 (n := (rs_sel oc 1).length) (by omega) with hv | ⟨j, hj, rfl⟩
    · refine xw_check_0 hv (br_f (by decide) ?_)
      show wpY_compare _ _ _ _ _
      unfold wpY_compare
      exact yw_load_0 hOC hO hv (br_f (by decide) ⟨rfl, hR⟩)
    · refine xw_check_1 hj hl (br_t rfl ?_)
      have p2 := (rs_sel_path hOC hj).2.1
      have p0 : 0 ≤ nI ((rs_sel oc 1).getD j 0) := nI_pos' (by omega)
      rcases rs_dec v2 (n := T.2.2.2.2) (by omega) with hv | ⟨a, ha, rfl⟩
      · refine xw_isTerm_0 hv (br_t rfl ?_)
        show wpY_compare _ _ _ _ _
        unfold wpY_compare
        refine yw_load_1 hY.2.2.2.2.2.1 hY.2.2.2.2.2.2.1 hW.2.2.2.2.2 htc hgc rfl rfl hq w2 hOC hO hj ?_
        intro σ g_frames g_neqs b_val b_len b_neqT b_neqU b_neqF b_stackGoal b_stackFrame b_buf b_bufLen b_tmp g_numbered b_num hYL
        exact br_t p0 (yw_isTerm_0 hv (br_t rfl ⟨rfl, ⟨T, G, gc, ml, hW, hX, hY, rfl, Or.inr ⟨rfl, q, wd, lv, oc, hSS', hLO⟩⟩⟩))
      · refine xw_isTerm_1 ha htc (br_f (by decide) ?_)
        rcases rs_dec v3 (n := T.2.2.2.2) (by omega) with hv | ⟨b, hb, rfl⟩
        · refine xw_isTerm_0 hv (br_t rfl ?_)
          show wpY_compare _ _ _ _ _
          unfold wpY_compare
          refine yw_load_1 hY.2.2.2.2.2.1 hY.2.2.2.2.2.2.1 hW.2.2.2.2.2 htc hgc rfl rfl hq w2 hOC hO hj ?_
          intro σ g_frames g_neqs b_val b_len b_neqT b_neqU b_neqF b_stackGoal b_stackFrame b_buf b_bufLen b_tmp g_numbered b_num hYL
          exact br_t p0 (yw_isTerm_1 ha htc (br_f (by decide) (yw_isTerm_0 hv (br_t rfl ⟨rfl, ⟨T, G, gc, ml, hW, hX, hY, rfl, Or.inr ⟨rfl, q, wd, lv, oc, hSS', hLO⟩⟩⟩))))
        · refine xw_isTerm_1 hb htc (br_f (by decide) ?_)
          refine xw_load hX.2.2.2.2.2.1 hX.2.2.2.2.2.2.2.1 hW.2.2.2.2.2 htc hgc rfl rfl hq w2 hOC hans hj hLO ?_
          intro f_trailTop f_callsDone f_choicesLeft f_neqCount f_workTop f_walkTop f_numberedCount f_endUnknownCount f_constraintsReady a_link a_trail a_neqLeft a_neqRight a_workGoal a_workFrame a_stackA a_stackB a_walk a_numberOf a_numbered a_endUnknown hLS hKP
          have hnf := rs_path_nf T.2.2.2.1 hW.2.2.2.2.2 hq ((rs_sel oc 1).getD j 0)
          have hLS' := hLS
          obtain ⟨tt, s, rfl, rfl, rfl, hXL, hn, hNQ, hs, hNU, rfl, heu⟩ := hLS
          have hTB := hY.2.2.2.2.2.1
          have hTA := hX.2.2.2.2.2.1
          generalize eP : rs_path T.2.2.2.1 G q ((rs_sel oc 1).getD j 0) = P at *
          have eA : rs_ns T (64 * 0 + a) = rs_sh 0 (T.2.2.2.1 a) := rs_ns_term (by omega) (by omega)
          have eB : rs_ns T (64 * 0 + b) = rs_sh 0 (T.2.2.2.1 b) := rs_ns_term (by omega) (by omega)
          /- the reference -/
          have hYgo : ∀ (post : Int32 → SY → Prop),
              (rs_Same P.2.1 (rs_sh 0 (T.2.2.2.1 a)) (rs_sh 0 (T.2.2.2.1 b)) → ∀ (g_frames g_neqs : Int32) (b_val b_len b_neqT b_neqU b_neqF b_stackGoal b_stackFrame b_buf b_bufLen b_tmp : Nat → Int32) (g_numbered : Int32) (b_num : Nat → Int32), post 1 (g_maxLevel, nI G.2.2.2.2.2.2.2.1, nI G.2.2.2.2.2.2.2.2, nI T.2.2.2.2, g_goals, 1, nI q, nI wd, nI lv, g_frames, g_neqs, g_numbered, g_kept, b_termToken, b_termLen, b_kind, b_goalSize, b_part, b_relation, b_outcome, b_val, b_len, b_neqT, b_neqU, b_neqF, b_stackGoal, b_stackFrame, b_buf, b_bufLen, b_tmp, b_base, b_baseLen, b_num, b_relevant, b_implies, b_keptAt)) →
              (¬ rs_Same P.2.1 (rs_sh 0 (T.2.2.2.1 a)) (rs_sh 0 (T.2.2.2.1 b)) → (¬ rs_Sat G.2.2.2.2.2.2.2.2 (6 * P.2.2.1) (rs_eqC P.2.1 (rs_sh 0 (T.2.2.2.1 a)) (rs_sh 0 (T.2.2.2.1 b))) ∨ ∃ d, d ∈ P.2.2.2.1 ∧ rs_Same (rs_eqC P.2.1 (rs_sh 0 (T.2.2.2.1 a)) (rs_sh 0 (T.2.2.2.1 b))) d.1 d.2) → ∀ (g_frames g_neqs : Int32) (b_val b_len b_neqT b_neqU b_neqF b_stackGoal b_stackFrame b_buf b_bufLen b_tmp : Nat → Int32) (g_numbered : Int32) (b_num : Nat → Int32), post 2 (g_maxLevel, nI G.2.2.2.2.2.2.2.1, nI G.2.2.2.2.2.2.2.2, nI T.2.2.2.2, g_goals, 1, nI q, nI wd, nI lv, g_frames, g_neqs, g_numbered, g_kept, b_termToken, b_termLen, b_kind, b_goalSize, b_part, b_relation, b_outcome, b_val, b_len, b_neqT, b_neqU, b_neqF, b_stackGoal, b_stackFrame, b_buf, b_bufLen, b_tmp, b_base, b_baseLen, b_num, b_relevant, b_implies, b_keptAt)) →
              (¬ rs_Same P.2.1 (rs_sh 0 (T.2.2.2.1 a)) (rs_sh 0 (T.2.2.2.1 b)) → rs_Sat G.2.2.2.2.2.2.2.2 (6 * P.2.2.1) (rs_eqC P.2.1 (rs_sh 0 (T.2.2.2.1 a)) (rs_sh 0 (T.2.2.2.1 b))) → (¬ ∃ d, d ∈ P.2.2.2.1 ∧ rs_Same (rs_eqC P.2.1 (rs_sh 0 (T.2.2.2.1 a)) (rs_sh 0 (T.2.2.2.1 b))) d.1 d.2) → ∀ (g_frames g_neqs : Int32) (b_val b_len b_neqT b_neqU b_neqF b_stackGoal b_stackFrame b_buf b_bufLen b_tmp : Nat → Int32) (g_numbered : Int32) (b_num : Nat → Int32), post 3 (g_maxLevel, nI G.2.2.2.2.2.2.2.1, nI G.2.2.2.2.2.2.2.2, nI T.2.2.2.2, g_goals, 1, nI q, nI wd, nI lv, g_frames, g_neqs, g_numbered, g_kept, b_termToken, b_termLen, b_kind, b_goalSize, b_part, b_relation, b_outcome, b_val, b_len, b_neqT, b_neqU, b_neqF, b_stackGoal, b_stackFrame, b_buf, b_bufLen, b_tmp, b_base, b_baseLen, b_num, b_relevant, b_implies, b_keptAt)) →
              wpY_compare post (g_maxLevel, nI G.2.2.2.2.2.2.2.1, nI G.2.2.2.2.2.2.2.2, nI T.2.2.2.2, g_goals, 1, nI q, nI wd, nI lv, g_frames, g_neqs, g_numbered, g_kept, b_termToken, b_termLen, b_kind, b_goalSize, b_part, b_relation, b_outcome, b_val, b_len, b_neqT, b_neqU, b_neqF, b_stackGoal, b_stackFrame, b_buf, b_bufLen, b_tmp, b_base, b_baseLen, b_num, b_relevant, b_implies, b_keptAt) (nI j) (nI a) (nI b) := by
            intro post h1 h2 h3
            unfold wpY_compare
            refine yw_load_1 hY.2.2.2.2.2.1 hY.2.2.2.2.2.2.1 hW.2.2.2.2.2 htc hgc rfl rfl hq w2 hOC hO hj ?_
            rw [eP]
            intro σ g_frames g_neqs b_val b_len b_neqT b_neqU b_neqF b_stackGoal b_stackFrame b_buf b_bufLen b_tmp g_numbered b_num hYL
            obtain ⟨rfl, rfl, rfl, hYY, hV, hn', hNY, hnum⟩ := hYL
            refine br_t p0 (yw_isTerm_1 ha htc (br_f (by decide) (yw_isTerm_1 hb htc (br_f (by decide) ?_))))
            refine yw_diff_same (f := 0) hTB ha hb htc (by omega) (by omega) hms hYY hV ?_ ?_
            · intro hsame b_buf b_bufLen
              exact br_f (by decide) (h1 hsame _ _ _ _ _ _ _ _ _ _ _ _ _ _)
            · intro hns n hn256 b_buf b_bufLen
              refine br_t (nI_pos' (by omega)) ?_
              refine yw_unify (f := 0) hTB ha hb htc (by omega) (by omega) hms hYY hV ?_ ?_
              · intro σ' b_val b_len b_buf b_bufLen b_tmp hY' hV'
                have hSat := (rs_MG_sat (rs_Y_MG hY') G.2.2.2.2.2.2.2.2 (6 * P.2.2.1)).mpr hY'.2.2.1
                refine br_f (by decide) (yw_violated hTB htc (by omega) hms hY' hV' hNY hn' ?_ ?_)
                · intro hb' b_buf b_bufLen
                  exact br_f (by decide) (h2 hns (Or.inr hb') _ _ _ _ _ _ _ _ _ _ _ _ _ _)
                · intro hb' b_buf b_bufLen
                  exact br_t rfl (h3 hns hSat hb' _ _ _ _ _ _ _ _ _ _ _ _ _ _)
              · intro hSat b_val b_len b_buf b_bufLen b_tmp
                exact br_t rfl (h2 hns (Or.inl hSat) _ _ _ _ _ _ _ _ _ _ _ _ _ _)
          have hLO2 : ∀ l', (∀ n, n < 770 → l' n = a_link n) → rs_LO T G q wd oc (nI tt) (nI (P.2.2.1 - 1)) (nI P.2.2.2.1.length) (nI j) f_numberedCount (nI (rs_eu P.2.2.1 a_link).length) f_constraintsReady f_keptCount l' a_neqLeft a_neqRight a_numberOf a_numbered a_endUnknown a_kept := by
            intro l' hl'
            refine Or.inr ⟨j, hj, rfl, ?_, ?_⟩
            · rw [eP]; exact rs_LS_congr hl' hLS'
            · rw [eP]; exact hKP
          have htt := rs_LK_tt hXL.2.2.1
          refine xw_termNode (f := 0) ?_
          refine xw_termNode (f := 0) ?_
          refine xw_same hTA hms hXL (by omega) (by omega) ?_ ?_
          · intro hsame a_stackA a_stackB
            rw [eA, eB] at hsame
            refine br_f (by decide) (hYgo _ ?_ ?_ ?_)
            · intro _ g_frames g_neqs b_val b_len b_neqT b_neqU b_neqF b_stackGoal b_stackFrame b_buf b_bufLen b_tmp g_numbered b_num
              exact ⟨rfl, ⟨T, G, gc, ml, hW, hX, hY, rfl, Or.inr ⟨rfl, q, wd, lv, oc, hSS', hLO2 a_link (fun _ _ => rfl)⟩⟩⟩
            · intro hns; exact absurd hsame hns
            · intro hns; exact absurd hsame hns
          · intro hns a_stackA a_stackB
            rw [eA, eB] at hns
            refine br_t rfl ?_
            refine xw_unify hTA hms (by omega) hXL (Or.inl ⟨by omega, by omega⟩) (Or.inl ⟨by omega, by omega⟩) ?_ ?_
            · intro a_link' a_trail a_stackA a_stackB a_walk f_walkTop tt' hSat hXL' hTR
              rw [eA, eB] at hSat hXL'
              refine br_f (by decide) ?_
              refine xw_anyNeqBroken hTA hms hXL' hNQ hn ?_ ?_
              · intro hbr a_stackA a_stackB
                refine br_f (by decide) (xw_undoTo hTR (fun a_link hl' => ?_))
                refine br_f (by decide) (hYgo _ ?_ ?_ ?_)
                · intro hsame; exact absurd hsame hns
                · intro _ _ g_frames g_neqs b_val b_len b_neqT b_neqU b_neqF b_stackGoal b_stackFrame b_buf b_bufLen b_tmp g_numbered b_num
                  exact ⟨rfl, ⟨T, G, gc, ml, hW, hX, hY, rfl, Or.inr ⟨rfl, q, wd, lv, oc, hSS', hLO2 _ hl'⟩⟩⟩
                · intro _ _ hnb; exact absurd hbr hnb
              · intro hnb a_stackA a_stackB
                refine br_t rfl (xw_undoTo hTR (fun a_link hl' => ?_))
                refine br_t rfl (hYgo _ ?_ ?_ ?_)
                · intro hsame; exact absurd hsame hns
                · intro _ hor
                  rcases hor with z | z
                  · exact absurd hSat z
                  · exact absurd z hnb
                · intro _ _ _ g_frames g_neqs b_val b_len b_neqT b_neqU b_neqF b_stackGoal b_stackFrame b_buf b_bufLen b_tmp g_numbered b_num
                  exact ⟨rfl, ⟨T, G, gc, ml, hW, hX, hY, rfl, Or.inr ⟨rfl, q, wd, lv, oc, hSS', hLO2 _ hl'⟩⟩⟩
            · intro hSat a_link' a_trail a_stackA a_stackB a_walk f_walkTop tt' hTR
              rw [eA, eB] at hSat
              refine br_t rfl (xw_undoTo hTR (fun a_link hl' => ?_))
              refine br_f (by decide) (hYgo _ ?_ ?_ ?_)
              · intro hsame; exact absurd hsame hns
              · intro _ _ g_frames g_neqs b_val b_len b_neqT b_neqU b_neqF b_stackGoal b_stackFrame b_buf b_bufLen b_tmp g_numbered b_num
                exact ⟨rfl, ⟨T, G, gc, ml, hW, hX, hY, rfl, Or.inr ⟨rfl, q, wd, lv, oc, hSS', hLO2 _ hl'⟩⟩⟩
              · intro _ hS; exact absurd hS hSat
end
end
section
/-! masks, and which disequalities are kept, by their places -/
theorem rs_nI_or (a b : Nat) : nI a ||| nI b = nI (a ||| b) := by
  refine Int32.toBitVec_inj.mp ?_
  rw [Int32.toBitVec_or]
  show BitVec.ofNat 32 a ||| BitVec.ofNat 32 b = BitVec.ofNat 32 (a ||| b)
  exact (BitVec.ofNat_or ..).symm
theorem rs_or_add {m e : Nat} (h : m < 2 ^ e) : m ||| 2 ^ e = m + 2 ^ e := by
  have := Nat.two_pow_add_eq_or_of_lt h 1
  rw [Nat.mul_one, Nat.or_comm] at this
  omega
theorem rs_shl24 : ∀ l, l < 24 → (1 : Int32) <<< (nI l &&& 31) = nI (2 ^ l) := by decide +kernel
theorem rs_mask_or {m e : Nat} (h : m < 2 ^ e) (he : e < 24) : nI m ||| ((1 : Int32) <<< (nI e &&& 31)) = nI (m + 2 ^ e) := by
  rw [rs_shl24 e he, rs_nI_or, rs_or_add h]
theorem rs_mask_bit {m e : Nat} (hm : m < 2 ^ 31) (he : e < 24) : ((nI m >>> (nI e &&& 31)) &&& 1) = nI (m / 2 ^ e % 2) := by
  have h : ∀ j, j < 32 → ((nI j &&& 31).toBitVec.smod 32).toNat = j := by decide +kernel
  rw [pk_shrN hm _ e (h e (by omega))]
  exact xw_and1 (Nat.lt_of_le_of_lt (Nat.div_le_self _ _) hm)
noncomputable def rs_mk (P : Nat → Prop) : Nat → Nat
  | 0 => 0
  | n + 1 => rs_mk P n + rs_if (P n) (2 ^ n) 0
theorem rs_mk_lt (P : Nat → Prop) : ∀ n, rs_mk P n < 2 ^ n
  | 0 => by show 0 < 1; omega
  | n + 1 => by
    have := rs_mk_lt P n
    show rs_mk P n + rs_if (P n) (2 ^ n) 0 < 2 ^ (n + 1)
    rw [Nat.pow_succ]
    by_cases h : P n
    · rw [rs_if_t h]; omega
    · rw [rs_if_f h]; omega
theorem rs_mk_t {P : Nat → Prop} {n : Nat} (h : P n) : rs_mk P (n + 1) = rs_mk P n + 2 ^ n := by
  show rs_mk P n + rs_if (P n) (2 ^ n) 0 = _
  rw [rs_if_t h]
theorem rs_mk_f {P : Nat → Prop} {n : Nat} (h : ¬ P n) : rs_mk P (n + 1) = rs_mk P n := by
  show rs_mk P n + rs_if (P n) (2 ^ n) 0 = _
  rw [rs_if_f h]; rfl
theorem rs_mk_bit (P : Nat → Prop) : ∀ n i, i < n → (P i → rs_mk P n / 2 ^ i % 2 = 1) ∧ (¬ P i → rs_mk P n / 2 ^ i % 2 = 0)
  | 0, _, h => absurd h (by omega)
  | n + 1, i, h => by
    have hlt := rs_mk_lt P n
    by_cases e : i = n
    · subst e
      constructor
      · intro hp
        rw [rs_mk_t hp, Nat.add_div_right _ (Nat.pow_pos (by omega)), Nat.div_eq_of_lt hlt]
      · intro hp
        rw [rs_mk_f hp, Nat.div_eq_of_lt hlt]
    · have ih := rs_mk_bit P n i (by omega)
      have key : rs_mk P (n + 1) / 2 ^ i % 2 = rs_mk P n / 2 ^ i % 2 := by
        by_cases hp : P n
        · rw [rs_mk_t hp]
          have e2 : 2 ^ n = 2 ^ i * (2 * 2 ^ (n - i - 1)) := by
            rw [← Nat.mul_assoc, ← Nat.pow_succ, ← Nat.pow_add]
            congr 1
            omega
          rw [e2, Nat.add_mul_div_left _ _ (Nat.pow_pos (by omega))]
          omega
        · rw [rs_mk_f hp]
      rw [key]
      exact ih
def rs_RelI (ms nf wd : Nat) (C : rs_V) (ne : List (List Nat × List Nat)) (i : Nat) : Prop := ∃ d, ne[i]? = some d ∧ rs_Rel ms nf wd C d
def rs_ImpI (C : rs_V) (ne : List (List Nat × List Nat)) (i j : Nat) : Prop := ∃ d e, ne[i]? = some d ∧ ne[j]? = some e ∧ rs_Imp C d e
theorem rs_get_lt {α : Type} {l : List α} {i : Nat} {d : α} (h : l[i]? = some d) : i < l.length := by
  rcases Nat.lt_or_ge i l.length with z | z
  · exact z
  · rw [List.getElem?_eq_none z] at h; exact absurd h (by simp)
theorem rs_Kept_iff {ms nf wd : Nat} {C : rs_V} {ne : List (List Nat × List Nat)} {i : Nat} : rs_Kept ms nf wd C ne i ↔ rs_RelI ms nf wd C ne i ∧ ¬ ∃ j, j < ne.length ∧ j ≠ i ∧ rs_RelI ms nf wd C ne j ∧ rs_ImpI C ne i j ∧ (j < i ∨ ¬ rs_ImpI C ne j i) := by
  constructor
  · rintro ⟨d, d1, d2, d3⟩
    refine ⟨⟨d, d1, d2⟩, ?_⟩
    rintro ⟨j, j1, j2, ⟨e, e1, e2⟩, ⟨d', e', q1, q2, q3⟩, j5⟩
    rw [d1] at q1
    rw [e1] at q2
    injection q1 with q1
    injection q2 with q2
    subst q1 q2
    refine d3 j e e1 j2 e2 q3 ?_
    rcases j5 with z | z
    · exact Or.inl z
    · exact Or.inr (fun y => z ⟨e, d, e1, d1, y⟩)
  · rintro ⟨⟨d, d1, d2⟩, h⟩
    refine ⟨d, d1, d2, ?_⟩
    intro j e e1 j2 e2 q3 hor
    refine h ⟨j, rs_get_lt e1, j2, ⟨e, e1, e2⟩, ⟨d, e, d1, e1, q3⟩, ?_⟩
    rcases hor with z | z
    · exact Or.inl z
    · refine Or.inr (fun y => ?_)
      obtain ⟨e', d', q1, q2, q3⟩ := y
      rw [e1] at q1
      rw [d1] at q2
      injection q1 with q1
      injection q2 with q2
      subst q1 q2
      exact z q3
theorem rs_fl_t {P : Nat → Prop} {a n : Nat} (h : P a) : rs_fl P a (n + 1) = a :: rs_fl P (a + 1) n := rs_if_t h
theorem rs_fl_f {P : Nat → Prop} {a n : Nat} (h : ¬ P a) : rs_fl P a (n + 1) = rs_fl P (a + 1) n := rs_if_f h
theorem rs_fl_len {P : Nat → Prop} : ∀ n a, (rs_fl P a n).length ≤ n
  | 0, _ => Nat.le_refl _
  | n + 1, a => by
    have := rs_fl_len (P := P) n (a + 1)
    by_cases h : P a
    · rw [rs_fl_t h, List.length_cons]; omega
    · rw [rs_fl_f h]; omega
theorem rs_fl_app {P : Nat → Prop} : ∀ m a n, rs_fl P a (m + n) = rs_fl P a m ++ rs_fl P (a + m) n
  | 0, a, n => by rw [Nat.zero_add]; rfl
  | m + 1, a, n => by
    have ih := rs_fl_app (P := P) m (a + 1) n
    rw [show m + 1 + n = (m + n) + 1 by omega, show a + (m + 1) = a + 1 + m by omega]
    by_cases h : P a
    · rw [rs_fl_t h, rs_fl_t h, ih]; rfl
    · rw [rs_fl_f h, rs_fl_f h, ih]
theorem rs_fl_mem {P : Nat → Prop} {x : Nat} : ∀ n a, x ∈ rs_fl P a n → a ≤ x ∧ x < a + n ∧ P x
  | 0, _, h => absurd h List.not_mem_nil
  | n + 1, a, h => by
    by_cases hp : P a
    · rw [rs_fl_t hp] at h
      rcases List.mem_cons.mp h with z | z
      · rw [z]; exact ⟨Nat.le_refl _, by omega, hp⟩
      · obtain ⟨q1, q2, q3⟩ := rs_fl_mem n (a + 1) z
        exact ⟨by omega, by omega, q3⟩
    · rw [rs_fl_f hp] at h
      obtain ⟨q1, q2, q3⟩ := rs_fl_mem n (a + 1) h
      exact ⟨by omega, by omega, q3⟩
/-- one more place -/
theorem rs_fl_st {P : Nat → Prop} {i : Nat} (h : P i) : rs_fl P 0 (i + 1) = rs_fl P 0 i ++ [i] := by
  rw [rs_fl_app, Nat.zero_add, rs_fl_t h]; rfl
theorem rs_fl_sf {P : Nat → Prop} {i : Nat} (h : ¬ P i) : rs_fl P 0 (i + 1) = rs_fl P 0 i := by
  rw [rs_fl_app, Nat.zero_add, rs_fl_f h, show rs_fl P (i + 1) 0 = [] from rfl, List.append_nil]
/-! sightings -/
/-- how many of the places in l have the unknown v in their value -/
def rs_sg (s : Nat → List Nat) (l : List Nat) (v : Nat) : Nat := (l.filter (fun x => decide (100 + v ∈ s x))).length
theorem rs_sg_snoc {s : Nat → List Nat} {l : List Nat} {x v : Nat} : rs_sg s (l ++ [x]) v = rs_sg s l v + if 100 + v ∈ s x then 1 else 0 := by
  unfold rs_sg
  rw [List.filter_append, List.length_append]
  congr 1
  by_cases h : 100 + v ∈ s x
  · rw [if_pos h, List.filter_cons_of_pos (by simpa using h)]; rfl
  · rw [if_neg h, List.filter_cons_of_neg (by simpa using h)]; rfl
theorem rs_sg_le {s : Nat → List Nat} {l : List Nat} {v : Nat} : rs_sg s l v ≤ l.length := List.length_filter_le _ _
/-- seen once alone -/
theorem rs_sg_two {s : Nat → List Nat} {l : List Nat} {x v : Nat} (hn : l.Nodup) (hx : x ∈ l) (hv : 100 + v ∈ s x) : rs_sg s l v < 2 ↔ ∀ z, z ∈ l → 100 + v ∈ s z → z = x := by
  unfold rs_sg
  have hnd : (l.filter (fun x => decide (100 + v ∈ s x))).Nodup := List.Pairwise.filter _ hn
  have hm : ∀ z, z ∈ l.filter (fun x => decide (100 + v ∈ s x)) ↔ z ∈ l ∧ 100 + v ∈ s z := by
    intro z
    rw [List.mem_filter]
    simp
  generalize l.filter (fun x => decide (100 + v ∈ s x)) = m at *
  constructor
  · intro h z hz hz2
    have h1 := (hm x).mpr ⟨hx, hv⟩
    have h2 := (hm z).mpr ⟨hz, hz2⟩
    cases m with
    | nil => exact absurd h1 List.not_mem_nil
    | cons a m =>
      cases m with
      | nil =>
        rw [List.mem_singleton] at h1 h2
        rw [h1, h2]
      | cons b m => simp at h; omega
  · intro h
    cases m with
    | nil => simp
    | cons a m =>
      cases m with
      | nil => simp
      | cons b m =>
        exfalso
        have h1 := (hm a).mp (List.mem_cons_self ..)
        have h2 := (hm b).mp (List.mem_cons_of_mem _ (List.mem_cons_self ..))
        have e1 := h a h1.1 h1.2
        have e2 := h b h2.1 h2.2
        exact (List.nodup_cons.mp hnd).1 (by rw [e1, ← e2]; exact List.mem_cons_self ..)
end
section
/-! the component: what an imagined equation touches -/
def rs_SI (base : Nat → Nat) (i : Nat) (pre : List Nat) (sg ls : Nat → Int32) : Prop :=
  ∀ v, v < 66 → (ls v = -1 ∨ ∃ i', i' ≤ i ∧ ls v = nI i') ∧ (100 + v ∈ pre → ls v = nI i ∧ sg v = nI (base v + 1)) ∧ (100 + v ∉ pre → ls v ≠ nI i ∧ sg v = nI (base v))
theorem rs_SI_lo {base : Nat → Nat} {i t : Nat} {pre : List Nat} {sg ls : Nat → Int32} (h : rs_SI base i pre sg ls) (ht : t < 100) : rs_SI base i (pre ++ [t]) sg ls := by
  intro v hv
  obtain ⟨h1, h2, h3⟩ := h v hv
  have e : 100 + v ∈ pre ++ [t] ↔ 100 + v ∈ pre := by
    rw [List.mem_append, List.mem_singleton]
    constructor
    · rintro (z | z)
      · exact z
      · omega
    · exact Or.inl
  rw [e]
  exact ⟨h1, h2, h3⟩
theorem rs_SI_in {base : Nat → Nat} {i v : Nat} {pre : List Nat} {sg ls : Nat → Int32} (h : rs_SI base i pre sg ls) (hv : v < 66) (hl : ls v = nI i) : rs_SI base i (pre ++ [100 + v]) sg ls := by
  have hm : 100 + v ∈ pre := by
    obtain ⟨_, _, h3⟩ := h v hv
    by_cases z : 100 + v ∈ pre
    · exact z
    · exact absurd hl (h3 z).1
  intro w hw
  obtain ⟨h1, h2, h3⟩ := h w hw
  have e : 100 + w ∈ pre ++ [100 + v] ↔ 100 + w ∈ pre := by
    rw [List.mem_append, List.mem_singleton]
    constructor
    · rintro (z | z)
      · exact z
      · rw [z]; exact hm
    · exact Or.inl
  rw [e]
  exact ⟨h1, h2, h3⟩
theorem rs_SI_new {base : Nat → Nat} {i v : Nat} {pre : List Nat} {sg ls : Nat → Int32} (h : rs_SI base i pre sg ls) (hv : v < 66) (hl : ls v ≠ nI i) : sg v = nI (base v) ∧ rs_SI base i (pre ++ [100 + v]) (upd sg v (nI (base v + 1))) (upd ls v (nI i)) := by
  have hm : 100 + v ∉ pre := fun z => hl ((h v hv).2.1 z).1
  refine ⟨((h v hv).2.2 hm).2, ?_⟩
  intro w hw
  obtain ⟨h1, h2, h3⟩ := h w hw
  by_cases e : w = v
  · subst e
    refine ⟨Or.inr ⟨i, Nat.le_refl _, if_pos rfl⟩, fun _ => ⟨if_pos rfl, if_pos rfl⟩, fun z => absurd (List.mem_append_right _ (List.mem_cons_self ..)) z⟩
  · have em : 100 + w ∈ pre ++ [100 + v] ↔ 100 + w ∈ pre := by
      rw [List.mem_append, List.mem_singleton]
      constructor
      · rintro (z | z)
        · exact z
        · omega
      · exact Or.inl
    rw [em, show upd sg v (nI (base v + 1)) w = sg w from if_neg e, show upd ls v (nI i) w = ls w from if_neg e]
    exact ⟨h1, h2, h3⟩
section
variable {f_kindSymbol f_kindSlot f_kindPair f_goalEq f_goalNeq f_goalBoth f_goalEither f_goalCall f_goOn f_outAnswer f_outFailure f_outCut f_outPending f_firstVariable f_maxLevel f_maxCalls f_maxSize f_termCount f_goalCount f_searching f_queryGoal f_queryWidth f_levelNow f_pendingCount f_nextCount f_answerCount f_failureCount f_cutCount f_trailTop f_callsDone f_choicesLeft f_neqCount f_workTop f_walkTop f_loaded f_numberedCount f_endUnknownCount f_constraintsReady f_relevantMask f_keptCount : Int32} {a_termKind a_termLeft a_termRight a_termSize a_goalKind a_goalFirst a_goalSecond a_goalThird a_goalFourth a_goalSize a_relationGoal a_pendingPath a_nextPath a_answerPath a_link a_trail a_neqLeft a_neqRight a_workGoal a_workFrame a_stackA a_stackB a_walk a_numberOf a_numbered a_endUnknown a_implied a_kept a_sightings a_lastSeen : Nat → Int32}
variable {T : rs_T} {nf tt : Nat}
theorem xw_count_59 {post : SX → Prop} {J30 : Int32 → Int32 → Int32 → Int32 → Int32 → Int32 → Int32 → Int32 → Int32 → Int32 → Int32 → Int32 → Int32 → Int32 → Int32 → Int32 → Int32 → Int32 → Int32 → Int32 → Int32 → Int32 → Int32 → Int32 → Int32 → Int32 → Int32 → Int32 → Int32 → Int32 → Int32 → Int32 → Int32 → Int32 → Int32 → Int32 → Int32 → Int32 → Int32 → Int32 → Int32 → (Nat → Int32) → (Nat → Int32) → (Nat → Int32) → (Nat → Int32) → (Nat → Int32) → (Nat → Int32) → (Nat → Int32) → (Nat → Int32) → (Nat → Int32) → (Nat → Int32) → (Nat → Int32) → (Nat → Int32) → (Nat → Int32) → (Nat → Int32) → (Nat → Int32) → (Nat → Int32) → (Nat → Int32) → (Nat → Int32) → (Nat → Int32) → (Nat → Int32) → (Nat → Int32) → (Nat → Int32) → (Nat → Int32) → (Nat → Int32) → (Nat → Int32) → (Nat → Int32) → (Nat → Int32) → (Nat → Int32) → (Nat → Int32) → (Nat → Int32) → Prop} {S : List Nat} {base : Nat → Nat} {i : Nat} (hT : rs_TA T a_termKind a_termLeft a_termRight) (hR : rs_LR a_link) (hL : rs_LK T nf (rs_lk a_link) tt)
    (k : ∀ (f_walkTop : Int32) (a_walk a_sightings a_lastSeen : Nat → Int32), rs_SI base i S a_sightings a_lastSeen → J30 (nI (i + 1)) f_kindSymbol f_kindSlot f_kindPair f_goalEq f_goalNeq f_goalBoth f_goalEither f_goalCall f_goOn f_outAnswer f_outFailure f_outCut f_outPending f_firstVariable f_maxLevel f_maxCalls f_maxSize f_termCount f_goalCount f_searching f_queryGoal f_queryWidth f_levelNow f_pendingCount f_nextCount f_answerCount f_failureCount f_cutCount f_trailTop f_callsDone f_choicesLeft f_neqCount f_workTop f_walkTop f_loaded f_numberedCount f_endUnknownCount f_constraintsReady f_relevantMask f_keptCount a_termKind a_termLeft a_termRight a_termSize a_goalKind a_goalFirst a_goalSecond a_goalThird a_goalFourth a_goalSize a_relationGoal a_pendingPath a_nextPath a_answerPath a_link a_trail a_neqLeft a_neqRight a_workGoal a_workFrame a_stackA a_stackB a_walk a_numberOf a_numbered a_endUnknown a_implied a_kept a_sightings a_lastSeen) :
    ∀ (l : List Nat) (r : Nat) (st : List Nat) (c j : Nat) (pre : List Nat) (a_walk a_sightings a_lastSeen : Nat → Int32), r < 770 → rs_nx T (rs_lk a_link) r = none → (∀ n, n ∈ st → n < 770) → rs_WA a_walk st → rs_WK T (rs_lk a_link) st l → l.length + c < 32 → l.length + 1 < j → pre ++ rs_tkn T r :: l = S → rs_SI base i pre a_sightings a_lastSeen →
      wX_countSightings_59 post J30 (nI i) j (nI r) (nI c) f_kindSymbol f_kindSlot f_kindPair f_goalEq f_goalNeq f_goalBoth f_goalEither f_goalCall f_goOn f_outAnswer f_outFailure f_outCut f_outPending f_firstVariable f_maxLevel f_maxCalls f_maxSize f_termCount f_goalCount f_searching f_queryGoal f_queryWidth f_levelNow f_pendingCount f_nextCount f_answerCount f_failureCount f_cutCount f_trailTop f_callsDone f_choicesLeft f_neqCount f_workTop (nI st.length) f_loaded f_numberedCount f_endUnknownCount f_constraintsReady f_relevantMask f_keptCount a_termKind a_termLeft a_termRight a_termSize a_goalKind a_goalFirst a_goalSecond a_goalThird a_goalFourth a_goalSize a_relationGoal a_pendingPath a_nextPath a_answerPath a_link a_trail a_neqLeft a_neqRight a_workGoal a_workFrame a_stackA a_stackB a_walk a_numberOf a_numbered a_endUnknown a_implied a_kept a_sightings a_lastSeen := by
  intro l
  induction l with
  | nil =>
    intro r st c j pre a_walk a_sightings a_lastSeen hr hx hst hW hK hc hj hE hS
    obtain ⟨j, rfl⟩ : ∃ m, j = m + 1 := ⟨j - 1, by omega⟩
    obtain ⟨j, rfl⟩ : ∃ m, j = m + 1 := ⟨j - 1, by omega⟩
    have h0 : st = [] := hK
    subst h0
    subst hE
    refine br_f (nI_ge (b := 32) (by simp at hc; omega) (by decide)) (br_f (nI_pos (by omega)) ?_)
    have fin : ∀ (a_sightings a_lastSeen : Nat → Int32), rs_SI base i (pre ++ [rs_tkn T r]) a_sightings a_lastSeen → wX_countSightings_115 post J30 (wX_countSightings_59 post J30 (nI i) (j + 1)) (nI i) (nI c) f_kindSymbol f_kindSlot f_kindPair f_goalEq f_goalNeq f_goalBoth f_goalEither f_goalCall f_goOn f_outAnswer f_outFailure f_outCut f_outPending f_firstVariable f_maxLevel f_maxCalls f_maxSize f_termCount f_goalCount f_searching f_queryGoal f_queryWidth f_levelNow f_pendingCount f_nextCount f_answerCount f_failureCount f_cutCount f_trailTop f_callsDone f_choicesLeft f_neqCount f_workTop 0 f_loaded f_numberedCount f_endUnknownCount f_constraintsReady f_relevantMask f_keptCount a_termKind a_termLeft a_termRight a_termSize a_goalKind a_goalFirst a_goalSecond a_goalThird a_goalFourth a_goalSize a_relationGoal a_pendingPath a_nextPath a_answerPath a_link a_trail a_neqLeft a_neqRight a_workGoal a_workFrame a_stackA a_stackB a_walk a_numberOf a_numbered a_endUnknown a_implied a_kept a_sightings a_lastSeen := by
      intro a_sightings a_lastSeen hS'
      refine xw_nextNode_0 (nm_r (nI_1 c) ?_)
      exact br_c (fun _ => nm_r (nI_1 i) (k _ _ _ _ hS')) (fun _ => br_t (by decide) (nm_r (nI_1 i) (k _ _ _ _ hS')))
    by_cases h7 : r < 704
    · exact br_t (nI_lt (b := 704) h7 (by decide)) (fin _ _ (rs_SI_lo hS (rs_tkn_lo hT.1 h7 hx)))
    · obtain ⟨v, rfl⟩ : ∃ v, r = 704 + v := ⟨r - 704, by omega⟩
      have ev : nI (704 + v) - 704 = nI v := by
        rw [show (704 : Int32) = nI 704 from rfl, pk_sub (by omega), Nat.add_sub_cancel_left]
      rw [rs_tkn_hi (by omega), Nat.add_sub_cancel_left] at fin
      refine br_f (nI_nlt (b := 704) (by omega) (by omega)) ?_
      rw [ev]
      refine ⟨vp_in_nI (by omega) (by decide), ?_⟩
      rw [nI_clamp (n := v) (by omega)]
      by_cases hl : a_lastSeen v = nI i
      · exact br_t hl (fin _ _ (rs_SI_in hS (by omega) hl))
      · obtain ⟨q1, q2⟩ := rs_SI_new hS (v := v) (by omega) hl
        refine br_f hl ⟨vp_in_nI (by omega) (by decide), nm_e ⟨vp_in_nI (by omega) (by decide), vp_in_nI (by omega) (by decide), nm_r (e' := upd a_sightings v (nI (base v + 1))) (by rw [q1, nI_1]) (fin _ _ q2)⟩⟩
  | cons t l ih =>
    intro r st c j pre a_walk a_sightings a_lastSeen hr hx hst hW hK hc hj hE hS
    obtain ⟨j, rfl⟩ : ∃ m, j = m + 1 := ⟨j - 1, by omega⟩
    obtain ⟨n, st', rfl, e1, e2⟩ := hK
    have hn := hst n (List.mem_cons_self ..)
    have hsl := rs_W_le _ _ (rs_WK_W (t :: l) (n :: st') ⟨n, st', rfl, e1, e2⟩)
    rw [List.length_cons] at hc hj
    rw [List.length_cons, List.length_cons] at hsl
    refine br_f (nI_ge (b := 32) (by omega) (by decide)) (br_f (nI_pos (by omega)) ?_)
    have fin : ∀ (a_sightings a_lastSeen : Nat → Int32), rs_SI base i (pre ++ [rs_tkn T r]) a_sightings a_lastSeen → wX_countSightings_115 post J30 (wX_countSightings_59 post J30 (nI i) j) (nI i) (nI c) f_kindSymbol f_kindSlot f_kindPair f_goalEq f_goalNeq f_goalBoth f_goalEither f_goalCall f_goOn f_outAnswer f_outFailure f_outCut f_outPending f_firstVariable f_maxLevel f_maxCalls f_maxSize f_termCount f_goalCount f_searching f_queryGoal f_queryWidth f_levelNow f_pendingCount f_nextCount f_answerCount f_failureCount f_cutCount f_trailTop f_callsDone f_choicesLeft f_neqCount f_workTop (nI (n :: st').length) f_loaded f_numberedCount f_endUnknownCount f_constraintsReady f_relevantMask f_keptCount a_termKind a_termLeft a_termRight a_termSize a_goalKind a_goalFirst a_goalSecond a_goalThird a_goalFourth a_goalSize a_relationGoal a_pendingPath a_nextPath a_answerPath a_link a_trail a_neqLeft a_neqRight a_workGoal a_workFrame a_stackA a_stackB a_walk a_numberOf a_numbered a_endUnknown a_implied a_kept a_sightings a_lastSeen := by
      intro a_sightings a_lastSeen hS'
      unfold wX_countSightings_115
      refine xw_nextNode hT hR hL hn hW (by omega) (fun a_walk hW' => nm_r (nI_1 c) ?_)
      refine ih (rs_rt T (rs_lk a_link) n) _ (c + 1) j (pre ++ [rs_tkn T r]) a_walk a_sightings a_lastSeen (rs_rt_lt hT.1 hL hn) (rs_rt_root hT.1 hL hn) ?_ hW' e2 (by omega) (by omega) ?_ hS'
      · intro x hx1
        rcases List.mem_append.mp hx1 with z | z
        · exact rs_kd_lt hT.1 z
        · exact hst x (List.mem_cons_of_mem _ z)
      · rw [List.append_assoc, ← e1]
        exact hE
    by_cases h7 : r < 704
    · exact br_t (nI_lt (b := 704) h7 (by decide)) (fin _ _ (rs_SI_lo hS (rs_tkn_lo hT.1 h7 hx)))
    · obtain ⟨v, rfl⟩ : ∃ v, r = 704 + v := ⟨r - 704, by omega⟩
      have ev : nI (704 + v) - 704 = nI v := by
        rw [show (704 : Int32) = nI 704 from rfl, pk_sub (by omega), Nat.add_sub_cancel_left]
      rw [rs_tkn_hi (by omega), Nat.add_sub_cancel_left] at fin
      refine br_f (nI_nlt (b := 704) (by omega) (by omega)) ?_
      rw [ev]
      refine ⟨vp_in_nI (by omega) (by decide), ?_⟩
      rw [nI_clamp (n := v) (by omega)]
      by_cases hl : a_lastSeen v = nI i
      · exact br_t hl (fin _ _ (rs_SI_in hS (by omega) hl))
      · obtain ⟨q1, q2⟩ := rs_SI_new hS (v := v) (by omega) hl
        refine br_f hl ⟨vp_in_nI (by omega) (by decide), nm_e ⟨vp_in_nI (by omega) (by decide), vp_in_nI (by omega) (by decide), nm_r (e' := upd a_sightings v (nI (base v + 1))) (by rw [q1, nI_1]) (fin _ _ q2)⟩⟩
theorem xw_countSightings {post : SX → Prop} {eu : List Nat} {s : Nat → List Nat} (hT : rs_TA T a_termKind a_termLeft a_termRight) (hR : rs_LR a_link) (hL : rs_LK T nf (rs_lk a_link) tt) (hs : ∀ v, rs_WK T (rs_lk a_link) [704 + v] (s v)) (h31 : ∀ v, (s v).length ≤ 31) (heu : ∀ v, v ∈ eu → v < 66) (hel : eu.length ≤ 66) (hA : rs_A a_endUnknown 0 eu)
    (h : ∀ (f_walkTop : Int32) (a_walk a_sightings a_lastSeen : Nat → Int32), (∀ v, v < 66 → a_sightings v = nI (rs_sg s eu v)) → post (f_kindSymbol, f_kindSlot, f_kindPair, f_goalEq, f_goalNeq, f_goalBoth, f_goalEither, f_goalCall, f_goOn, f_outAnswer, f_outFailure, f_outCut, f_outPending, f_firstVariable, f_maxLevel, f_maxCalls, f_maxSize, f_termCount, f_goalCount, f_searching, f_queryGoal, f_queryWidth, f_levelNow, f_pendingCount, f_nextCount, f_answerCount, f_failureCount, f_cutCount, f_trailTop, f_callsDone, f_choicesLeft, f_neqCount, f_workTop, f_walkTop, f_loaded, f_numberedCount, nI eu.length, f_constraintsReady, f_relevantMask, f_keptCount, a_termKind, a_termLeft, a_termRight, a_termSize, a_goalKind, a_goalFirst, a_goalSecond, a_goalThird, a_goalFourth, a_goalSize, a_relationGoal, a_pendingPath, a_nextPath, a_answerPath, a_link, a_trail, a_neqLeft, a_neqRight, a_workGoal, a_workFrame, a_stackA, a_stackB, a_walk, a_numberOf, a_numbered, a_endUnknown, a_implied, a_kept, a_sightings, a_lastSeen)) : wpX_countSightings post (f_kindSymbol, f_kindSlot, f_kindPair, f_goalEq, f_goalNeq, f_goalBoth, f_goalEither, f_goalCall, f_goOn, f_outAnswer, f_outFailure, f_outCut, f_outPending, f_firstVariable, f_maxLevel, f_maxCalls, f_maxSize, f_termCount, f_goalCount, f_searching, f_queryGoal, f_queryWidth, f_levelNow, f_pendingCount, f_nextCount, f_answerCount, f_failureCount, f_cutCount, f_trailTop, f_callsDone, f_choicesLeft, f_neqCount, f_workTop, f_walkTop, f_loaded, f_numberedCount, nI eu.length, f_constraintsReady, f_relevantMask, f_keptCount, a_termKind, a_termLeft, a_termRight, a_termSize, a_goalKind, a_goalFirst, a_goalSecond, a_goalThird, a_goalFourth, a_goalSize, a_relationGoal, a_pendingPath, a_nextPath, a_answerPath, a_link, a_trail, a_neqLeft, a_neqRight, a_workGoal, a_workFrame, a_stackA, a_stackB, a_walk, a_numberOf, a_numbered, a_endUnknown, a_implied, a_kept, a_sightings, a_lastSeen) := by
  have key : ∀ (suf pre : List Nat) (n : Nat) (f_walkTop : Int32) (a_walk a_sightings a_lastSeen : Nat → Int32), eu = pre ++ suf → suf.length < n → (∀ v, v < 66 → a_sightings v = nI (rs_sg s pre v) ∧ (a_lastSeen v = -1 ∨ ∃ i', i' < pre.length ∧ a_lastSeen v = nI i')) → wX_countSightings_30 post n (nI pre.length) f_kindSymbol f_kindSlot f_kindPair f_goalEq f_goalNeq f_goalBoth f_goalEither f_goalCall f_goOn f_outAnswer f_outFailure f_outCut f_outPending f_firstVariable f_maxLevel f_maxCalls f_maxSize f_termCount f_goalCount f_searching f_queryGoal f_queryWidth f_levelNow f_pendingCount f_nextCount f_answerCount f_failureCount f_cutCount f_trailTop f_callsDone f_choicesLeft f_neqCount f_workTop f_walkTop f_loaded f_numberedCount (nI eu.length) f_constraintsReady f_relevantMask f_keptCount a_termKind a_termLeft a_termRight a_termSize a_goalKind a_goalFirst a_goalSecond a_goalThird a_goalFourth a_goalSize a_relationGoal a_pendingPath a_nextPath a_answerPath a_link a_trail a_neqLeft a_neqRight a_workGoal a_workFrame a_stackA a_stackB a_walk a_numberOf a_numbered a_endUnknown a_implied a_kept a_sightings a_lastSeen := by
    intro suf
    induction suf with
    | nil =>
      intro pre n f_walkTop a_walk a_sightings a_lastSeen e hn hS
      obtain ⟨n, rfl⟩ : ∃ m, n = m + 1 := ⟨n - 1, by omega⟩
      rw [List.append_nil] at e
      subst e
      exact br_t (nI_le (Nat.le_refl _) (by omega)) (h _ _ _ _ (fun v hv => (hS v hv).1))
    | cons x suf ih =>
      intro pre n f_walkTop a_walk a_sightings a_lastSeen e hn hS
      obtain ⟨n, rfl⟩ : ∃ m, n = m + 1 := ⟨n - 1, by omega⟩
      have hlen : eu.length = pre.length + (suf.length + 1) := by rw [e, List.length_append, List.length_cons]
      have hx := heu x (by rw [e]; exact List.mem_append_right _ (List.mem_cons_self ..))
      have ex : a_endUnknown pre.length = nI x := by
        have h := hA
        rw [e] at h
        have := rs_A_mid h
        rwa [Nat.zero_add] at this
      have e7 : 704 + nI x = nI (704 + x) := nI_add 704 x
      refine br_f (nI_ge (by omega) (by omega)) ⟨vp_in_nI (by omega) (by decide), ?_⟩
      rw [nI_clamp (n := pre.length) (by omega), ex, e7]
      have hK := hs x
      have hl31 := h31 x
      generalize eS : s x = S at hK hl31
      cases S with
      | nil => exact absurd (show [704 + x] = [] from hK) (by simp)
      | cons t l =>
        obtain ⟨n0, st', e0, e1, e2⟩ := hK
        injection e0 with e3 e4
        subst e3 e4
        rw [List.length_cons] at hl31
        refine xw_startWalk ?_
        refine xw_nextNode (n := 704 + x) (st := []) hT hR hL (by omega) ⟨if_pos rfl, trivial⟩ (by simp) (fun a_walk hW' => ⟨34, ?_⟩)
        refine xw_count_59 (S := t :: l) (base := fun v => rs_sg s pre v) hT hR hL ?_ l (rs_rt T (rs_lk a_link) (704 + x)) _ 0 34 [] a_walk a_sightings a_lastSeen (rs_rt_lt hT.1 hL (by omega)) (rs_rt_root hT.1 hL (by omega)) ?_ hW' e2 (by omega) (by omega) (by rw [← e1]; rfl) ?_
        · intro f_walkTop a_walk a_sightings a_lastSeen hSI
          have hpl : (pre ++ [x]).length = pre.length + 1 := by rw [List.length_append]; rfl
          have key2 := ih (pre ++ [x]) n f_walkTop a_walk a_sightings a_lastSeen (by rw [e, List.append_assoc]; rfl) (by rw [List.length_cons] at hn; omega) (by
            intro v hv
            obtain ⟨q1, q2, q3⟩ := hSI v hv
            rw [rs_sg_snoc, eS, hpl]
            refine ⟨?_, ?_⟩
            · by_cases z : 100 + v ∈ t :: l
              · rw [if_pos z]; exact (q2 z).2
              · rw [if_neg z]; exact (q3 z).2
            · rcases q1 with z | ⟨i', z1, z2⟩
              · exact Or.inl z
              · exact Or.inr ⟨i', by omega, z2⟩)
          rw [hpl] at key2
          exact key2
        · intro y hy
          rcases List.mem_append.mp hy with z | z
          · exact rs_kd_lt hT.1 z
          · exact absurd z List.not_mem_nil
        · intro v hv
          obtain ⟨q1, q2⟩ := hS v hv
          refine ⟨?_, fun z => absurd z List.not_mem_nil, fun _ => ⟨?_, q1⟩⟩
          · rcases q2 with z | ⟨i', z1, z2⟩
            · exact Or.inl z
            · exact Or.inr ⟨i', by omega, z2⟩
          · rcases q2 with z | ⟨i', z1, z2⟩
            · rw [z]
              intro y
              have := congrArg Int32.toInt y
              rw [nI_toInt (by omega)] at this
              have e9 : (-1 : Int32).toInt = -1 := by decide
              omega
            · rw [z2]
              intro y
              have := (nI_eq (by omega) (by omega)).mp y
              omega
  have key0 : ∀ (d i : Nat) (a_sightings a_lastSeen : Nat → Int32), i + d = 66 → (∀ v, v < i → a_sightings v = 0 ∧ a_lastSeen v = -1) → wX_countSightings_2 post f_kindSymbol f_kindSlot f_kindPair f_goalEq f_goalNeq f_goalBoth f_goalEither f_goalCall f_goOn f_outAnswer f_outFailure f_outCut f_outPending f_firstVariable f_maxLevel f_maxCalls f_maxSize f_termCount f_goalCount f_searching f_queryGoal f_queryWidth f_levelNow f_pendingCount f_nextCount f_answerCount f_failureCount f_cutCount f_trailTop f_callsDone f_choicesLeft f_neqCount f_workTop f_walkTop f_loaded f_numberedCount (nI eu.length) f_constraintsReady f_relevantMask f_keptCount (d + 1) (nI i) a_termKind a_termLeft a_termRight a_termSize a_goalKind a_goalFirst a_goalSecond a_goalThird a_goalFourth a_goalSize a_relationGoal a_pendingPath a_nextPath a_answerPath a_link a_trail a_neqLeft a_neqRight a_workGoal a_workFrame a_stackA a_stackB a_walk a_numberOf a_numbered a_endUnknown a_implied a_kept a_sightings a_lastSeen := by
    intro d
    induction d with
    | zero =>
      intro i a_sightings a_lastSeen hi hO
      obtain rfl : i = 66 := by omega
      exact br_t (by decide) ⟨eu.length + 1, key eu [] _ _ _ _ _ rfl (by omega) (fun v hv => ⟨(hO v hv).1, Or.inl (hO v hv).2⟩)⟩
    | succ d ih =>
      intro i a_sightings a_lastSeen hi hO
      refine br_f (nI_ge (b := 66) (by omega) (by decide)) ⟨vp_in_nI (by omega) (by decide), nm_r (e' := upd a_sightings i 0) (by rw [nI_clamp (by omega)]) ⟨vp_in_nI (by omega) (by decide), nm_r (e' := upd a_lastSeen i (-1)) (by rw [nI_clamp (by omega)]) (nm_r (nI_1 i) (ih (i + 1) _ _ (by omega) (fun v hv => ?_)))⟩⟩
      by_cases e : v = i
      · exact ⟨if_pos e, if_pos e⟩
      · exact ⟨(if_neg e).trans (hO v (by omega)).1, (if_neg e).trans (hO v (by omega)).2⟩
  exact ⟨67, key0 66 0 a_sightings a_lastSeen (by omega) (fun v hv => absurd hv (by omega))⟩
end
end
section
/-! the component: one disequality looked at -/
theorem rs_WK_var {T : rs_T} {L : Nat → Option Nat} {n y : Nat} {l : List Nat} (h : rs_WK T L [n] l) (e : rs_rt T L n = 704 + y) : l = [100 + y] := by
  refine rs_WK_det _ _ _ h ⟨n, [], rfl, ?_, ?_⟩
  · rw [e, rs_tkn_hi (by omega), Nat.add_sub_cancel_left]
  · rw [e]
    unfold rs_kd
    rw [if_neg (by omega)]
    rfl
theorem rs_WK_term {T : rs_T} (hT : rs_TX T) {L : Nat → Option Nat} {n : Nat} {l : List Nat} (h : rs_WK T L [n] l) (e : rs_rt T L n < 704) (hx : rs_nx T L (rs_rt T L n) = none) (y : Nat) : l ≠ [100 + y] := by
  intro z
  rw [z] at h
  obtain ⟨n', st', e0, e1, e2⟩ := h
  injection e0 with e3 e4
  subst e3
  have := rs_tkn_lo hT e hx
  omega
theorem rs_eu_mem {T : rs_T} {nf tt : Nat} {link : Nat → Int32} {s : Nat → List Nat} (hT : rs_TX T) (hL : rs_LK T nf (rs_lk link) tt) (hs : ∀ v, rs_WK T (rs_lk link) [704 + v] (s v)) (v : Nat) : v ∈ rs_eu nf link ↔ v < 6 * nf ∧ s v = [100 + v] := by
  have hf := hL.1
  have key : v < 6 * nf → (rs_lk link (704 + v) = none ↔ s v = [100 + v]) := by
    intro hv
    constructor
    · intro e
      exact rs_WK_var (hs v) (rs_rt_stop (rs_nx_none e (Or.inl (by omega))))
    · intro e
      have hr := rs_rt_root hT hL (n := 704 + v) (by omega)
      have h1 := hs v
      rw [e] at h1
      obtain ⟨n', st', e0, e1, e2⟩ := h1
      injection e0 with e3 e4
      subst e3
      by_cases h7 : rs_rt T (rs_lk link) (704 + v) < 704
      · have := rs_tkn_lo hT h7 hr
        omega
      · rw [rs_tkn_hi (by omega)] at e1
        have e5 : rs_rt T (rs_lk link) (704 + v) = 704 + v := by omega
        rw [e5] at hr
        exact (rs_nx_inv hr).1
  unfold rs_eu
  rw [List.mem_filter, rs_iv_mem]
  constructor
  · rintro ⟨_, h2⟩
    have h2 : v < 6 * nf ∧ rs_lk link (704 + v) = none := by simpa using h2
    exact ⟨h2.1, (key h2.1).mp h2.2⟩
  · rintro ⟨h1, h2⟩
    refine ⟨by omega, ?_⟩
    have := (key h1).mpr h2
    simp [h1, this]
theorem rs_eu_nd (nf : Nat) (link : Nat → Int32) : (rs_eu nf link).Nodup := List.Pairwise.filter _ (rs_iv_nd 66 0)
theorem rs_eu_len (nf : Nat) (link : Nat → Int32) : (rs_eu nf link).length ≤ 66 := by
  have := List.length_filter_le (fun v => decide (v < 6 * nf ∧ rs_lk link (704 + v) = none)) (rs_iv 0 66)
  rwa [rs_iv_len] at this
section
variable {f_kindSymbol f_kindSlot f_kindPair f_goalEq f_goalNeq f_goalBoth f_goalEither f_goalCall f_goOn f_outAnswer f_outFailure f_outCut f_outPending f_firstVariable f_maxLevel f_maxCalls f_maxSize f_termCount f_goalCount f_searching f_queryGoal f_queryWidth f_levelNow f_pendingCount f_nextCount f_answerCount f_failureCount f_cutCount f_trailTop f_callsDone f_choicesLeft f_neqCount f_workTop f_walkTop f_loaded f_numberedCount f_endUnknownCount f_constraintsReady f_relevantMask f_keptCount : Int32} {a_termKind a_termLeft a_termRight a_termSize a_goalKind a_goalFirst a_goalSecond a_goalThird a_goalFourth a_goalSize a_relationGoal a_pendingPath a_nextPath a_answerPath a_link a_trail a_neqLeft a_neqRight a_workGoal a_workFrame a_stackA a_stackB a_walk a_numberOf a_numbered a_endUnknown a_implied a_kept a_sightings a_lastSeen : Nat → Int32}
variable {T : rs_T} {nf tt ms wd : Nat} {C C' : rs_V} {ne : List (List Nat × List Nat)} {s s' : Nat → List Nat} {L0 : Nat → Int32}
theorem xw_touches {post : Int32 → SX → Prop} {eu : List Nat} (hT : rs_TA T a_termKind a_termLeft a_termRight) (hms : ms ≤ 31) (hX : rs_XL T ms C' nf a_link tt) (hs' : ∀ v, rs_WK T (rs_lk a_link) [704 + v] (s' v)) (heu : ∀ v, v ∈ eu ↔ v < 6 * nf ∧ s v = [100 + v]) (hnd : eu.Nodup) (hel : eu.length ≤ 66) (hA : rs_A a_endUnknown 0 eu)
    (hno : ∀ v, v < 66 → (v ∈ rs_num s wd → a_numberOf v = nI (rs_ix v (rs_num s wd))) ∧ (v ∉ rs_num s wd → a_numberOf v = -1)) (hnl : (rs_num s wd).length ≤ 66)
    (k1 : rs_Unt s s' (6 * nf) wd → ∀ (f_walkTop : Int32) (a_walk a_sightings a_lastSeen : Nat → Int32), post 1 (f_kindSymbol, f_kindSlot, f_kindPair, f_goalEq, f_goalNeq, f_goalBoth, f_goalEither, f_goalCall, f_goOn, f_outAnswer, f_outFailure, f_outCut, f_outPending, f_firstVariable, f_maxLevel, f_maxCalls, f_maxSize, f_termCount, f_goalCount, f_searching, f_queryGoal, f_queryWidth, f_levelNow, f_pendingCount, f_nextCount, f_answerCount, f_failureCount, f_cutCount, f_trailTop, f_callsDone, f_choicesLeft, f_neqCount, f_workTop, f_walkTop, f_loaded, f_numberedCount, nI eu.length, f_constraintsReady, f_relevantMask, f_keptCount, a_termKind, a_termLeft, a_termRight, a_termSize, a_goalKind, a_goalFirst, a_goalSecond, a_goalThird, a_goalFourth, a_goalSize, a_relationGoal, a_pendingPath, a_nextPath, a_answerPath, a_link, a_trail, a_neqLeft, a_neqRight, a_workGoal, a_workFrame, a_stackA, a_stackB, a_walk, a_numberOf, a_numbered, a_endUnknown, a_implied, a_kept, a_sightings, a_lastSeen))
    (k0 : ¬ rs_Unt s s' (6 * nf) wd → ∀ (f_walkTop : Int32) (a_walk a_sightings a_lastSeen : Nat → Int32), post 0 (f_kindSymbol, f_kindSlot, f_kindPair, f_goalEq, f_goalNeq, f_goalBoth, f_goalEither, f_goalCall, f_goOn, f_outAnswer, f_outFailure, f_outCut, f_outPending, f_firstVariable, f_maxLevel, f_maxCalls, f_maxSize, f_termCount, f_goalCount, f_searching, f_queryGoal, f_queryWidth, f_levelNow, f_pendingCount, f_nextCount, f_answerCount, f_failureCount, f_cutCount, f_trailTop, f_callsDone, f_choicesLeft, f_neqCount, f_workTop, f_walkTop, f_loaded, f_numberedCount, nI eu.length, f_constraintsReady, f_relevantMask, f_keptCount, a_termKind, a_termLeft, a_termRight, a_termSize, a_goalKind, a_goalFirst, a_goalSecond, a_goalThird, a_goalFourth, a_goalSize, a_relationGoal, a_pendingPath, a_nextPath, a_answerPath, a_link, a_trail, a_neqLeft, a_neqRight, a_workGoal, a_workFrame, a_stackA, a_stackB, a_walk, a_numberOf, a_numbered, a_endUnknown, a_implied, a_kept, a_sightings, a_lastSeen)) :
    wpX_touchesOnlyNumbered post (f_kindSymbol, f_kindSlot, f_kindPair, f_goalEq, f_goalNeq, f_goalBoth, f_goalEither, f_goalCall, f_goOn, f_outAnswer, f_outFailure, f_outCut, f_outPending, f_firstVariable, f_maxLevel, f_maxCalls, f_maxSize, f_termCount, f_goalCount, f_searching, f_queryGoal, f_queryWidth, f_levelNow, f_pendingCount, f_nextCount, f_answerCount, f_failureCount, f_cutCount, f_trailTop, f_callsDone, f_choicesLeft, f_neqCount, f_workTop, f_walkTop, f_loaded, f_numberedCount, nI eu.length, f_constraintsReady, f_relevantMask, f_keptCount, a_termKind, a_termLeft, a_termRight, a_termSize, a_goalKind, a_goalFirst, a_goalSecond, a_goalThird, a_goalFourth, a_goalSize, a_relationGoal, a_pendingPath, a_nextPath, a_answerPath, a_link, a_trail, a_neqLeft, a_neqRight, a_workGoal, a_workFrame, a_stackA, a_stackB, a_walk, a_numberOf, a_numbered, a_endUnknown, a_implied, a_kept, a_sightings, a_lastSeen) := by
  have hf := hX.2.2.1.1
  have hs31 : ∀ v, (s' v).length ≤ 31 := by
    intro v
    by_cases hv : v < 6 * nf
    · obtain ⟨l, q1, q2⟩ := hX.2.2.2.2.2 v hv
      rw [rs_WK_det _ _ _ (hs' v) q1]
      omega
    · rw [rs_WK_det _ _ _ (hs' v) (rs_Fit_out hX.2.2.1 (by omega))]
      simp
  unfold wpX_touchesOnlyNumbered
  refine xw_countSightings hT hX.2.1 hX.2.2.1 hs' hs31 (fun v hv => by have := (heu v).mp hv; omega) hel hA ?_
  intro f_walkTop a_walk a_sightings a_lastSeen hsg
  have key : ∀ (suf pre : List Nat) (n : Nat), eu = pre ++ suf → suf.length < n → (∀ x, x ∈ pre → x ∉ rs_num s wd → ¬ rs_Tch s s' (6 * nf) x) → wX_touchesOnlyNumbered_6 post f_kindSymbol f_kindSlot f_kindPair f_goalEq f_goalNeq f_goalBoth f_goalEither f_goalCall f_goOn f_outAnswer f_outFailure f_outCut f_outPending f_firstVariable f_maxLevel f_maxCalls f_maxSize f_termCount f_goalCount f_searching f_queryGoal f_queryWidth f_levelNow f_pendingCount f_nextCount f_answerCount f_failureCount f_cutCount f_trailTop f_callsDone f_choicesLeft f_neqCount f_workTop f_walkTop f_loaded f_numberedCount (nI eu.length) f_constraintsReady f_relevantMask f_keptCount a_termKind a_termLeft a_termRight a_termSize a_goalKind a_goalFirst a_goalSecond a_goalThird a_goalFourth a_goalSize a_relationGoal a_pendingPath a_nextPath a_answerPath a_link a_trail a_neqLeft a_neqRight a_workGoal a_workFrame a_stackA a_stackB a_walk a_numberOf a_numbered a_endUnknown a_implied a_kept a_sightings a_lastSeen n (nI pre.length) := by
    intro suf
    induction suf with
    | nil =>
      intro pre n e hn hpre
      obtain ⟨n, rfl⟩ : ∃ m, n = m + 1 := ⟨n - 1, by omega⟩
      rw [List.append_nil] at e
      subst e
      exact br_t (nI_le (Nat.le_refl _) (by omega)) (k1 (fun x hx hx2 hx3 => hpre x ((heu x).mpr ⟨hx, hx2⟩) hx3) _ _ _ _)
    | cons x suf ih =>
      intro pre n e hn hpre
      obtain ⟨n, rfl⟩ : ∃ m, n = m + 1 := ⟨n - 1, by omega⟩
      have hlen : eu.length = pre.length + (suf.length + 1) := by rw [e, List.length_append, List.length_cons]
      have hxm : x ∈ eu := by rw [e]; exact List.mem_append_right _ (List.mem_cons_self ..)
      obtain ⟨hx6, hxs⟩ := (heu x).mp hxm
      have ex : a_endUnknown pre.length = nI x := by
        have h := hA
        rw [e] at h
        have := rs_A_mid h
        rwa [Nat.zero_add] at this
      have hpl : (pre ++ [x]).length = pre.length + 1 := by rw [List.length_append]; rfl
      have next : (x ∉ rs_num s wd → ¬ rs_Tch s s' (6 * nf) x) → wX_touchesOnlyNumbered_6 post f_kindSymbol f_kindSlot f_kindPair f_goalEq f_goalNeq f_goalBoth f_goalEither f_goalCall f_goOn f_outAnswer f_outFailure f_outCut f_outPending f_firstVariable f_maxLevel f_maxCalls f_maxSize f_termCount f_goalCount f_searching f_queryGoal f_queryWidth f_levelNow f_pendingCount f_nextCount f_answerCount f_failureCount f_cutCount f_trailTop f_callsDone f_choicesLeft f_neqCount f_workTop f_walkTop f_loaded f_numberedCount (nI eu.length) f_constraintsReady f_relevantMask f_keptCount a_termKind a_termLeft a_termRight a_termSize a_goalKind a_goalFirst a_goalSecond a_goalThird a_goalFourth a_goalSize a_relationGoal a_pendingPath a_nextPath a_answerPath a_link a_trail a_neqLeft a_neqRight a_workGoal a_workFrame a_stackA a_stackB a_walk a_numberOf a_numbered a_endUnknown a_implied a_kept a_sightings a_lastSeen n (nI (pre.length + 1)) := by
        intro hx
        have := ih (pre ++ [x]) n (by rw [e, List.append_assoc]; rfl) (by rw [List.length_cons] at hn; omega) (by
          intro y hy
          rcases List.mem_append.mp hy with z | z
          · exact hpre y z
          · rw [List.mem_singleton] at z; rw [z]; exact hx)
        rwa [hpl] at this
      refine br_f (nI_ge (by omega) (by omega)) ⟨vp_in_nI (by omega) (by decide), nm_r (e' := nI x) (by rw [nI_clamp (by omega)]; exact ex) ⟨vp_in_nI (by omega) (by decide), ?_⟩⟩
      rw [nI_clamp (n := x) (by omega)]
      obtain ⟨n1, n2⟩ := hno x (by omega)
      by_cases hm : x ∈ rs_num s wd
      · have := rs_ix_mem.mp hm
        exact br_t (by rw [n1 hm]; exact nI_pos' (by omega)) (nm_r (nI_1 _) (next (fun z => absurd hm z)))
      · have e7 : 704 + nI x = nI (704 + x) := nI_add 704 x
        refine br_f (by rw [n2 hm]; decide) ?_
        rw [e7]
        have hr := rs_rt_root hT.1 hX.2.2.1 (n := 704 + x) (by omega)
        have hlt := rs_rt_lt hT.1 hX.2.2.1 (n := 704 + x) (by omega)
        refine xw_find hT hX.2.1 hX.2.2.1 (by omega) ?_
        by_cases h7 : rs_rt T (rs_lk a_link) (704 + x) < 704
        · refine br_t (nI_lt (b := 704) h7 (by decide)) (k0 (fun hU => ?_) _ _ _ _)
          exact hU x hx6 hxs hm (Or.inl (rs_WK_term hT.1 (hs' x) h7 hr))
        · refine br_f (nI_nlt (b := 704) (by omega) (by omega)) ?_
          obtain ⟨y, hy⟩ : ∃ y, rs_rt T (rs_lk a_link) (704 + x) = 704 + y := ⟨rs_rt T (rs_lk a_link) (704 + x) - 704, by omega⟩
          rw [hy] at hlt ⊢
          have ey : nI (704 + y) - 704 = nI y := by
            rw [show (704 : Int32) = nI 704 from rfl, pk_sub (by omega), Nat.add_sub_cancel_left]
          rw [ey]
          refine ⟨vp_in_nI (by omega) (by decide), ?_⟩
          have hsx := rs_WK_var (hs' x) hy
          have hmem : 100 + y ∈ s' x := by rw [hsx]; exact List.mem_cons_self ..
          have htwo := rs_sg_two hnd hxm hmem
          have hsl := rs_sg_le (s := s') (l := eu) (v := y)
          rw [nI_clamp (n := y) (by omega), hsg y (by omega)]
          by_cases h2 : rs_sg s' eu y < 2
          · refine br_t (nI_lt (b := 2) h2 (by decide)) (nm_r (nI_1 _) (next (fun _ htch => ?_)))
            rcases htch with z | ⟨z, y', z1, z2, z3, z4, z5⟩
            · exact z y hsx
            · rw [hsx] at z4
              injection z4 with z4 _
              have : y' = y := by omega
              rw [this] at z5
              exact z2 (htwo.mp h2 z ((heu z).mpr ⟨z1, z3⟩) z5)
          · refine br_f (nI_nlt (b := 2) (by omega) (by omega)) (k0 (fun hU => ?_) _ _ _ _)
            refine h2 (htwo.mpr (fun z hz hz2 => ?_))
            by_cases ez : z = x
            · exact ez
            · exfalso
              obtain ⟨hz6, hzs⟩ := (heu z).mp hz
              exact hU x hx6 hxs hm (Or.inr ⟨z, y, hz6, ez, hzs, hsx, hz2⟩)
  exact ⟨eu.length + 1, key eu [] _ rfl (by omega) (fun x hx => absurd hx List.not_mem_nil)⟩
theorem xw_impliedNow {post : Int32 → SX → Prop} (hT : rs_TA T a_termKind a_termLeft a_termRight) (hms : ms ≤ 31) (hX : rs_XL T ms C' nf a_link tt) (hN : rs_NQ T nf ne a_neqLeft a_neqRight) (hn : ne.length ≤ 24)
    (k : ∀ (a_stackA a_stackB : Nat → Int32), post (nI (rs_mk (fun e => ∃ d, ne[e]? = some d ∧ rs_Same C' d.1 d.2) ne.length)) (f_kindSymbol, f_kindSlot, f_kindPair, f_goalEq, f_goalNeq, f_goalBoth, f_goalEither, f_goalCall, f_goOn, f_outAnswer, f_outFailure, f_outCut, f_outPending, f_firstVariable, f_maxLevel, f_maxCalls, f_maxSize, f_termCount, f_goalCount, f_searching, f_queryGoal, f_queryWidth, f_levelNow, f_pendingCount, f_nextCount, f_answerCount, f_failureCount, f_cutCount, f_trailTop, f_callsDone, f_choicesLeft, nI ne.length, f_workTop, f_walkTop, f_loaded, f_numberedCount, f_endUnknownCount, f_constraintsReady, f_relevantMask, f_keptCount, a_termKind, a_termLeft, a_termRight, a_termSize, a_goalKind, a_goalFirst, a_goalSecond, a_goalThird, a_goalFourth, a_goalSize, a_relationGoal, a_pendingPath, a_nextPath, a_answerPath, a_link, a_trail, a_neqLeft, a_neqRight, a_workGoal, a_workFrame, a_stackA, a_stackB, a_walk, a_numberOf, a_numbered, a_endUnknown, a_implied, a_kept, a_sightings, a_lastSeen)) : wpX_impliedNow post (f_kindSymbol, f_kindSlot, f_kindPair, f_goalEq, f_goalNeq, f_goalBoth, f_goalEither, f_goalCall, f_goOn, f_outAnswer, f_outFailure, f_outCut, f_outPending, f_firstVariable, f_maxLevel, f_maxCalls, f_maxSize, f_termCount, f_goalCount, f_searching, f_queryGoal, f_queryWidth, f_levelNow, f_pendingCount, f_nextCount, f_answerCount, f_failureCount, f_cutCount, f_trailTop, f_callsDone, f_choicesLeft, nI ne.length, f_workTop, f_walkTop, f_loaded, f_numberedCount, f_endUnknownCount, f_constraintsReady, f_relevantMask, f_keptCount, a_termKind, a_termLeft, a_termRight, a_termSize, a_goalKind, a_goalFirst, a_goalSecond, a_goalThird, a_goalFourth, a_goalSize, a_relationGoal, a_pendingPath, a_nextPath, a_answerPath, a_link, a_trail, a_neqLeft, a_neqRight, a_workGoal, a_workFrame, a_stackA, a_stackB, a_walk, a_numberOf, a_numbered, a_endUnknown, a_implied, a_kept, a_sightings, a_lastSeen) := by
  have key : ∀ (d i : Nat) (a_stackA a_stackB : Nat → Int32), i + d = ne.length → wX_impliedNow_4 post (d + 1) (nI (rs_mk (fun e => ∃ d, ne[e]? = some d ∧ rs_Same C' d.1 d.2) i)) (nI i) f_kindSymbol f_kindSlot f_kindPair f_goalEq f_goalNeq f_goalBoth f_goalEither f_goalCall f_goOn f_outAnswer f_outFailure f_outCut f_outPending f_firstVariable f_maxLevel f_maxCalls f_maxSize f_termCount f_goalCount f_searching f_queryGoal f_queryWidth f_levelNow f_pendingCount f_nextCount f_answerCount f_failureCount f_cutCount f_trailTop f_callsDone f_choicesLeft (nI ne.length) f_workTop f_walkTop f_loaded f_numberedCount f_endUnknownCount f_constraintsReady f_relevantMask f_keptCount a_termKind a_termLeft a_termRight a_termSize a_goalKind a_goalFirst a_goalSecond a_goalThird a_goalFourth a_goalSize a_relationGoal a_pendingPath a_nextPath a_answerPath a_link a_trail a_neqLeft a_neqRight a_workGoal a_workFrame a_stackA a_stackB a_walk a_numberOf a_numbered a_endUnknown a_implied a_kept a_sightings a_lastSeen := by
    intro d
    induction d with
    | zero =>
      intro i a_stackA a_stackB hi
      obtain rfl : i = ne.length := by omega
      exact br_t (nI_le (Nat.le_refl _) (by omega)) (k _ _)
    | succ d ih =>
      intro i a_stackA a_stackB hi
      obtain ⟨a, b, _, _, la, lb, ea, eb, ed⟩ := hN i (by omega)
      refine br_f (nI_ge (by omega) (by omega)) ⟨vp_in_nI (by omega) (by decide), vp_in_nI (by omega) (by decide), ?_⟩
      rw [nI_clamp (n := i) (by omega), ea, eb]
      refine xw_same hT hms hX la lb (fun hsame a_stackA a_stackB => ?_) (fun hsame a_stackA a_stackB => ?_)
      · refine br_f (by decide) (nm_r (rs_mask_or (rs_mk_lt _ i) (by omega)) (nm_r (nI_1 i) ?_))
        rw [← rs_mk_t (P := fun e => ∃ d, ne[e]? = some d ∧ rs_Same C' d.1 d.2) ⟨_, ed, hsame⟩]
        exact ih (i + 1) _ _ (by omega)
      · refine br_t rfl (nm_r (nI_1 i) ?_)
        rw [← rs_mk_f (P := fun e => ∃ d, ne[e]? = some d ∧ rs_Same C' d.1 d.2) (n := i) (by
          rintro ⟨d', e1, e2⟩
          rw [ed] at e1
          injection e1 with e1
          rw [← e1] at e2
          exact hsame e2)]
        exact ih (i + 1) _ _ (by omega)
  exact ⟨ne.length + 1, key ne.length 0 a_stackA a_stackB (by omega)⟩
theorem rs_mk_congr {P Q : Nat → Prop} (h : ∀ i, P i ↔ Q i) : ∀ n, rs_mk P n = rs_mk Q n
  | 0 => rfl
  | n + 1 => by
    show rs_mk P n + rs_if (P n) (2 ^ n) 0 = rs_mk Q n + rs_if (Q n) (2 ^ n) 0
    rw [rs_mk_congr h n]
    by_cases z : P n
    · rw [rs_if_t z, rs_if_t ((h n).mp z)]
    · rw [rs_if_f z, rs_if_f (fun y => z ((h n).mpr y))]
theorem xw_examine {post : SX → Prop} {d : Nat} (hT : rs_TA T a_termKind a_termLeft a_termRight) (hms : ms ≤ 31) (h1 : 1 ≤ ms) (hX : rs_XL T ms C nf a_link tt) (hs : ∀ v, rs_WK T (rs_lk a_link) [704 + v] (s v)) (hN : rs_NQ T nf ne a_neqLeft a_neqRight) (hn : ne.length ≤ 24) (hd : d < ne.length) (hNU : rs_NU s wd f_numberedCount a_numberOf a_numbered) (hnl : (rs_num s wd).length ≤ 66) (hA : rs_A a_endUnknown 0 (rs_eu nf a_link))
    (k : ∀ (f_walkTop : Int32) (a_link' a_trail a_stackA a_stackB a_walk a_sightings a_lastSeen a_implied' : Nat → Int32), (∀ n, n < 770 → a_link' n = a_link n) → (∀ i, i ≠ d → a_implied' i = a_implied i) → (rs_RelI ms nf wd C ne d → a_implied' d = nI (rs_mk (rs_ImpI C ne d) ne.length)) → post (f_kindSymbol, f_kindSlot, f_kindPair, f_goalEq, f_goalNeq, f_goalBoth, f_goalEither, f_goalCall, f_goOn, f_outAnswer, f_outFailure, f_outCut, f_outPending, f_firstVariable, f_maxLevel, f_maxCalls, nI ms, f_termCount, f_goalCount, f_searching, f_queryGoal, f_queryWidth, f_levelNow, f_pendingCount, f_nextCount, f_answerCount, f_failureCount, f_cutCount, nI tt, nI (nf - 1), f_choicesLeft, nI ne.length, f_workTop, f_walkTop, f_loaded, f_numberedCount, nI (rs_eu nf a_link).length, f_constraintsReady, nI (rs_mk (rs_RelI ms nf wd C ne) (d + 1)), f_keptCount, a_termKind, a_termLeft, a_termRight, a_termSize, a_goalKind, a_goalFirst, a_goalSecond, a_goalThird, a_goalFourth, a_goalSize, a_relationGoal, a_pendingPath, a_nextPath, a_answerPath, a_link', a_trail, a_neqLeft, a_neqRight, a_workGoal, a_workFrame, a_stackA, a_stackB, a_walk, a_numberOf, a_numbered, a_endUnknown, a_implied', a_kept, a_sightings, a_lastSeen)) :
    wpX_examine post (f_kindSymbol, f_kindSlot, f_kindPair, f_goalEq, f_goalNeq, f_goalBoth, f_goalEither, f_goalCall, f_goOn, f_outAnswer, f_outFailure, f_outCut, f_outPending, f_firstVariable, f_maxLevel, f_maxCalls, nI ms, f_termCount, f_goalCount, f_searching, f_queryGoal, f_queryWidth, f_levelNow, f_pendingCount, f_nextCount, f_answerCount, f_failureCount, f_cutCount, nI tt, nI (nf - 1), f_choicesLeft, nI ne.length, f_workTop, f_walkTop, f_loaded, f_numberedCount, nI (rs_eu nf a_link).length, f_constraintsReady, nI (rs_mk (rs_RelI ms nf wd C ne) d), f_keptCount, a_termKind, a_termLeft, a_termRight, a_termSize, a_goalKind, a_goalFirst, a_goalSecond, a_goalThird, a_goalFourth, a_goalSize, a_relationGoal, a_pendingPath, a_nextPath, a_answerPath, a_link, a_trail, a_neqLeft, a_neqRight, a_workGoal, a_workFrame, a_stackA, a_stackB, a_walk, a_numberOf, a_numbered, a_endUnknown, a_implied, a_kept, a_sightings, a_lastSeen) (nI d) := by
  obtain ⟨a, b, oa, ob, la, lb, ea, eb, ed⟩ := hN d hd
  have hMg := rs_LS_Mg hT.1 hX hs
  have hoth : ∀ x i, i ≠ d → upd a_implied d x i = a_implied i := fun x i hi => if_neg hi
  refine ⟨vp_in_nI (by omega) (by decide), nm_r (e' := upd a_implied d 0) (by rw [nI_clamp (by omega)]) ⟨vp_in_nI (by omega) (by decide), vp_in_nI (by omega) (by decide), ?_⟩⟩
  rw [nI_clamp (n := d) (by omega), ea, eb]
  have hrel : ∀ s', rs_MG (rs_eqC C (rs_ns T a) (rs_ns T b)) s' → rs_Sat ms (6 * nf) (rs_eqC C (rs_ns T a) (rs_ns T b)) → (rs_RelI ms nf wd C ne d ↔ rs_Unt s s' (6 * nf) wd) := by
    intro s' hs' hSat
    rw [← rs_Rel_iff (ms := ms) (d := (rs_ns T a, rs_ns T b)) hMg hs' hSat]
    constructor
    · rintro ⟨d', e1, e2⟩
      rw [ed] at e1
      injection e1 with e1
      rw [e1]; exact e2
    · intro z
      exact ⟨_, ed, z⟩
  refine xw_unify hT hms h1 hX oa ob ?_ ?_
  · intro a_link' a_trail a_stackA a_stackB a_walk f_walkTop tt' hSat hX' hTR
    obtain ⟨s', t1, t2, t3, t4, t5⟩ := rs_XL_can hT.1 hX'
    refine br_f (by decide) ?_
    refine xw_touches (s := s) (wd := wd) hT hms hX' t1 (rs_eu_mem hT.1 hX.2.2.1 hs) (rs_eu_nd nf a_link) (rs_eu_len nf a_link) hA hNU.2.2 hnl ?_ ?_
    · intro hU f_walkTop a_walk a_sightings a_lastSeen
      have hR := (hrel s' t4 hSat).mpr hU
      refine br_f (by decide) (nm_r (rs_mask_or (rs_mk_lt _ d) (by omega)) ?_)
      refine xw_impliedNow hT hms hX' hN hn ?_
      intro a_stackA a_stackB
      refine ⟨vp_in_nI (by omega) (by decide), nm_e ?_⟩
      refine xw_undoTo hTR (fun a_link'' hl' => ?_)
      rw [← rs_mk_t hR]
      refine k _ _ _ _ _ _ _ _ _ hl' (fun i hi => (if_neg hi).trans (if_neg hi)) (fun _ => ?_)
      refine (if_pos rfl).trans (congrArg nI (rs_mk_congr (fun e => ?_) _))
      constructor
      · rintro ⟨e', q1, q2⟩
        exact ⟨_, e', ed, q1, q2⟩
      · rintro ⟨d', e', q1, q2, q3⟩
        rw [ed] at q1
        injection q1 with q1
        subst q1
        exact ⟨e', q2, q3⟩
    · intro hU f_walkTop a_walk a_sightings a_lastSeen
      have hR : ¬ rs_RelI ms nf wd C ne d := fun z => hU ((hrel s' t4 hSat).mp z)
      refine br_t rfl (xw_undoTo hTR (fun a_link'' hl' => ?_))
      rw [← rs_mk_f hR]
      exact k _ _ _ _ _ _ _ _ _ hl' (hoth 0) (fun z => absurd z hR)
  · intro hSat a_link' a_trail a_stackA a_stackB a_walk f_walkTop tt' hTR
    have hR : ¬ rs_RelI ms nf wd C ne d := by
      rintro ⟨d', e1, e2⟩
      rw [ed] at e1
      injection e1 with e1
      rw [← e1] at e2
      exact hSat e2.1
    refine br_t rfl (xw_undoTo hTR (fun a_link'' hl' => ?_))
    rw [← rs_mk_f hR]
    exact k _ _ _ _ _ _ _ _ _ hl' (hoth 0) (fun z => absurd z hR)
end
end
section
/-! the component: the kept constraints -/
section
variable {f_kindSymbol f_kindSlot f_kindPair f_goalEq f_goalNeq f_goalBoth f_goalEither f_goalCall f_goOn f_outAnswer f_outFailure f_outCut f_outPending f_firstVariable f_maxLevel f_maxCalls f_maxSize f_termCount f_goalCount f_searching f_queryGoal f_queryWidth f_levelNow f_pendingCount f_nextCount f_answerCount f_failureCount f_cutCount f_trailTop f_callsDone f_choicesLeft f_neqCount f_workTop f_walkTop f_loaded f_numberedCount f_endUnknownCount f_constraintsReady f_relevantMask f_keptCount : Int32} {a_termKind a_termLeft a_termRight a_termSize a_goalKind a_goalFirst a_goalSecond a_goalThird a_goalFourth a_goalSize a_relationGoal a_pendingPath a_nextPath a_answerPath a_link a_trail a_neqLeft a_neqRight a_workGoal a_workFrame a_stackA a_stackB a_walk a_numberOf a_numbered a_endUnknown a_implied a_kept a_sightings a_lastSeen : Nat → Int32}
variable {T : rs_T} {nf tt ms wd : Nat} {C : rs_V} {ne : List (List Nat × List Nat)} {s : Nat → List Nat} {L0 : Nat → Int32}
theorem xw_isRelevant {post : Int32 → Prop} {R : Nat → Prop} {n d : Nat} (hn : n ≤ 24) (hd : d < n) (h1 : R d → post 1) (h0 : ¬ R d → post 0) : wpX_isRelevant post (f_kindSymbol, f_kindSlot, f_kindPair, f_goalEq, f_goalNeq, f_goalBoth, f_goalEither, f_goalCall, f_goOn, f_outAnswer, f_outFailure, f_outCut, f_outPending, f_firstVariable, f_maxLevel, f_maxCalls, f_maxSize, f_termCount, f_goalCount, f_searching, f_queryGoal, f_queryWidth, f_levelNow, f_pendingCount, f_nextCount, f_answerCount, f_failureCount, f_cutCount, f_trailTop, f_callsDone, f_choicesLeft, f_neqCount, f_workTop, f_walkTop, f_loaded, f_numberedCount, f_endUnknownCount, f_constraintsReady, nI (rs_mk R n), f_keptCount, a_termKind, a_termLeft, a_termRight, a_termSize, a_goalKind, a_goalFirst, a_goalSecond, a_goalThird, a_goalFourth, a_goalSize, a_relationGoal, a_pendingPath, a_nextPath, a_answerPath, a_link, a_trail, a_neqLeft, a_neqRight, a_workGoal, a_workFrame, a_stackA, a_stackB, a_walk, a_numberOf, a_numbered, a_endUnknown, a_implied, a_kept, a_sightings, a_lastSeen) (nI d) := by
  have hlt := rs_mk_lt R n
  have hp : 2 ^ n ≤ 2 ^ 24 := Nat.pow_le_pow_right (by omega) hn
  have e := rs_mask_bit (m := rs_mk R n) (e := d) (by omega) (by omega)
  obtain ⟨b1, b0⟩ := rs_mk_bit R n d hd
  unfold wpX_isRelevant
  dsimp only
  rw [e]
  by_cases z : R d
  · rw [b1 z]; exact br_f (by decide) (h1 z)
  · rw [b0 z]; exact br_t rfl (h0 z)
theorem xw_implies {post : Int32 → Prop} {R : Nat → Prop} {n d e : Nat} (hn : n ≤ 24) (hd : d < 24) (he : e < n) (hi : a_implied d = nI (rs_mk R n)) (h1 : R e → post 1) (h0 : ¬ R e → post 0) : wpX_implies post (f_kindSymbol, f_kindSlot, f_kindPair, f_goalEq, f_goalNeq, f_goalBoth, f_goalEither, f_goalCall, f_goOn, f_outAnswer, f_outFailure, f_outCut, f_outPending, f_firstVariable, f_maxLevel, f_maxCalls, f_maxSize, f_termCount, f_goalCount, f_searching, f_queryGoal, f_queryWidth, f_levelNow, f_pendingCount, f_nextCount, f_answerCount, f_failureCount, f_cutCount, f_trailTop, f_callsDone, f_choicesLeft, f_neqCount, f_workTop, f_walkTop, f_loaded, f_numberedCount, f_endUnknownCount, f_constraintsReady, f_relevantMask, f_keptCount, a_termKind, a_termLeft, a_termRight, a_termSize, a_goalKind, a_goalFirst, a_goalSecond, a_goalThird, a_goalFourth, a_goalSize, a_relationGoal, a_pendingPath, a_nextPath, a_answerPath, a_link, a_trail, a_neqLeft, a_neqRight, a_workGoal, a_workFrame, a_stackA, a_stackB, a_walk, a_numberOf, a_numbered, a_endUnknown, a_implied, a_kept, a_sightings, a_lastSeen) (nI d) (nI e) := by
  have hlt := rs_mk_lt R n
  have hp : 2 ^ n ≤ 2 ^ 24 := Nat.pow_le_pow_right (by omega) hn
  have eb := rs_mask_bit (m := rs_mk R n) (e := e) (by omega) (by omega)
  obtain ⟨b1, b0⟩ := rs_mk_bit R n e he
  refine ⟨vp_in_nI hd (by decide), ?_⟩
  rw [nI_clamp (n := d) (by omega), hi, eb]
  by_cases z : R e
  · rw [b1 z]; exact br_f (by decide) (h1 z)
  · rw [b0 z]; exact br_t rfl (h0 z)
theorem xw_superseded {post : Int32 → Prop} {R : Nat → Prop} {I : Nat → Nat → Prop} {n d : Nat} (hn : n ≤ 24) (hd : d < n) (hRd : R d) (hi : ∀ i, i < n → R i → a_implied i = nI (rs_mk (I i) n))
    (h1 : (∃ j, j < n ∧ j ≠ d ∧ R j ∧ I d j ∧ (j < d ∨ ¬ I j d)) → post 1) (h0 : (¬ ∃ j, j < n ∧ j ≠ d ∧ R j ∧ I d j ∧ (j < d ∨ ¬ I j d)) → post 0) : wpX_superseded post (f_kindSymbol, f_kindSlot, f_kindPair, f_goalEq, f_goalNeq, f_goalBoth, f_goalEither, f_goalCall, f_goOn, f_outAnswer, f_outFailure, f_outCut, f_outPending, f_firstVariable, f_maxLevel, f_maxCalls, f_maxSize, f_termCount, f_goalCount, f_searching, f_queryGoal, f_queryWidth, f_levelNow, f_pendingCount, f_nextCount, f_answerCount, f_failureCount, f_cutCount, f_trailTop, f_callsDone, f_choicesLeft, nI n, f_workTop, f_walkTop, f_loaded, f_numberedCount, f_endUnknownCount, f_constraintsReady, nI (rs_mk R n), f_keptCount, a_termKind, a_termLeft, a_termRight, a_termSize, a_goalKind, a_goalFirst, a_goalSecond, a_goalThird, a_goalFourth, a_goalSize, a_relationGoal, a_pendingPath, a_nextPath, a_answerPath, a_link, a_trail, a_neqLeft, a_neqRight, a_workGoal, a_workFrame, a_stackA, a_stackB, a_walk, a_numberOf, a_numbered, a_endUnknown, a_implied, a_kept, a_sightings, a_lastSeen) (nI d) := by
  have key : ∀ (m i : Nat), i + m = n → (¬ ∃ j, j < i ∧ j ≠ d ∧ R j ∧ I d j ∧ (j < d ∨ ¬ I j d)) → wX_superseded_2 post (nI d) f_kindSymbol f_kindSlot f_kindPair f_goalEq f_goalNeq f_goalBoth f_goalEither f_goalCall f_goOn f_outAnswer f_outFailure f_outCut f_outPending f_firstVariable f_maxLevel f_maxCalls f_maxSize f_termCount f_goalCount f_searching f_queryGoal f_queryWidth f_levelNow f_pendingCount f_nextCount f_answerCount f_failureCount f_cutCount f_trailTop f_callsDone f_choicesLeft (nI n) f_workTop f_walkTop f_loaded f_numberedCount f_endUnknownCount f_constraintsReady (nI (rs_mk R n)) f_keptCount a_termKind a_termLeft a_termRight a_termSize a_goalKind a_goalFirst a_goalSecond a_goalThird a_goalFourth a_goalSize a_relationGoal a_pendingPath a_nextPath a_answerPath a_link a_trail a_neqLeft a_neqRight a_workGoal a_workFrame a_stackA a_stackB a_walk a_numberOf a_numbered a_endUnknown a_implied a_kept a_sightings a_lastSeen (m + 1) (nI i) := by
    intro m
    induction m with
    | zero =>
      intro i hi' hno
      obtain rfl : i = n := by omega
      exact br_t (nI_le (Nat.le_refl _) (by omega)) (h0 hno)
    | succ m ih =>
      intro i hi' hno
      have next : ¬ (i ≠ d ∧ R i ∧ I d i ∧ (i < d ∨ ¬ I i d)) → wX_superseded_2 post (nI d) f_kindSymbol f_kindSlot f_kindPair f_goalEq f_goalNeq f_goalBoth f_goalEither f_goalCall f_goOn f_outAnswer f_outFailure f_outCut f_outPending f_firstVariable f_maxLevel f_maxCalls f_maxSize f_termCount f_goalCount f_searching f_queryGoal f_queryWidth f_levelNow f_pendingCount f_nextCount f_answerCount f_failureCount f_cutCount f_trailTop f_callsDone f_choicesLeft (nI n) f_workTop f_walkTop f_loaded f_numberedCount f_endUnknownCount f_constraintsReady (nI (rs_mk R n)) f_keptCount a_termKind a_termLeft a_termRight a_termSize a_goalKind a_goalFirst a_goalSecond a_goalThird a_goalFourth a_goalSize a_relationGoal a_pendingPath a_nextPath a_answerPath a_link a_trail a_neqLeft a_neqRight a_workGoal a_workFrame a_stackA a_stackB a_walk a_numberOf a_numbered a_endUnknown a_implied a_kept a_sightings a_lastSeen (m + 1) (nI (i + 1)) := by
        intro hni
        refine ih (i + 1) (by omega) ?_
        rintro ⟨j, j1, j2⟩
        by_cases e : j = i
        · rw [e] at j2; exact hni j2
        · exact hno ⟨j, by omega, j2⟩
      refine br_f (nI_ge (by omega) (by omega)) ?_
      by_cases e : i = d
      · exact br_t (by rw [e]) (nm_r (nI_1 i) (next (fun z => z.1 e)))
      · refine br_f (fun z => e ((nI_eq (by omega) (by omega)).mp z)) ?_
        refine xw_isRelevant hn (by omega) (fun hRi => br_f (by decide) ?_) (fun hRi => br_t rfl (nm_r (nI_1 i) (next (fun z => hRi z.2.1))))
        refine xw_implies (R := I d) hn (by omega) (by omega) (hi d hd hRd) (fun hI => br_f (by decide) ?_) (fun hI => br_t rfl (nm_r (nI_1 i) (next (fun z => hI z.2.2.1))))
        by_cases hlt : i < d
        · exact br_t (nI_lt hlt (by omega)) (h1 ⟨i, by omega, e, hRi, hI, Or.inl hlt⟩)
        · refine br_f (nI_nlt (by omega) (by omega)) ?_
          refine xw_implies (R := I i) hn (by omega) (by omega) (hi i (by omega) hRi) (fun hI2 => br_f (by decide) (nm_r (nI_1 i) (next (fun z => ?_)))) (fun hI2 => br_t rfl (h1 ⟨i, by omega, e, hRi, hI, Or.inr hI2⟩))
          rcases z.2.2.2 with y | y
          · exact hlt y
          · exact y hI2
  exact ⟨n + 1, key n 0 (by omega) (fun ⟨j, j1, _⟩ => absurd j1 (by omega))⟩
theorem xw_prepare {post : SX → Prop} (hT : rs_TA T a_termKind a_termLeft a_termRight) (hms : ms ≤ 31) (h1 : 1 ≤ ms) (hX : rs_XL T ms C nf L0 tt) (hs : ∀ v, rs_WK T (rs_lk L0) [704 + v] (s v)) (hN : rs_NQ T nf ne a_neqLeft a_neqRight) (hn : ne.length ≤ 24) (hNU : rs_NU s wd f_numberedCount a_numberOf a_numbered) (hnl : (rs_num s wd).length ≤ 66) (hA : rs_A a_endUnknown 0 (rs_eu nf L0)) (hl0 : ∀ n, n < 770 → a_link n = L0 n)
    (hKP : rs_KP ms nf wd C ne f_constraintsReady f_keptCount a_kept)
    (k : ∀ (f_constraintsReady f_relevantMask f_keptCount : Int32) (a_kept : Nat → Int32) (f_walkTop : Int32) (a_link a_trail a_stackA a_stackB a_walk a_sightings a_lastSeen a_implied : Nat → Int32), (∀ n, n < 770 → a_link n = L0 n) → f_constraintsReady ≠ 0 → f_keptCount = nI (rs_fl (rs_Kept ms nf wd C ne) 0 ne.length).length → rs_A a_kept 0 (rs_fl (rs_Kept ms nf wd C ne) 0 ne.length) → post (f_kindSymbol, f_kindSlot, f_kindPair, f_goalEq, f_goalNeq, f_goalBoth, f_goalEither, f_goalCall, f_goOn, f_outAnswer, f_outFailure, f_outCut, f_outPending, f_firstVariable, f_maxLevel, f_maxCalls, nI ms, f_termCount, f_goalCount, f_searching, f_queryGoal, f_queryWidth, f_levelNow, f_pendingCount, f_nextCount, f_answerCount, f_failureCount, f_cutCount, nI tt, nI (nf - 1), f_choicesLeft, nI ne.length, f_workTop, f_walkTop, f_loaded, f_numberedCount, nI (rs_eu nf L0).length, f_constraintsReady, f_relevantMask, f_keptCount, a_termKind, a_termLeft, a_termRight, a_termSize, a_goalKind, a_goalFirst, a_goalSecond, a_goalThird, a_goalFourth, a_goalSize, a_relationGoal, a_pendingPath, a_nextPath, a_answerPath, a_link, a_trail, a_neqLeft, a_neqRight, a_workGoal, a_workFrame, a_stackA, a_stackB, a_walk, a_numberOf, a_numbered, a_endUnknown, a_implied, a_kept, a_sightings, a_lastSeen)) :
    wpX_prepareConstraints post (f_kindSymbol, f_kindSlot, f_kindPair, f_goalEq, f_goalNeq, f_goalBoth, f_goalEither, f_goalCall, f_goOn, f_outAnswer, f_outFailure, f_outCut, f_outPending, f_firstVariable, f_maxLevel, f_maxCalls, nI ms, f_termCount, f_goalCount, f_searching, f_queryGoal, f_queryWidth, f_levelNow, f_pendingCount, f_nextCount, f_answerCount, f_failureCount, f_cutCount, nI tt, nI (nf - 1), f_choicesLeft, nI ne.length, f_workTop, f_walkTop, f_loaded, f_numberedCount, nI (rs_eu nf L0).length, f_constraintsReady, f_relevantMask, f_keptCount, a_termKind, a_termLeft, a_termRight, a_termSize, a_goalKind, a_goalFirst, a_goalSecond, a_goalThird, a_goalFourth, a_goalSize, a_relationGoal, a_pendingPath, a_nextPath, a_answerPath, a_link, a_trail, a_neqLeft, a_neqRight, a_workGoal, a_workFrame, a_stackA, a_stackB, a_walk, a_numberOf, a_numbered, a_endUnknown, a_implied, a_kept, a_sightings, a_lastSeen) := by
  rcases hKP with rfl | ⟨hr, hc, hk⟩
  · refine br_t rfl ?_
    have key2 : ∀ (d i : Nat) (a_kept : Nat → Int32) (f_walkTop : Int32) (a_link a_trail a_stackA a_stackB a_walk a_sightings a_lastSeen a_implied : Nat → Int32), (∀ n, n < 770 → a_link n = L0 n) → (∀ i, i < ne.length → rs_RelI ms nf wd C ne i → a_implied i = nI (rs_mk (rs_ImpI C ne i) ne.length)) → i + d = ne.length → rs_A a_kept 0 (rs_fl (rs_Kept ms nf wd C ne) 0 i) → wX_prepareConstraints_41 post f_kindSymbol f_kindSlot f_kindPair f_goalEq f_goalNeq f_goalBoth f_goalEither f_goalCall f_goOn f_outAnswer f_outFailure f_outCut f_outPending f_firstVariable f_maxLevel f_maxCalls (nI ms) f_termCount f_goalCount f_searching f_queryGoal f_queryWidth f_levelNow f_pendingCount f_nextCount f_answerCount f_failureCount f_cutCount (nI tt) (nI (nf - 1)) f_choicesLeft (nI ne.length) f_workTop f_walkTop f_loaded f_numberedCount (nI (rs_eu nf L0).length) 0 (nI (rs_mk (rs_RelI ms nf wd C ne) ne.length)) (d + 1) (nI i) (nI (rs_fl (rs_Kept ms nf wd C ne) 0 i).length) a_termKind a_termLeft a_termRight a_termSize a_goalKind a_goalFirst a_goalSecond a_goalThird a_goalFourth a_goalSize a_relationGoal a_pendingPath a_nextPath a_answerPath a_link a_trail a_neqLeft a_neqRight a_workGoal a_workFrame a_stackA a_stackB a_walk a_numberOf a_numbered a_endUnknown a_implied a_kept a_sightings a_lastSeen := by
      intro d
      induction d with
      | zero =>
        intro i a_kept f_walkTop a_link a_trail a_stackA a_stackB a_walk a_sightings a_lastSeen a_implied hl hI hi hK
        obtain rfl : i = ne.length := by omega
        exact br_t (nI_le (Nat.le_refl _) (by omega)) (k _ _ _ _ _ _ _ _ _ _ _ _ _ hl (by decide) rfl hK)
      | succ d ih =>
        intro i a_kept f_walkTop a_link a_trail a_stackA a_stackB a_walk a_sightings a_lastSeen a_implied hl hI hi hK
        have hkl := rs_fl_len (P := rs_Kept ms nf wd C ne) i 0
        have hki := rs_Kept_iff (ms := ms) (nf := nf) (wd := wd) (C := C) (ne := ne) (i := i)
        have no : ¬ rs_Kept ms nf wd C ne i → wX_prepareConstraints_41 post f_kindSymbol f_kindSlot f_kindPair f_goalEq f_goalNeq f_goalBoth f_goalEither f_goalCall f_goOn f_outAnswer f_outFailure f_outCut f_outPending f_firstVariable f_maxLevel f_maxCalls (nI ms) f_termCount f_goalCount f_searching f_queryGoal f_queryWidth f_levelNow f_pendingCount f_nextCount f_answerCount f_failureCount f_cutCount (nI tt) (nI (nf - 1)) f_choicesLeft (nI ne.length) f_workTop f_walkTop f_loaded f_numberedCount (nI (rs_eu nf L0).length) 0 (nI (rs_mk (rs_RelI ms nf wd C ne) ne.length)) (d + 1) (nI (i + 1)) (nI (rs_fl (rs_Kept ms nf wd C ne) 0 i).length) a_termKind a_termLeft a_termRight a_termSize a_goalKind a_goalFirst a_goalSecond a_goalThird a_goalFourth a_goalSize a_relationGoal a_pendingPath a_nextPath a_answerPath a_link a_trail a_neqLeft a_neqRight a_workGoal a_workFrame a_stackA a_stackB a_walk a_numberOf a_numbered a_endUnknown a_implied a_kept a_sightings a_lastSeen := by
          intro hno
          rw [← rs_fl_sf hno]
          exact ih (i + 1) a_kept f_walkTop a_link a_trail a_stackA a_stackB a_walk a_sightings a_lastSeen a_implied hl hI (by omega) (by rw [rs_fl_sf hno]; exact hK)
        refine br_f (nI_ge (by omega) (by omega)) ?_
        refine xw_isRelevant hn (by omega) (fun hR => br_f (by decide) ?_) (fun hR => br_t rfl (nm_r (nI_1 i) (no (fun z => hR (hki.mp z).1))))
        refine xw_superseded (I := rs_ImpI C ne) hn (by omega) hR hI (fun hsup => br_f (by decide) (nm_r (nI_1 i) (no (fun z => (hki.mp z).2 hsup)))) (fun hsup => br_t rfl ?_)
        have hyes := hki.mpr ⟨hR, hsup⟩
        refine ⟨vp_in_nI (by omega) (by decide), nm_r (e' := upd a_kept (rs_fl (rs_Kept ms nf wd C ne) 0 i).length (nI i)) (by rw [nI_clamp (by omega)]) (nm_r (nI_1 _) (nm_r (nI_1 i) ?_))⟩
        have e1 : (rs_fl (rs_Kept ms nf wd C ne) 0 (i + 1)).length = (rs_fl (rs_Kept ms nf wd C ne) 0 i).length + 1 := by rw [rs_fl_st hyes, List.length_append]; rfl
        rw [← e1]
        refine ih (i + 1) _ f_walkTop a_link a_trail a_stackA a_stackB a_walk a_sightings a_lastSeen a_implied hl hI (by omega) ?_
        rw [rs_fl_st hyes]
        have := rs_A_snoc (x := i) hK rfl
        rwa [Nat.zero_add] at this
    have key1 : ∀ (d i : Nat) (f_walkTop : Int32) (a_link a_trail a_stackA a_stackB a_walk a_sightings a_lastSeen a_implied : Nat → Int32), (∀ n, n < 770 → a_link n = L0 n) → (∀ j, j < i → rs_RelI ms nf wd C ne j → a_implied j = nI (rs_mk (rs_ImpI C ne j) ne.length)) → i + d = ne.length → wX_prepareConstraints_15 post (d + 1) (nI i) f_kindSymbol f_kindSlot f_kindPair f_goalEq f_goalNeq f_goalBoth f_goalEither f_goalCall f_goOn f_outAnswer f_outFailure f_outCut f_outPending f_firstVariable f_maxLevel f_maxCalls (nI ms) f_termCount f_goalCount f_searching f_queryGoal f_queryWidth f_levelNow f_pendingCount f_nextCount f_answerCount f_failureCount f_cutCount (nI tt) (nI (nf - 1)) f_choicesLeft (nI ne.length) f_workTop f_walkTop f_loaded f_numberedCount (nI (rs_eu nf L0).length) 0 (nI (rs_mk (rs_RelI ms nf wd C ne) i)) f_keptCount a_termKind a_termLeft a_termRight a_termSize a_goalKind a_goalFirst a_goalSecond a_goalThird a_goalFourth a_goalSize a_relationGoal a_pendingPath a_nextPath a_answerPath a_link a_trail a_neqLeft a_neqRight a_workGoal a_workFrame a_stackA a_stackB a_walk a_numberOf a_numbered a_endUnknown a_implied a_kept a_sightings a_lastSeen := by
      intro d
      induction d with
      | zero =>
        intro i f_walkTop a_link a_trail a_stackA a_stackB a_walk a_sightings a_lastSeen a_implied hl hI hi
        obtain rfl : i = ne.length := by omega
        exact br_t (nI_le (Nat.le_refl _) (by omega)) ⟨ne.length + 1, key2 ne.length 0 a_kept f_walkTop a_link a_trail a_stackA a_stackB a_walk a_sightings a_lastSeen a_implied hl hI (by omega) rs_A_nil⟩
      | succ d ih =>
        intro i f_walkTop a_link a_trail a_stackA a_stackB a_walk a_sightings a_lastSeen a_implied hl hI hi
        refine br_f (nI_ge (by omega) (by omega)) ?_
        rw [← rs_eu_congr (nf := nf) hl]
        refine xw_examine hT hms h1 (rs_XL_congr hl hX) (by rw [rs_lk_congr hl]; exact hs) hN hn (by omega) hNU hnl (by rw [rs_eu_congr hl]; exact hA) ?_
        intro f_walkTop a_link' a_trail a_stackA a_stackB a_walk a_sightings a_lastSeen a_implied' hl' hoth hself
        rw [rs_eu_congr (nf := nf) hl]
        refine nm_r (nI_1 i) (ih (i + 1) _ _ _ _ _ _ _ _ _ (fun n hn => (hl' n hn).trans (hl n hn)) ?_ (by omega))
        intro j hj hR
        by_cases e : j = i
        · subst e; exact hself hR
        · rw [hoth j e]; exact hI j (by omega) hR
    exact ⟨ne.length + 1, key1 ne.length 0 _ _ _ _ _ _ _ _ _ hl0 (fun j hj => absurd hj (by omega)) (by omega)⟩
  · exact br_f hr (k _ _ _ _ _ _ _ _ _ _ _ _ _ hl0 hr hc hk)
end
end
section
/-! the reference: what an imagined equation touches -/
section
variable {g_maxLevel g_maxCalls g_maxSize g_terms g_goals g_searching g_query g_read g_level g_frames g_neqs g_numbered g_kept : Int32} {b_termToken b_termLen b_kind b_goalSize b_part b_relation b_outcome b_val b_len b_neqT b_neqU b_neqF b_stackGoal b_stackFrame b_buf b_bufLen b_tmp b_base b_baseLen b_num b_relevant b_implies b_keptAt : Nat → Int32}
variable {tc nf ms wd : Nat} {ts σ σ' : Nat → List Nat} {C C' : rs_V} {ne : List (List Nat × List Nat)}
theorem yw_isUnknown {post : Int32 → Prop} {x : Nat} (hf : nf ≤ 11) (hY : rs_Y ms nf C σ) (hB : rs_VA (6 * nf) σ b_base b_baseLen) (hx : x < 6 * nf) (h1 : σ x = [100 + x] → post 1) (h0 : σ x ≠ [100 + x] → post 0) : wpY_isUnknown post (g_maxLevel, g_maxCalls, g_maxSize, g_terms, g_goals, g_searching, g_query, g_read, g_level, g_frames, g_neqs, g_numbered, g_kept, b_termToken, b_termLen, b_kind, b_goalSize, b_part, b_relation, b_outcome, b_val, b_len, b_neqT, b_neqU, b_neqF, b_stackGoal, b_stackFrame, b_buf, b_bufLen, b_tmp, b_base, b_baseLen, b_num, b_relevant, b_implies, b_keptAt) (nI x) := by
  obtain ⟨_, a2, _⟩ := hB x hx
  have e1 : 100 + nI x = nI (100 + x) := nI_add 100 x
  have hW := hY.1 x
  have hbd := rs_Y_b hY hf x
  unfold wpY_isUnknown
  dsimp only
  rw [rs_n31', e1]
  refine ⟨vp_in_nI (by omega) (by decide), ?_⟩
  rw [nI_clamp (n := 31 * x) (by omega)]
  cases e : σ x with
  | nil => rw [e] at hW; exact absurd (show (1 : Nat) = 0 from hW) (by omega)
  | cons t l =>
    rw [e] at a2 hW
    have et := a2 0 (by rw [List.length_cons]; omega)
    have et : b_base (31 * x) = nI t := et
    have hb := hbd t hx (by rw [e]; exact List.mem_cons_self ..)
    rw [et]
    by_cases z : t = 100 + x
    · refine br_t (by rw [z]) (h1 ?_)
      rw [e, z]
      congr 1
      exact rs_W_nz (by omega) hW
    · refine br_f (fun y => z ((nI_eq (by omega) (by omega)).mp y)) (h0 ?_)
      rw [e]
      intro y
      injection y with y _
      exact z y
theorem yw_touched {post : Int32 → Prop} {x : Nat} (hf : nf ≤ 11) (hY : rs_Y ms nf C σ) (hY' : rs_Y ms nf C' σ') (hB : rs_VA (6 * nf) σ b_base b_baseLen) (hV : rs_VA (6 * nf) σ' b_val b_len) (hx : x < 6 * nf) (h1 : rs_Tch σ σ' (6 * nf) x → post 1) (h0 : ¬ rs_Tch σ σ' (6 * nf) x → post 0) : wpY_touched post (g_maxLevel, g_maxCalls, g_maxSize, g_terms, g_goals, g_searching, g_query, g_read, g_level, nI nf, g_neqs, g_numbered, g_kept, b_termToken, b_termLen, b_kind, b_goalSize, b_part, b_relation, b_outcome, b_val, b_len, b_neqT, b_neqU, b_neqF, b_stackGoal, b_stackFrame, b_buf, b_bufLen, b_tmp, b_base, b_baseLen, b_num, b_relevant, b_implies, b_keptAt) (nI x) := by
  obtain ⟨_, a2, _⟩ := hV x hx
  have hW := hY'.1 x
  have hbd := rs_Y_b hY' hf
  have e6 : nI nf * 6 = nI (6 * nf) := by rw [show (6 : Int32) = nI 6 from rfl, pk_mul, Nat.mul_comm]
  unfold wpY_touched
  dsimp only
  rw [rs_n31']
  refine ⟨vp_in_nI (by omega) (by decide), ?_⟩
  rw [nI_clamp (n := 31 * x) (by omega)]
  cases e : σ' x with
  | nil => rw [e] at hW; exact absurd (show (1 : Nat) = 0 from hW) (by omega)
  | cons t l =>
    rw [e] at a2 hW
    have et := a2 0 (by rw [List.length_cons]; omega)
    have et : b_val (31 * x) = nI t := et
    have hb := hbd x t hx (by rw [e]; exact List.mem_cons_self ..)
    refine nm_r et ?_
    rcases rs_tok t with ht | ⟨y, rfl⟩
    · refine br_f (nI_ge (b := 100) ht (by decide)) (h1 (Or.inl (fun y z => ?_)))
      rw [e] at z
      injection z with z _
      omega
    · have hl : l = [] := rs_W_nz (by omega) hW
      subst hl
      have key34 : ∀ (J : Int32 → Prop) (z : Nat), z < 6 * nf → ((z = x ∨ σ z ≠ [100 + z] ∨ 100 + y ∉ σ' z) → J (nI (z + 1))) → ((z ≠ x ∧ σ z = [100 + z] ∧ 100 + y ∈ σ' z) → post 1) → ∀ (suf pre : List Nat) (n : Nat), σ' z = pre ++ suf → suf.length < n → (z = x ∨ σ z ≠ [100 + z] ∨ 100 + y ∉ pre) → wY_touched_34 post J (nI x) (nI (100 + y)) (nI z) g_maxLevel g_maxCalls g_maxSize g_terms g_goals g_searching g_query g_read g_level (nI nf) g_neqs g_numbered g_kept b_termToken b_termLen b_kind b_goalSize b_part b_relation b_outcome b_val b_len b_neqT b_neqU b_neqF b_stackGoal b_stackFrame b_buf b_bufLen b_tmp b_base b_baseLen b_num b_relevant b_implies b_keptAt n (nI pre.length) := by
        intro J z hz hJ hP suf
        obtain ⟨c1, c2, c3⟩ := hV z hz
        induction suf with
        | nil =>
          intro pre n e' hn hpre
          obtain ⟨n, rfl⟩ : ∃ m, n = m + 1 := ⟨n - 1, by omega⟩
          rw [List.append_nil] at e'
          refine ⟨vp_in_nI (by omega) (by decide), ?_⟩
          rw [nI_clamp (n := z) (by omega), c1, e']
          rw [e'] at c3
          exact br_t (nI_le (Nat.le_refl _) (by omega)) (nm_r (nI_1 z) (hJ (by rw [e']; exact hpre)))
        | cons tk suf ih =>
          intro pre n e' hn hpre
          obtain ⟨n, rfl⟩ : ∃ m, n = m + 1 := ⟨n - 1, by omega⟩
          have hlen : (σ' z).length = pre.length + (suf.length + 1) := by rw [e', List.length_append, List.length_cons]
          have hmem : tk ∈ σ' z := by rw [e']; exact List.mem_append_right _ (List.mem_cons_self ..)
          have hbt := hbd z tk hz hmem
          have ek : b_val (31 * z + pre.length) = nI tk := by
            have h := c2
            rw [e'] at h
            exact rs_A_mid h
          have hpl : (pre ++ [tk]).length = pre.length + 1 := by rw [List.length_append]; rfl
          have next : (z = x ∨ σ z ≠ [100 + z] ∨ tk ≠ 100 + y) → wY_touched_34 post J (nI x) (nI (100 + y)) (nI z) g_maxLevel g_maxCalls g_maxSize g_terms g_goals g_searching g_query g_read g_level (nI nf) g_neqs g_numbered g_kept b_termToken b_termLen b_kind b_goalSize b_part b_relation b_outcome b_val b_len b_neqT b_neqU b_neqF b_stackGoal b_stackFrame b_buf b_bufLen b_tmp b_base b_baseLen b_num b_relevant b_implies b_keptAt n (nI (pre.length + 1)) := by
            intro hor
            have := ih (pre ++ [tk]) n (by rw [e', List.append_assoc]; rfl) (by rw [List.length_cons] at hn; omega) (by
              rcases hor with w | w | w
              · exact Or.inl w
              · exact Or.inr (Or.inl w)
              · rcases hpre with u | u | u
                · exact Or.inl u
                · exact Or.inr (Or.inl u)
                · refine Or.inr (Or.inr (fun q => ?_))
                  rcases List.mem_append.mp q with q | q
                  · exact u q
                  · rw [List.mem_singleton] at q; exact w q.symm)
            rwa [hpl] at this
          refine ⟨vp_in_nI (by omega) (by decide), ?_⟩
          rw [nI_clamp (n := z) (by omega), c1, rs_n31]
          refine br_f (nI_ge (by omega) (by omega)) ?_
          by_cases ez : z = x
          · exact br_t (by rw [ez]) (nm_r (nI_1 _) (next (Or.inl ez)))
          · refine br_f (fun w => ez ((nI_eq (by omega) (by omega)).mp w)) ⟨vp_in_nI (by omega) (by decide), ?_⟩
            rw [nI_clamp (n := 31 * z + pre.length) (by omega), ek]
            by_cases et2 : tk = 100 + y
            · refine br_t (by rw [et2]) ?_
              refine yw_isUnknown hf hY hB hz (fun hu => br_f (by decide) (hP ⟨ez, hu, et2 ▸ hmem⟩)) (fun hu => br_t rfl (nm_r (nI_1 _) (next (Or.inr (Or.inl hu)))))
            · exact br_f (fun w => et2 ((nI_eq (by omega) (by omega)).mp w)) (nm_r (nI_1 _) (next (Or.inr (Or.inr et2))))
      have key20 : ∀ (d z : Nat), z + d = 6 * nf → (∀ w, w < z → w = x ∨ σ w ≠ [100 + w] ∨ 100 + y ∉ σ' w) → wY_touched_20 post (nI x) (nI (100 + y)) g_maxLevel g_maxCalls g_maxSize g_terms g_goals g_searching g_query g_read g_level (nI nf) g_neqs g_numbered g_kept b_termToken b_termLen b_kind b_goalSize b_part b_relation b_outcome b_val b_len b_neqT b_neqU b_neqF b_stackGoal b_stackFrame b_buf b_bufLen b_tmp b_base b_baseLen b_num b_relevant b_implies b_keptAt (d + 1) (nI z) := by
        intro d
        induction d with
        | zero =>
          intro z hz hno
          refine br_t (by rw [e6]; exact nI_le (by omega) (by omega)) (h0 ?_)
          rintro (w | ⟨w, y', w1, w2, w3, w4, w5⟩)
          · exact w y e
          · rw [e] at w4
            injection w4 with w4 _
            have : y' = y := by omega
            rw [this] at w5
            rcases hno w (by omega) with u | u | u
            · exact w2 u
            · exact u w3
            · exact u w5
        | succ d ih =>
          intro z hz hno
          refine br_f (by rw [e6]; exact nI_ge (by omega) (by omega)) ⟨(σ' z).length + 1, ?_⟩
          refine key34 _ z (by omega) (fun hor => ih (z + 1) (by omega) (fun w hw => ?_)) (fun hh => h1 (Or.inr ⟨z, y, by omega, hh.1, hh.2.1, e, hh.2.2⟩)) (σ' z) [] _ rfl (by omega) (Or.inr (Or.inr List.not_mem_nil))
          by_cases ew : w = z
          · rw [ew]; exact hor
          · exact hno w (by omega)
      exact br_t (nI_le (a := 100) (by omega) (by omega)) ⟨6 * nf + 1, key20 (6 * nf) 0 (by omega) (fun w hw => absurd hw (by omega))⟩
theorem rs_VA_congr {n : Nat} {σ : Nat → List Nat} {v l v' l' : Nat → Int32} (hn : n ≤ 66) (h : rs_VA n σ v l) (hv : ∀ i, i < 2046 → v' i = v i) (hl : ∀ i, i < 66 → l' i = l i) : rs_VA n σ v' l' := by
  intro w hw
  obtain ⟨a1, a2, a3⟩ := h w hw
  exact ⟨(hl w (by omega)).trans a1, rs_A_keep a2 (fun i _ i2 => hv i (by omega)), a3⟩
theorem yw_imagine {post : Int32 → SY → Prop} {d : Nat} {dd : List Nat × List Nat} (hT : rs_TB tc ts b_termToken b_termLen) (htc : tc ≤ 64) (hf : nf ≤ 11) (hms : ms ≤ 31) (hY : rs_Y ms nf C σ) (hB : rs_VA (6 * nf) σ b_base b_baseLen) (hN : rs_NY tc nf ts ne b_neqT b_neqU b_neqF) (hn : ne.length ≤ 24) (hd : ne[d]? = some dd)
    (k1 : ∀ (σ' : Nat → List Nat) (b_val b_len b_buf b_bufLen b_tmp : Nat → Int32), rs_Sat ms (6 * nf) (rs_eqC C dd.1 dd.2) → rs_Y ms nf (rs_eqC C dd.1 dd.2) σ' → rs_VA (6 * nf) σ' b_val b_len → post 1 (g_maxLevel, g_maxCalls, nI ms, g_terms, g_goals, g_searching, g_query, g_read, g_level, nI nf, g_neqs, g_numbered, g_kept, b_termToken, b_termLen, b_kind, b_goalSize, b_part, b_relation, b_outcome, b_val, b_len, b_neqT, b_neqU, b_neqF, b_stackGoal, b_stackFrame, b_buf, b_bufLen, b_tmp, b_base, b_baseLen, b_num, b_relevant, b_implies, b_keptAt))
    (k0 : ¬ rs_Sat ms (6 * nf) (rs_eqC C dd.1 dd.2) → ∀ (b_val b_len b_buf b_bufLen b_tmp : Nat → Int32), post 0 (g_maxLevel, g_maxCalls, nI ms, g_terms, g_goals, g_searching, g_query, g_read, g_level, nI nf, g_neqs, g_numbered, g_kept, b_termToken, b_termLen, b_kind, b_goalSize, b_part, b_relation, b_outcome, b_val, b_len, b_neqT, b_neqU, b_neqF, b_stackGoal, b_stackFrame, b_buf, b_bufLen, b_tmp, b_base, b_baseLen, b_num, b_relevant, b_implies, b_keptAt)) :
    wpY_imagine post (g_maxLevel, g_maxCalls, nI ms, g_terms, g_goals, g_searching, g_query, g_read, g_level, nI nf, g_neqs, g_numbered, g_kept, b_termToken, b_termLen, b_kind, b_goalSize, b_part, b_relation, b_outcome, b_val, b_len, b_neqT, b_neqU, b_neqF, b_stackGoal, b_stackFrame, b_buf, b_bufLen, b_tmp, b_base, b_baseLen, b_num, b_relevant, b_implies, b_keptAt) (nI d) := by
  have hdl := rs_get_lt hd
  obtain ⟨t, u, f, q1, q2, q3, q4, q5, q6, q7⟩ := hN d hdl
  obtain rfl : dd = (rs_sh f (ts t), rs_sh f (ts u)) := by
    rw [hd] at q7
    injection q7
  have key29 : ∀ (m i : Nat) (b_val b_len : Nat → Int32), i + m = 66 → (∀ j, j < 2046 → b_val j = b_base j) → (∀ j, j < i → b_len j = b_baseLen j) → wY_imagine_29 post (nI d) g_maxLevel g_maxCalls (nI ms) g_terms g_goals g_searching g_query g_read g_level (nI nf) g_neqs g_numbered g_kept (m + 1) (nI i) b_termToken b_termLen b_kind b_goalSize b_part b_relation b_outcome b_val b_len b_neqT b_neqU b_neqF b_stackGoal b_stackFrame b_buf b_bufLen b_tmp b_base b_baseLen b_num b_relevant b_implies b_keptAt := by
    intro m
    induction m with
    | zero =>
      intro i b_val b_len hi hv hl
      obtain rfl : i = 66 := by omega
      refine br_t (by decide) ⟨vp_in_nI (by omega) (by decide), vp_in_nI (by omega) (by decide), vp_in_nI (by omega) (by decide), ?_⟩
      rw [nI_clamp (n := d) (by omega), q4, q5, q6]
      have hV := rs_VA_congr (by omega) hB hv hl
      refine yw_unify hT q1 q2 htc q3 hf hms hY hV ?_ ?_
      · intro σ' b_val b_len b_buf b_bufLen b_tmp hY' hV'
        exact ⟨narrow_b1, k1 σ' _ _ _ _ _ ((rs_MG_sat (rs_Y_MG hY') ms (6 * nf)).mpr hY'.2.2.1) hY' hV'⟩
      · intro hS b_val b_len b_buf b_bufLen b_tmp
        exact ⟨narrow_b0, k0 hS _ _ _ _ _⟩
    | succ m ih =>
      intro i b_val b_len hi hv hl
      refine br_f (nI_ge (b := 66) (by omega) (by decide)) ⟨vp_in_nI (by omega) (by decide), vp_in_nI (by omega) (by decide), nm_r (e' := upd b_len i (b_baseLen i)) (by rw [nI_clamp (by omega)]) (nm_r (nI_1 i) (ih (i + 1) _ _ (by omega) hv (fun j hj => ?_)))⟩
      by_cases e : j = i
      · rw [e]; exact if_pos rfl
      · exact (if_neg e).trans (hl j (by omega))
  have key2 : ∀ (m i : Nat) (b_val : Nat → Int32), i + m = 2046 → (∀ j, j < i → b_val j = b_base j) → wY_imagine_2 post (nI d) g_maxLevel g_maxCalls (nI ms) g_terms g_goals g_searching g_query g_read g_level (nI nf) g_neqs g_numbered g_kept (m + 1) (nI i) b_termToken b_termLen b_kind b_goalSize b_part b_relation b_outcome b_val b_len b_neqT b_neqU b_neqF b_stackGoal b_stackFrame b_buf b_bufLen b_tmp b_base b_baseLen b_num b_relevant b_implies b_keptAt := by
    intro m
    induction m with
    | zero =>
      intro i b_val hi hv
      obtain rfl : i = 2046 := by omega
      exact br_t (by decide) ⟨67, key29 66 0 _ _ (by omega) hv (fun j hj => absurd hj (by omega))⟩
    | succ m ih =>
      intro i b_val hi hv
      refine br_f (nI_ge (b := 2046) (by omega) (by decide)) ⟨vp_in_nI (by omega) (by decide), vp_in_nI (by omega) (by decide), nm_r (e' := upd b_val i (b_base i)) (by rw [nI_clamp (by omega)]) (nm_r (nI_1 i) (ih (i + 1) _ (by omega) (fun j hj => ?_)))⟩
      by_cases e : j = i
      · rw [e]; exact if_pos rfl
      · exact (if_neg e).trans (hv j (by omega))
  exact ⟨2047, key2 2046 0 b_val (by omega) (fun j hj => absurd hj (by omega))⟩
end
end
section
/-! the reference: the kept constraints -/
def rs_IR (R : Nat → Prop) (I : Nat → Nat → Prop) (n i : Nat) (relevant implies : Nat → Int32) : Prop :=
  ∀ j, j < i → (R j → relevant j = 1 ∧ ∀ e, e < n → (I j e → implies (24 * j + e) = 1) ∧ (¬ I j e → implies (24 * j + e) = 0)) ∧ (¬ R j → relevant j = 0)
theorem rs_n24 (i j : Nat) : nI i * 24 + nI j = nI (24 * i + j) := by
  rw [show (24 : Int32) = nI 24 from rfl, pk_mul, nI_add, Nat.mul_comm]
section
variable {g_maxLevel g_maxCalls g_maxSize g_terms g_goals g_searching g_query g_read g_level g_frames g_neqs g_numbered g_kept : Int32} {b_termToken b_termLen b_kind b_goalSize b_part b_relation b_outcome b_val b_len b_neqT b_neqU b_neqF b_stackGoal b_stackFrame b_buf b_bufLen b_tmp b_base b_baseLen b_num b_relevant b_implies b_keptAt : Nat → Int32}
variable {tc nf ms wd : Nat} {ts σ σ' : Nat → List Nat} {C C' : rs_V} {ne : List (List Nat × List Nat)} {post : SY → Prop}
theorem yw_kept_232 {J : Int32 → Int32 → (Nat → Int32) → (Nat → Int32) → (Nat → Int32) → (Nat → Int32) → (Nat → Int32) → (Nat → Int32) → (Nat → Int32) → (Nat → Int32) → (Nat → Int32) → (Nat → Int32) → (Nat → Int32) → (Nat → Int32) → (Nat → Int32) → (Nat → Int32) → (Nat → Int32) → (Nat → Int32) → (Nat → Int32) → (Nat → Int32) → (Nat → Int32) → (Nat → Int32) → (Nat → Int32) → (Nat → Int32) → (Nat → Int32) → Prop} {R : Nat → Prop} {I : Nat → Nat → Prop} {n d : Nat} (hn : n ≤ 24) (hd : d < n) (hIR : rs_IR R I n n b_relevant b_implies)
    (k1 : (R d ∧ ¬ ∃ j, j < n ∧ j ≠ d ∧ R j ∧ I d j ∧ (j < d ∨ ¬ I j d)) → vp_in g_kept 24 ∧ ∀ y, y = upd b_keptAt g_kept.toNatClampNeg (nI d) → ∀ z, z = g_kept + 1 → J (nI (d + 1)) z b_termToken b_termLen b_kind b_goalSize b_part b_relation b_outcome b_val b_len b_neqT b_neqU b_neqF b_stackGoal b_stackFrame b_buf b_bufLen b_tmp b_base b_baseLen b_num b_relevant b_implies y)
    (k0 : ¬ (R d ∧ ¬ ∃ j, j < n ∧ j ≠ d ∧ R j ∧ I d j ∧ (j < d ∨ ¬ I j d)) → J (nI (d + 1)) g_kept b_termToken b_termLen b_kind b_goalSize b_part b_relation b_outcome b_val b_len b_neqT b_neqU b_neqF b_stackGoal b_stackFrame b_buf b_bufLen b_tmp b_base b_baseLen b_num b_relevant b_implies b_keptAt) :
    ∀ (m i : Nat) (x2 : Int32), i + m = n → ((x2 = 1 ∧ R d ∧ ¬ ∃ j, j < i ∧ j ≠ d ∧ R j ∧ I d j ∧ (j < d ∨ ¬ I j d)) ∨ (x2 = 0 ∧ (¬ R d ∨ ∃ j, j < i ∧ j ≠ d ∧ R j ∧ I d j ∧ (j < d ∨ ¬ I j d)))) → wY_findKept_232 post J (nI d) g_maxLevel g_maxCalls g_maxSize g_terms g_goals g_searching g_query g_read g_level g_frames (nI n) g_numbered g_kept b_termToken b_termLen b_kind b_goalSize b_part b_relation b_outcome b_val b_len b_neqT b_neqU b_neqF b_stackGoal b_stackFrame b_buf b_bufLen b_tmp b_base b_baseLen b_num b_relevant b_implies b_keptAt (m + 1) x2 (nI i) := by
  intro m
  induction m with
  | zero =>
    intro i x2 hi hx
    obtain rfl : i = n := by omega
    refine br_t (nI_le (Nat.le_refl _) (by omega)) ?_
    rcases hx with ⟨rfl, hR, hno⟩ | ⟨rfl, hor⟩
    · refine br_f (by decide) ?_
      obtain ⟨a1, a2⟩ := k1 ⟨hR, hno⟩
      exact ⟨a1, fun y hy z hz => nm_r (nI_1 d) (a2 y hy z hz)⟩
    · refine br_t rfl (nm_r (nI_1 d) (k0 ?_))
      rintro ⟨z1, z2⟩
      rcases hor with w | w
      · exact w z1
      · exact z2 w
  | succ m ih =>
    intro i x2 hi hx
    obtain ⟨iR, iN⟩ := hIR i (by omega)
    obtain ⟨dR, dN⟩ := hIR d hd
    have skip : ¬ (i ≠ d ∧ R i ∧ I d i ∧ (i < d ∨ ¬ I i d)) → wY_findKept_232 post J (nI d) g_maxLevel g_maxCalls g_maxSize g_terms g_goals g_searching g_query g_read g_level g_frames (nI n) g_numbered g_kept b_termToken b_termLen b_kind b_goalSize b_part b_relation b_outcome b_val b_len b_neqT b_neqU b_neqF b_stackGoal b_stackFrame b_buf b_bufLen b_tmp b_base b_baseLen b_num b_relevant b_implies b_keptAt (m + 1) x2 (nI (i + 1)) := by
      intro hni
      refine ih (i + 1) x2 (by omega) ?_
      rcases hx with ⟨e1, hR, hno⟩ | ⟨e1, hor⟩
      · refine Or.inl ⟨e1, hR, ?_⟩
        rintro ⟨j, j1, j2⟩
        by_cases e : j = i
        · rw [e] at j2; exact hni j2
        · exact hno ⟨j, by omega, j2⟩
      · refine Or.inr ⟨e1, ?_⟩
        rcases hor with w | ⟨j, j1, j2⟩
        · exact Or.inl w
        · exact Or.inr ⟨j, by omega, j2⟩
    have hit : (i ≠ d ∧ R i ∧ (¬ R d ∨ (I d i ∧ (i < d ∨ ¬ I i d)))) → wY_findKept_232 post J (nI d) g_maxLevel g_maxCalls g_maxSize g_terms g_goals g_searching g_query g_read g_level g_frames (nI n) g_numbered g_kept b_termToken b_termLen b_kind b_goalSize b_part b_relation b_outcome b_val b_len b_neqT b_neqU b_neqF b_stackGoal b_stackFrame b_buf b_bufLen b_tmp b_base b_baseLen b_num b_relevant b_implies b_keptAt (m + 1) 0 (nI (i + 1)) := by
      rintro ⟨z1, z2, z3⟩
      refine ih (i + 1) 0 (by omega) (Or.inr ⟨rfl, ?_⟩)
      rcases z3 with w | w
      · exact Or.inl w
      · exact Or.inr ⟨i, by omega, z1, z2, w⟩
    have x2z : ¬ R d → x2 = 0 := by
      intro hR
      rcases hx with ⟨_, h, _⟩ | ⟨h, _⟩
      · exact absurd h hR
      · exact h
    have key : ∀ z0 : Int32, (R d → R i → i ≠ d → (z0 = 0 ↔ ¬ (i < d ∨ ¬ I i d))) → wY_findKept_264 post J (wY_findKept_232 post J (nI d) g_maxLevel g_maxCalls g_maxSize g_terms g_goals g_searching g_query g_read g_level g_frames (nI n) g_numbered g_kept b_termToken b_termLen b_kind b_goalSize b_part b_relation b_outcome b_val b_len b_neqT b_neqU b_neqF b_stackGoal b_stackFrame b_buf b_bufLen b_tmp b_base b_baseLen b_num b_relevant b_implies b_keptAt (m + 1)) (nI d) x2 (nI i) z0 g_maxLevel g_maxCalls g_maxSize g_terms g_goals g_searching g_query g_read g_level g_frames (nI n) g_numbered g_kept b_termToken b_termLen b_kind b_goalSize b_part b_relation b_outcome b_val b_len b_neqT b_neqU b_neqF b_stackGoal b_stackFrame b_buf b_bufLen b_tmp b_base b_baseLen b_num b_relevant b_implies b_keptAt := by
      intro z0 hz0
      by_cases e : i = d
      · exact br_t (by rw [e]) (nm_r (nI_1 i) (skip (fun z => z.1 e)))
      · refine br_f (fun z => e ((nI_eq (by omega) (by omega)).mp z)) ⟨vp_in_nI (by omega) (by decide), ?_⟩
        rw [nI_clamp (n := i) (by omega), rs_n24]
        by_cases hRi : R i
        · refine br_f (by rw [(iR hRi).1]; decide) ⟨vp_in_nI (by omega) (by decide), ?_⟩
          rw [nI_clamp (n := 24 * d + i) (by omega)]
          by_cases hRd : R d
          · obtain ⟨_, hI⟩ := dR hRd
            obtain ⟨i1, i0⟩ := hI i (by omega)
            by_cases hIdi : I d i
            · refine br_f (by rw [i1 hIdi]; decide) ?_
              by_cases hst : i < d ∨ ¬ I i d
              · refine br_f (fun z => (hz0 hRd hRi e).mp z hst) (nm_r (nI_1 i) (hit ⟨e, hRi, Or.inr ⟨hIdi, hst⟩⟩))
              · exact br_t ((hz0 hRd hRi e).mpr hst) (nm_r (nI_1 i) (skip (fun z => hst z.2.2.2)))
            · exact br_t (i0 hIdi) (nm_r (nI_1 i) (skip (fun z => hIdi z.2.2.1)))
          · have e0 := x2z hRd
            have s1 : wY_findKept_232 post J (nI d) g_maxLevel g_maxCalls g_maxSize g_terms g_goals g_searching g_query g_read g_level g_frames (nI n) g_numbered g_kept b_termToken b_termLen b_kind b_goalSize b_part b_relation b_outcome b_val b_len b_neqT b_neqU b_neqF b_stackGoal b_stackFrame b_buf b_bufLen b_tmp b_base b_baseLen b_num b_relevant b_implies b_keptAt (m + 1) x2 (nI (i + 1)) := by
              rw [e0]; exact hit ⟨e, hRi, Or.inl hRd⟩
            refine br_c (fun _ => nm_r (nI_1 i) s1) (fun _ => br_c (fun _ => nm_r (nI_1 i) s1) (fun _ => nm_r (nI_1 i) ?_))
            exact hit ⟨e, hRi, Or.inl hRd⟩
        · exact br_t (iN hRi) (nm_r (nI_1 i) (skip (fun z => hRi z.2.1)))
    refine br_f (nI_ge (by omega) (by omega)) ?_
    rw [rs_n24]
    refine ⟨vp_in_nI (by omega) (by decide), ?_⟩
    rw [nI_clamp (n := 24 * i + d) (by omega)]
    refine br_c (fun h0 => key 1 (fun hRd hRi hne => ?_)) (fun h0 => ?_)
    · refine ⟨fun z => absurd z (by decide), fun z => ?_⟩
      exfalso
      refine z (Or.inr (fun hI => ?_))
      rw [((iR hRi).2 d hd).1 hI] at h0
      exact absurd h0 (by decide)
    · by_cases hle : d ≤ i
      · refine br_t (nI_le hle (by omega)) (key 0 (fun hRd hRi hne => ⟨fun _ z => ?_, fun _ => rfl⟩))
        rcases z with w | w
        · omega
        · exact h0 (((iR hRi).2 d hd).2 w)
      · refine br_f (nI_ge (by omega) (by omega)) (key 1 (fun hRd hRi hne => ⟨fun z => absurd z (by decide), fun z => ?_⟩))
        exact absurd (Or.inl (by omega)) z
theorem yw_kept_215 {n : Nat} {P : Nat → Prop} {R : Nat → Prop} {I : Nat → Nat → Prop} (hn : n ≤ 24) (hIR : rs_IR R I n n b_relevant b_implies) (hP : ∀ d, P d ↔ (R d ∧ ¬ ∃ j, j < n ∧ j ≠ d ∧ R j ∧ I d j ∧ (j < d ∨ ¬ I j d)))
    (k : ∀ b_keptAt, rs_A b_keptAt 0 (rs_fl P 0 n) → post (g_maxLevel, g_maxCalls, g_maxSize, g_terms, g_goals, g_searching, g_query, g_read, g_level, g_frames, nI n, g_numbered, nI (rs_fl P 0 n).length, b_termToken, b_termLen, b_kind, b_goalSize, b_part, b_relation, b_outcome, b_val, b_len, b_neqT, b_neqU, b_neqF, b_stackGoal, b_stackFrame, b_buf, b_bufLen, b_tmp, b_base, b_baseLen, b_num, b_relevant, b_implies, b_keptAt)) :
    ∀ (m i : Nat) (b_keptAt : Nat → Int32), i + m = n → rs_A b_keptAt 0 (rs_fl P 0 i) → wY_findKept_215 post g_maxLevel g_maxCalls g_maxSize g_terms g_goals g_searching g_query g_read g_level g_frames (nI n) g_numbered (m + 1) (nI i) (nI (rs_fl P 0 i).length) b_termToken b_termLen b_kind b_goalSize b_part b_relation b_outcome b_val b_len b_neqT b_neqU b_neqF b_stackGoal b_stackFrame b_buf b_bufLen b_tmp b_base b_baseLen b_num b_relevant b_implies b_keptAt := by
  intro m
  induction m with
  | zero =>
    intro i b_keptAt hi hK
    obtain rfl : i = n := by omega
    exact br_t (nI_le (Nat.le_refl _) (by omega)) (k _ hK)
  | succ m ih =>
    intro i b_keptAt hi hK
    have hkl := rs_fl_len (P := P) i 0
    obtain ⟨iR, iN⟩ := hIR i (by omega)
    refine br_f (nI_ge (by omega) (by omega)) ⟨vp_in_nI (by omega) (by decide), nm_e ⟨n + 1, ?_⟩⟩
    rw [nI_clamp (n := i) (by omega)]
    refine yw_kept_232 hn (by omega) hIR ?_ ?_ n 0 _ (by omega) ?_
    · intro hyes
      have hPi := (hP i).mpr hyes
      refine ⟨vp_in_nI (by omega) (by decide), nm_r (e' := upd b_keptAt (rs_fl P 0 i).length (nI i)) (by rw [nI_clamp (by omega)]) (nm_r (nI_1 _) ?_)⟩
      have e1 : (rs_fl P 0 (i + 1)).length = (rs_fl P 0 i).length + 1 := by rw [rs_fl_st hPi, List.length_append]; rfl
      rw [← e1]
      refine ih (i + 1) _ (by omega) ?_
      rw [rs_fl_st hPi]
      have := rs_A_snoc (x := i) hK rfl
      rwa [Nat.zero_add] at this
    · intro hno
      have hPi : ¬ P i := fun z => hno ((hP i).mp z)
      rw [← rs_fl_sf hPi]
      exact ih (i + 1) b_keptAt (by omega) (by rw [rs_fl_sf hPi]; exact hK)
    · by_cases hR : R i
      · exact Or.inl ⟨(iR hR).1, hR, fun ⟨j, j1, _⟩ => absurd j1 (by omega)⟩
      · exact Or.inr ⟨iN hR, Or.inl hR⟩
theorem yw_kept_138 {J55 : Int32 → Int32 → Int32 → Int32 → Int32 → Int32 → Int32 → Int32 → Int32 → Int32 → Int32 → Int32 → Int32 → Int32 → (Nat → Int32) → (Nat → Int32) → (Nat → Int32) → (Nat → Int32) → (Nat → Int32) → (Nat → Int32) → (Nat → Int32) → (Nat → Int32) → (Nat → Int32) → (Nat → Int32) → (Nat → Int32) → (Nat → Int32) → (Nat → Int32) → (Nat → Int32) → (Nat → Int32) → (Nat → Int32) → (Nat → Int32) → (Nat → Int32) → (Nat → Int32) → (Nat → Int32) → (Nat → Int32) → (Nat → Int32) → (Nat → Int32) → Prop} {d : Nat} {I : Nat → Prop} (hT : rs_TB tc ts b_termToken b_termLen) (htc : tc ≤ 64) (hf : nf ≤ 11) (hms : ms ≤ 31) (hY : rs_Y ms nf C σ) (hB : rs_VA (6 * nf) σ b_base b_baseLen) (hN : rs_NY tc nf ts ne b_neqT b_neqU b_neqF) (hn : ne.length ≤ 24) (hw : wd ≤ 6 * nf) (hA : rs_A b_num 0 (rs_num σ wd)) (hd : d < 24) (hrel : b_relevant d = 0 ∨ (b_relevant d = 1 ∧ rs_Y ms nf C' σ' ∧ rs_VA (6 * nf) σ' b_val b_len)) (hI : ∀ e dd, ne[e]? = some dd → (I e ↔ rs_Same C' dd.1 dd.2))
    (k : ∀ b_implies' b_buf b_bufLen, (∀ i, (i < 24 * d ∨ 24 * d + 24 ≤ i) → b_implies' i = b_implies i) → (b_relevant d = 1 → ∀ e, e < ne.length → (I e → b_implies' (24 * d + e) = 1) ∧ (¬ I e → b_implies' (24 * d + e) = 0)) → J55 (nI (d + 1)) g_maxLevel g_maxCalls (nI ms) g_terms g_goals g_searching g_query g_read g_level (nI nf) (nI ne.length) (nI (rs_num σ wd).length) g_kept b_termToken b_termLen b_kind b_goalSize b_part b_relation b_outcome b_val b_len b_neqT b_neqU b_neqF b_stackGoal b_stackFrame b_buf b_bufLen b_tmp b_base b_baseLen b_num b_relevant b_implies' b_keptAt) :
    ∀ (m i : Nat) (b1 b_buf b_bufLen : Nat → Int32), i + m = ne.length → (∀ j, (j < 24 * d ∨ 24 * d + 24 ≤ j) → b1 j = b_implies j) → (b_relevant d = 1 → ∀ e, e < i → (I e → b1 (24 * d + e) = 1) ∧ (¬ I e → b1 (24 * d + e) = 0)) → wY_findKept_138 post J55 (nI d) (m + 1) (nI i) g_maxLevel g_maxCalls (nI ms) g_terms g_goals g_searching g_query g_read g_level (nI nf) (nI ne.length) (nI (rs_num σ wd).length) g_kept b_termToken b_termLen b_kind b_goalSize b_part b_relation b_outcome b_val b_len b_neqT b_neqU b_neqF b_stackGoal b_stackFrame b_buf b_bufLen b_tmp b_base b_baseLen b_num b_relevant b1 b_keptAt := by
  have v0 : vp_nar .boolean 0 = 0 := rfl
  have v1 : vp_nar .boolean 1 = 1 := rfl
  intro m
  induction m with
  | zero =>
    intro i b1 b_buf b_bufLen hi ho hs
    obtain rfl : i = ne.length := by omega
    exact br_t (nI_le (Nat.le_refl _) (by omega)) (nm_r (nI_1 d) (k _ _ _ ho hs))
  | succ m ih =>
    intro i b1 b_buf b_bufLen hi ho hs
    refine br_f (nI_ge (by omega) (by omega)) ⟨vp_in_nI hd (by decide), ?_⟩
    rw [nI_clamp (n := d) (by omega), rs_n24, v0, v1]
    have upo : ∀ x : Int32, ∀ j, (j < 24 * d ∨ 24 * d + 24 ≤ j) → upd b1 (24 * d + i) x j = b_implies j := fun x j hj => (if_neg (by omega)).trans (ho j hj)
    have ups : ∀ x : Int32, (b_relevant d = 1 → (I i → x = 1) ∧ (¬ I i → x = 0)) → (b_relevant d = 1 → ∀ e, e < i + 1 → (I e → upd b1 (24 * d + i) x (24 * d + e) = 1) ∧ (¬ I e → upd b1 (24 * d + i) x (24 * d + e) = 0)) := by
      intro x hx hr e he
      by_cases ee : e = i
      · subst ee
        rw [show upd b1 (24 * d + e) x (24 * d + e) = x from if_pos rfl]
        exact hx hr
      · rw [show upd b1 (24 * d + i) x (24 * d + e) = b1 (24 * d + e) from if_neg (by omega)]
        exact hs hr e (by omega)
    rcases hrel with h0 | ⟨h1, hY', hV⟩
    · refine br_t h0 ⟨vp_in_nI (by omega) (by decide), nm_r (e' := upd b1 (24 * d + i) 0) (by rw [nI_clamp (by omega)]) (nm_r (nI_1 i) (ih (i + 1) _ _ _ (by omega) (upo 0) (ups 0 (fun z => ?_))))⟩
      rw [h0] at z
      exact absurd z (by decide)
    · obtain ⟨t, u, f, q1, q2, q3, q4, q5, q6, q7⟩ := hN i (by omega)
      have hIi := hI i _ q7
      refine br_f (by rw [h1]; decide) ⟨vp_in_nI (by omega) (by decide), vp_in_nI (by omega) (by decide), vp_in_nI (by omega) (by decide), ?_⟩
      rw [nI_clamp (n := i) (by omega), q4, q5, q6]
      refine yw_diff_same hT q1 q2 htc q3 hf hms hY' hV ?_ ?_
      · intro hsame b_buf b_bufLen
        refine br_f (by decide) ⟨vp_in_nI (by omega) (by decide), nm_r (e' := upd b1 (24 * d + i) 1) (by rw [nI_clamp (by omega)]) (nm_r (nI_1 i) (ih (i + 1) _ _ _ (by omega) (upo 1) (ups 1 (fun _ => ⟨fun _ => rfl, fun z => absurd (hIi.mpr hsame) z⟩))))⟩
      · intro hns w hw b_buf b_bufLen
        refine br_t (nI_pos' (by omega)) ⟨vp_in_nI (by omega) (by decide), nm_r (e' := upd b1 (24 * d + i) 0) (by rw [nI_clamp (by omega)]) (nm_r (nI_1 i) (ih (i + 1) _ _ _ (by omega) (upo 0) (ups 0 (fun _ => ⟨fun z => absurd (hIi.mp z) hns, fun _ => rfl⟩))))⟩
theorem yw_kept_76 {J55 : Int32 → Int32 → Int32 → Int32 → Int32 → Int32 → Int32 → Int32 → Int32 → Int32 → Int32 → Int32 → Int32 → Int32 → (Nat → Int32) → (Nat → Int32) → (Nat → Int32) → (Nat → Int32) → (Nat → Int32) → (Nat → Int32) → (Nat → Int32) → (Nat → Int32) → (Nat → Int32) → (Nat → Int32) → (Nat → Int32) → (Nat → Int32) → (Nat → Int32) → (Nat → Int32) → (Nat → Int32) → (Nat → Int32) → (Nat → Int32) → (Nat → Int32) → (Nat → Int32) → (Nat → Int32) → (Nat → Int32) → (Nat → Int32) → (Nat → Int32) → Prop} {d : Nat} (hT : rs_TB tc ts b_termToken b_termLen) (htc : tc ≤ 64) (hf : nf ≤ 11) (hms : ms ≤ 31) (hY : rs_Y ms nf C σ) (hB : rs_VA (6 * nf) σ b_base b_baseLen) (hN : rs_NY tc nf ts ne b_neqT b_neqU b_neqF) (hn : ne.length ≤ 24) (hw : wd ≤ 6 * nf) (hA : rs_A b_num 0 (rs_num σ wd)) (hd : d < 24) (hV : rs_VA (6 * nf) σ' b_val b_len) (hY' : rs_Y ms nf C' σ')
    (k1 : rs_Unt σ σ' (6 * nf) wd → ∀ b_relevant', b_relevant' d = 1 → (∀ i, i ≠ d → b_relevant' i = b_relevant i) → ∃ n, wY_findKept_138 post J55 (nI d) n 0 g_maxLevel g_maxCalls (nI ms) g_terms g_goals g_searching g_query g_read g_level (nI nf) (nI ne.length) (nI (rs_num σ wd).length) g_kept b_termToken b_termLen b_kind b_goalSize b_part b_relation b_outcome b_val b_len b_neqT b_neqU b_neqF b_stackGoal b_stackFrame b_buf b_bufLen b_tmp b_base b_baseLen b_num b_relevant' b_implies b_keptAt)
    (k0 : ¬ rs_Unt σ σ' (6 * nf) wd → ∀ b_relevant', b_relevant' d = 0 → (∀ i, i ≠ d → b_relevant' i = b_relevant i) → ∃ n, wY_findKept_138 post J55 (nI d) n 0 g_maxLevel g_maxCalls (nI ms) g_terms g_goals g_searching g_query g_read g_level (nI nf) (nI ne.length) (nI (rs_num σ wd).length) g_kept b_termToken b_termLen b_kind b_goalSize b_part b_relation b_outcome b_val b_len b_neqT b_neqU b_neqF b_stackGoal b_stackFrame b_buf b_bufLen b_tmp b_base b_baseLen b_num b_relevant' b_implies b_keptAt) :
    ∀ (m x : Nat) (b1 : Nat → Int32), x + m = 6 * nf → (∀ i, i ≠ d → b1 i = b_relevant i) → b1 d = 1 → (∀ w, w < x → σ w = [100 + w] → w ∉ rs_num σ wd → ¬ rs_Tch σ σ' (6 * nf) w) → wY_findKept_76 post J55 (nI d) g_maxLevel g_maxCalls (nI ms) g_terms g_goals g_searching g_query g_read g_level (nI nf) (nI ne.length) (nI (rs_num σ wd).length) g_kept (m + 1) (nI x) b_termToken b_termLen b_kind b_goalSize b_part b_relation b_outcome b_val b_len b_neqT b_neqU b_neqF b_stackGoal b_stackFrame b_buf b_bufLen b_tmp b_base b_baseLen b_num b1 b_implies b_keptAt := by
  have e6 : nI nf * 6 = nI (6 * nf) := by rw [show (6 : Int32) = nI 6 from rfl, pk_mul, Nat.mul_comm]
  have hMg := rs_Y_Mg hY
  have hlt : ∀ b, b ∈ rs_num σ wd → b < 66 := fun b hb => Nat.lt_of_lt_of_le (rs_num_lt hMg hw hb) (by omega)
  have hnl := rs_nd_len (n := 66) (rs_num_nd σ wd) hlt
  intro m
  induction m with
  | zero =>
    intro x b1 hx ho h1 hno
    exact br_t (by rw [e6]; exact nI_le (by omega) (by omega)) (k1 (fun w hw => hno w (by omega)) b1 h1 ho)
  | succ m ih =>
    intro x b1 hx ho h1 hno
    have next : (σ x = [100 + x] → x ∉ rs_num σ wd → ¬ rs_Tch σ σ' (6 * nf) x) → wY_findKept_76 post J55 (nI d) g_maxLevel g_maxCalls (nI ms) g_terms g_goals g_searching g_query g_read g_level (nI nf) (nI ne.length) (nI (rs_num σ wd).length) g_kept (m + 1) (nI (x + 1)) b_termToken b_termLen b_kind b_goalSize b_part b_relation b_outcome b_val b_len b_neqT b_neqU b_neqF b_stackGoal b_stackFrame b_buf b_bufLen b_tmp b_base b_baseLen b_num b1 b_implies b_keptAt := by
      intro hx'
      refine ih (x + 1) b1 (by omega) ho h1 (fun w hw => ?_)
      by_cases e : w = x
      · rw [e]; exact hx'
      · exact hno w (by omega)
    have e1 : 100 + nI x = nI (100 + x) := nI_add 100 x
    refine br_f (by rw [e6]; exact nI_ge (by omega) (by omega)) ⟨vp_in_nI hd (by decide), ?_⟩
    rw [nI_clamp (n := d) (by omega), e1]
    refine br_f (by rw [h1]; decide) ?_
    refine yw_isUnknown hf hY hB (by omega) (fun hu => br_f (by decide) ?_) (fun hu => br_t rfl (nm_r (nI_1 x) (next (fun z => absurd z hu))))
    refine yw_numberOf hA hnl hlt (by omega) (fun hm => ?_) (fun hm => ?_)
    · have := rs_ix_mem.mp hm
      exact br_t (nI_pos' (by omega)) (nm_r (nI_1 x) (next (fun _ z => absurd hm z)))
    · refine br_f (by decide) ?_
      refine yw_touched hf hY hY' hB hV (by omega) (fun htch => br_f (by decide) ⟨vp_in_nI hd (by decide), nm_r (e' := upd b1 d 0) (by rfl) (nm_r (nI_1 x) ?_)⟩) (fun htch => br_t rfl (nm_r (nI_1 x) (next (fun _ _ => htch))))
      have hz : upd b1 d 0 d = 0 := if_pos rfl
      have fin := k0 (fun hU => hU x (by omega) hu hm htch) (upd b1 d 0) hz (fun i hi => (if_neg hi).trans (ho i hi))
      refine br_c (fun _ => fin) (fun _ => ⟨vp_in_nI hd (by decide), br_t ?_ fin⟩)
      rw [nI_clamp (by omega)]; exact hz
end
end
section
/-! the reference finds the kept constraints -/
section
variable {g_maxLevel g_maxCalls g_maxSize g_terms g_goals g_searching g_query g_read g_level g_frames g_neqs g_numbered g_kept : Int32} {b_termToken b_termLen b_kind b_goalSize b_part b_relation b_outcome b_val b_len b_neqT b_neqU b_neqF b_stackGoal b_stackFrame b_buf b_bufLen b_tmp b_base b_baseLen b_num b_relevant b_implies b_keptAt : Nat → Int32}
variable {tc nf ms wd : Nat} {ts σ : Nat → List Nat} {C : rs_V} {ne : List (List Nat × List Nat)} {post : SY → Prop}
theorem yw_kept_55 (hT : rs_TB tc ts b_termToken b_termLen) (htc : tc ≤ 64) (hf : nf ≤ 11) (hms : ms ≤ 31) (hY : rs_Y ms nf C σ) (hB : rs_VA (6 * nf) σ b_base b_baseLen) (hN : rs_NY tc nf ts ne b_neqT b_neqU b_neqF) (hn : ne.length ≤ 24) (hw : wd ≤ 6 * nf) (hA : rs_A b_num 0 (rs_num σ wd))
    (k : ∀ (b_val b_len b_buf b_bufLen b_tmp b_relevant b_implies : Nat → Int32) b_keptAt, rs_A b_keptAt 0 (rs_fl (rs_Kept ms nf wd C ne) 0 ne.length) → post (g_maxLevel, g_maxCalls, nI ms, g_terms, g_goals, g_searching, g_query, g_read, g_level, nI nf, nI ne.length, nI (rs_num σ wd).length, nI (rs_fl (rs_Kept ms nf wd C ne) 0 ne.length).length, b_termToken, b_termLen, b_kind, b_goalSize, b_part, b_relation, b_outcome, b_val, b_len, b_neqT, b_neqU, b_neqF, b_stackGoal, b_stackFrame, b_buf, b_bufLen, b_tmp, b_base, b_baseLen, b_num, b_relevant, b_implies, b_keptAt)) :
    ∀ (m i : Nat) (b_val b_len b_buf b_bufLen b_tmp b_relevant b_implies : Nat → Int32), i + m = ne.length → rs_IR (rs_RelI ms nf wd C ne) (rs_ImpI C ne) ne.length i b_relevant b_implies → wY_findKept_55 post (m + 1) (nI i) g_maxLevel g_maxCalls (nI ms) g_terms g_goals g_searching g_query g_read g_level (nI nf) (nI ne.length) (nI (rs_num σ wd).length) g_kept b_termToken b_termLen b_kind b_goalSize b_part b_relation b_outcome b_val b_len b_neqT b_neqU b_neqF b_stackGoal b_stackFrame b_buf b_bufLen b_tmp b_base b_baseLen b_num b_relevant b_implies b_keptAt := by
  have v0 : vp_nar .boolean 0 = 0 := rfl
  have v1 : vp_nar .boolean 1 = 1 := rfl
  intro m
  induction m with
  | zero =>
    intro i b_val b_len b_buf b_bufLen b_tmp b_relevant b_implies hi hIR
    obtain rfl : i = ne.length := by omega
    refine br_t (nI_le (Nat.le_refl _) (by omega)) ⟨ne.length + 1, ?_⟩
    exact yw_kept_215 (P := (rs_Kept ms nf wd C ne)) hn hIR (fun d => rs_Kept_iff) (fun b_keptAt hK => k _ _ _ _ _ _ _ _ hK) ne.length 0 b_keptAt (by omega) rs_A_nil
  | succ m ih =>
    intro i b_val b_len b_buf b_bufLen b_tmp b_relevant b_implies hi hIR
    obtain ⟨dd, hdd⟩ : ∃ dd, ne[i]? = some dd := ⟨_, List.getElem?_eq_getElem (by omega)⟩
    have hrel : rs_RelI ms nf wd C ne i ↔ rs_Rel ms nf wd C dd := by
      constructor
      · rintro ⟨d', e1, e2⟩
        rw [hdd] at e1
        injection e1 with e1
        rw [e1]; exact e2
      · intro z
        exact ⟨dd, hdd, z⟩
    have himp : ∀ e ee, ne[e]? = some ee → (rs_ImpI C ne i e ↔ rs_Same (rs_eqC C dd.1 dd.2) ee.1 ee.2) := by
      intro e ee hee
      constructor
      · rintro ⟨d', e', q1, q2, q3⟩
        rw [hdd] at q1
        rw [hee] at q2
        injection q1 with q1
        injection q2 with q2
        subst q1 q2
        exact q3
      · intro z
        exact ⟨dd, ee, hdd, hee, z⟩
    have fin : ∀ (b_val b_len b_buf b_bufLen b_tmp b_relevant b_implies : Nat → Int32) (b_relevant' b_implies' : Nat → Int32), (∀ j, j ≠ i → b_relevant' j = b_relevant j) → (∀ j, (j < 24 * i ∨ 24 * i + 24 ≤ j) → b_implies' j = b_implies j) → rs_IR (rs_RelI ms nf wd C ne) (rs_ImpI C ne) ne.length i b_relevant b_implies → ((rs_RelI ms nf wd C ne) i → b_relevant' i = 1 ∧ ∀ e, e < ne.length → (rs_ImpI C ne i e → b_implies' (24 * i + e) = 1) ∧ (¬ rs_ImpI C ne i e → b_implies' (24 * i + e) = 0)) → (¬ (rs_RelI ms nf wd C ne) i → b_relevant' i = 0) → wY_findKept_55 post (m + 1) (nI (i + 1)) g_maxLevel g_maxCalls (nI ms) g_terms g_goals g_searching g_query g_read g_level (nI nf) (nI ne.length) (nI (rs_num σ wd).length) g_kept b_termToken b_termLen b_kind b_goalSize b_part b_relation b_outcome b_val b_len b_neqT b_neqU b_neqF b_stackGoal b_stackFrame b_buf b_bufLen b_tmp b_base b_baseLen b_num b_relevant' b_implies' b_keptAt := by
      intro b_val b_len b_buf b_bufLen b_tmp b_relevant b_implies b_relevant' b_implies' hr hi' hIR h1 h0
      refine ih (i + 1) _ _ _ _ _ _ _ (by omega) ?_
      intro j hj
      by_cases e : j = i
      · subst e; exact ⟨h1, h0⟩
      · obtain ⟨q1, q2⟩ := hIR j (by omega)
        rw [hr j e]
        refine ⟨fun z => ⟨(q1 z).1, fun e he => ?_⟩, q2⟩
        rw [hi' (24 * j + e) (by omega)]
        exact (q1 z).2 e he
    refine br_f (nI_ge (by omega) (by omega)) ?_
    refine yw_imagine hT htc hf hms hY hB hN hn hdd ?_ ?_
    · intro σ' b_val b_len b_buf b_bufLen b_tmp hSat hY' hV'
      have hri := rs_Rel_iff (wd := wd) (rs_Y_Mg hY) (rs_Y_MG hY') hSat
      refine ⟨vp_in_nI (by omega) (by decide), nm_r (e' := upd b_relevant i 1) (by rw [nI_clamp (by omega), v1]) ⟨6 * nf + 1, ?_⟩⟩
      refine yw_kept_76 (σ' := σ') hT htc hf hms hY hB hN hn hw hA (by omega) hV' hY' ?_ ?_ (6 * nf) 0 (upd b_relevant i 1) (by omega) (fun j hj => if_neg hj) (if_pos rfl) (fun w hw => absurd hw (by omega))
      · intro hU b_relevant' hb hoth
        have hR := hrel.mpr (hri.mpr hU)
        refine ⟨ne.length + 1, ?_⟩
        refine yw_kept_138 (σ' := σ') (I := rs_ImpI C ne i) hT htc hf hms hY hB hN hn hw hA (by omega) (Or.inr ⟨hb, hY', hV'⟩) himp ?_ ne.length 0 b_implies b_buf b_bufLen (by omega) (fun _ _ => rfl) (fun _ e he => absurd he (by omega))
        intro b_implies' b_buf b_bufLen ho hs
        exact fin _ _ _ _ _ b_relevant b_implies b_relevant' b_implies' hoth ho hIR (fun _ => ⟨hb, hs hb⟩) (fun z => absurd hR z)
      · intro hU b_relevant' hb hoth
        have hR : ¬ (rs_RelI ms nf wd C ne) i := fun z => hU (hri.mp (hrel.mp z))
        refine ⟨ne.length + 1, ?_⟩
        refine yw_kept_138 (σ' := σ') (I := rs_ImpI C ne i) hT htc hf hms hY hB hN hn hw hA (by omega) (Or.inl hb) himp ?_ ne.length 0 b_implies b_buf b_bufLen (by omega) (fun _ _ => rfl) (fun _ e he => absurd he (by omega))
        intro b_implies' b_buf b_bufLen ho hs
        exact fin _ _ _ _ _ b_relevant b_implies b_relevant' b_implies' hoth ho hIR (fun z => absurd z hR) (fun _ => hb)
    · intro hSat b_val b_len b_buf b_bufLen b_tmp
      have hR : ¬ (rs_RelI ms nf wd C ne) i := fun z => hSat (hrel.mp z).1
      have hz : upd b_relevant i 0 i = 0 := if_pos rfl
      refine ⟨vp_in_nI (by omega) (by decide), nm_r (e' := upd b_relevant i 0) (by rw [nI_clamp (by omega), v0]) ⟨1, ?_⟩⟩
      have go : ∃ n, wY_findKept_138 post (wY_findKept_55 post (m + 1)) (nI i) n 0 g_maxLevel g_maxCalls (nI ms) g_terms g_goals g_searching g_query g_read g_level (nI nf) (nI ne.length) (nI (rs_num σ wd).length) g_kept b_termToken b_termLen b_kind b_goalSize b_part b_relation b_outcome b_val b_len b_neqT b_neqU b_neqF b_stackGoal b_stackFrame b_buf b_bufLen b_tmp b_base b_baseLen b_num (upd b_relevant i 0) b_implies b_keptAt := by
        refine ⟨ne.length + 1, ?_⟩
        refine yw_kept_138 (σ' := σ) (b_val := b_val) (b_len := b_len) (I := rs_ImpI C ne i) hT htc hf hms hY hB hN hn hw hA (by omega) (Or.inl hz) himp ?_ ne.length 0 b_implies b_buf b_bufLen (by omega) (fun _ _ => rfl) (fun _ e he => absurd he (by omega))
        intro b_implies' b_buf b_bufLen ho hs
        exact fin _ _ _ _ _ b_relevant b_implies _ b_implies' (fun j hj => if_neg hj) ho hIR (fun z => absurd z hR) (fun _ => hz)
      refine br_c (fun _ => go) (fun _ => ⟨vp_in_nI (by omega) (by decide), br_t ?_ go⟩)
      rw [nI_clamp (by omega)]; exact hz
theorem yw_findKept (hT : rs_TB tc ts b_termToken b_termLen) (htc : tc ≤ 64) (hf : nf ≤ 11) (hms : ms ≤ 31) (hY : rs_Y ms nf C σ) (hV : rs_VA (6 * nf) σ b_val b_len) (hN : rs_NY tc nf ts ne b_neqT b_neqU b_neqF) (hn : ne.length ≤ 24) (hw : wd ≤ 6 * nf) (hA : rs_A b_num 0 (rs_num σ wd))
    (k : ∀ (b_val b_len b_buf b_bufLen b_tmp b_relevant b_implies : Nat → Int32) b_keptAt b_base b_baseLen, rs_VA (6 * nf) σ b_base b_baseLen → rs_A b_keptAt 0 (rs_fl (rs_Kept ms nf wd C ne) 0 ne.length) → post (g_maxLevel, g_maxCalls, nI ms, g_terms, g_goals, g_searching, g_query, g_read, g_level, nI nf, nI ne.length, nI (rs_num σ wd).length, nI (rs_fl (rs_Kept ms nf wd C ne) 0 ne.length).length, b_termToken, b_termLen, b_kind, b_goalSize, b_part, b_relation, b_outcome, b_val, b_len, b_neqT, b_neqU, b_neqF, b_stackGoal, b_stackFrame, b_buf, b_bufLen, b_tmp, b_base, b_baseLen, b_num, b_relevant, b_implies, b_keptAt)) : wpY_findKept post (g_maxLevel, g_maxCalls, nI ms, g_terms, g_goals, g_searching, g_query, g_read, g_level, nI nf, nI ne.length, nI (rs_num σ wd).length, g_kept, b_termToken, b_termLen, b_kind, b_goalSize, b_part, b_relation, b_outcome, b_val, b_len, b_neqT, b_neqU, b_neqF, b_stackGoal, b_stackFrame, b_buf, b_bufLen, b_tmp, b_base, b_baseLen, b_num, b_relevant, b_implies, b_keptAt) := by
  have key29 : ∀ (m i : Nat) (b_base b_baseLen : Nat → Int32), i + m = 66 → (∀ j, j < 2046 → b_base j = b_val j) → (∀ j, j < i → b_baseLen j = b_len j) → wY_findKept_29 post g_maxLevel g_maxCalls (nI ms) g_terms g_goals g_searching g_query g_read g_level (nI nf) (nI ne.length) (nI (rs_num σ wd).length) g_kept (m + 1) (nI i) b_termToken b_termLen b_kind b_goalSize b_part b_relation b_outcome b_val b_len b_neqT b_neqU b_neqF b_stackGoal b_stackFrame b_buf b_bufLen b_tmp b_base b_baseLen b_num b_relevant b_implies b_keptAt := by
    intro m
    induction m with
    | zero =>
      intro i b_base b_baseLen hi hv hl
      obtain rfl : i = 66 := by omega
      have hB := rs_VA_congr (by omega) hV hv hl
      refine br_t (by decide) ⟨ne.length + 1, ?_⟩
      exact yw_kept_55 hT htc hf hms hY hB hN hn hw hA (fun b_val b_len b_buf b_bufLen b_tmp b_relevant b_implies b_keptAt hK => k _ _ _ _ _ _ _ _ _ _ hB hK) ne.length 0 _ _ _ _ _ _ _ (by omega) (fun j hj => absurd hj (by omega))
    | succ m ih =>
      intro i b_base b_baseLen hi hv hl
      refine br_f (nI_ge (b := 66) (by omega) (by decide)) ⟨vp_in_nI (by omega) (by decide), vp_in_nI (by omega) (by decide), nm_r (e' := upd b_baseLen i (b_len i)) (by rw [nI_clamp (by omega)]) (nm_r (nI_1 i) (ih (i + 1) _ _ (by omega) hv (fun j hj => ?_)))⟩
      by_cases e : j = i
      · rw [e]; exact if_pos rfl
      · exact (if_neg e).trans (hl j (by omega))
  have key2 : ∀ (m i : Nat) (b_base : Nat → Int32), i + m = 2046 → (∀ j, j < i → b_base j = b_val j) → wY_findKept_2 post g_maxLevel g_maxCalls (nI ms) g_terms g_goals g_searching g_query g_read g_level (nI nf) (nI ne.length) (nI (rs_num σ wd).length) g_kept (m + 1) (nI i) b_termToken b_termLen b_kind b_goalSize b_part b_relation b_outcome b_val b_len b_neqT b_neqU b_neqF b_stackGoal b_stackFrame b_buf b_bufLen b_tmp b_base b_baseLen b_num b_relevant b_implies b_keptAt := by
    intro m
    induction m with
    | zero =>
      intro i b_base hi hv
      obtain rfl : i = 2046 := by omega
      exact br_t (by decide) ⟨67, key29 66 0 _ _ (by omega) hv (fun j hj => absurd hj (by omega))⟩
    | succ m ih =>
      intro i b_base hi hv
      refine br_f (nI_ge (b := 2046) (by omega) (by decide)) ⟨vp_in_nI (by omega) (by decide), vp_in_nI (by omega) (by decide), nm_r (e' := upd b_base i (b_val i)) (by rw [nI_clamp (by omega)]) (nm_r (nI_1 i) (ih (i + 1) _ (by omega) (fun j hj => ?_)))⟩
      by_cases e : j = i
      · rw [e]; exact if_pos rfl
      · exact (if_neg e).trans (hv j (by omega))
  exact ⟨2047, key2 2046 0 b_base (by omega) (fun j hj => absurd hj (by omega))⟩
end
end
section
/-! constraints of an answer -/
theorem rs_least_ex {C C' : rs_V} {s s' : Nat → List Nat} {n wd z w : Nat} (hs : rs_Mg n C s) (hs' : rs_Mg n C' s') (hC : ∀ θ, rs_cp θ → C' θ → C θ) (hU : rs_Unt s s' n wd) (hwd : wd ≤ n) (hz : z ∈ rs_num s wd) (hw : 100 + w ∈ s' z) : ∃ u, u ∈ rs_num s wd ∧ s' u = [100 + w] := by
  have hzn := rs_num_lt hs hwd hz
  have hw' := rs_MG_self hs'.1 hw
  have hwn := hs'.2 z hzn w hw
  have h1 := hs.1.2.2 s' hs'.1.1 (hC s' hs'.1.1 hs'.1.2.1) w
  have h2 := rs_s_len hs'.1.1 (s w)
  rw [← h1, hw'] at h2
  have hp := rs_cp_pos hs.1.1 w
  cases e : s w with
  | nil => rw [e] at hp; exact absurd hp (by simp)
  | cons t l =>
    rw [e] at h2
    have hl : l = [] := by
      cases l with
      | nil => rfl
      | cons a l => simp at h2
    subst hl
    rw [e, hw'] at h1
    rcases rs_tok t with ht | ⟨u, rfl⟩
    · rw [rs_s_lo ht] at h1
      injection h1 with h1 _
      omega
    · rw [rs_s_1] at h1
      have mu : 100 + u ∈ s w := by rw [e]; exact List.mem_cons_self ..
      have hun := hs.2 w hwn u mu
      have hus := rs_MG_self hs.1 mu
      by_cases hm : u ∈ rs_num s wd
      · exact ⟨u, hm, h1.symm⟩
      · exfalso
        refine hU u hun hus hm (Or.inr ⟨z, w, hzn, ?_, rs_num_self hs.1 hz, h1.symm, hw⟩)
        intro e2
        rw [e2] at hz
        exact hm hz
theorem rs_getD_mem {l : List Nat} {i : Nat} (h : i < l.length) : l.getD i 0 ∈ l := by
  rw [List.getD_eq_getElem?_getD, List.getElem?_eq_getElem h]
  exact List.getElem_mem h
section
variable {f_kindSymbol f_kindSlot f_kindPair f_goalEq f_goalNeq f_goalBoth f_goalEither f_goalCall f_goOn f_outAnswer f_outFailure f_outCut f_outPending f_firstVariable f_maxLevel f_maxCalls f_maxSize f_termCount f_goalCount f_searching f_queryGoal f_queryWidth f_levelNow f_pendingCount f_nextCount f_answerCount f_failureCount f_cutCount f_trailTop f_callsDone f_choicesLeft f_neqCount f_workTop f_walkTop f_loaded f_numberedCount f_endUnknownCount f_constraintsReady f_relevantMask f_keptCount : Int32} {a_termKind a_termLeft a_termRight a_termSize a_goalKind a_goalFirst a_goalSecond a_goalThird a_goalFourth a_goalSize a_relationGoal a_pendingPath a_nextPath a_answerPath a_link a_trail a_neqLeft a_neqRight a_workGoal a_workFrame a_stackA a_stackB a_walk a_numberOf a_numbered a_endUnknown a_implied a_kept a_sightings a_lastSeen : Nat → Int32}
variable {g_maxLevel g_maxCalls g_maxSize g_terms g_goals g_searching g_query g_read g_level g_frames g_neqs g_numbered g_kept : Int32} {b_termToken b_termLen b_kind b_goalSize b_part b_relation b_outcome b_val b_len b_neqT b_neqU b_neqF b_stackGoal b_stackFrame b_buf b_bufLen b_tmp b_base b_baseLen b_num b_relevant b_implies b_keptAt : Nat → Int32}
variable {k : Nat}
theorem xw_leastNumber {post : Int32 → Prop} {T : rs_T} {nf tt r n0 : Nat} {nu : List Nat} (hT : rs_TA T a_termKind a_termLeft a_termRight) (hR : rs_LR a_link) (hL : rs_LK T nf (rs_lk a_link) tt) (hr : r < 770) (hlt : ∀ a, a ∈ nu → a < 66) (hnl : nu.length ≤ 66) (hA : rs_A a_numbered 0 nu) (h0 : n0 < nu.length) (hq : rs_rt T (rs_lk a_link) (704 + nu.getD n0 0) = r) (hmin : ∀ m, m < n0 → rs_rt T (rs_lk a_link) (704 + nu.getD m 0) ≠ r) (h : post (nI n0)) : wpX_leastNumber post (f_kindSymbol, f_kindSlot, f_kindPair, f_goalEq, f_goalNeq, f_goalBoth, f_goalEither, f_goalCall, f_goOn, f_outAnswer, f_outFailure, f_outCut, f_outPending, f_firstVariable, f_maxLevel, f_maxCalls, f_maxSize, f_termCount, f_goalCount, f_searching, f_queryGoal, f_queryWidth, f_levelNow, f_pendingCount, f_nextCount, f_answerCount, f_failureCount, f_cutCount, f_trailTop, f_callsDone, f_choicesLeft, f_neqCount, f_workTop, f_walkTop, f_loaded, nI nu.length, f_endUnknownCount, f_constraintsReady, f_relevantMask, f_keptCount, a_termKind, a_termLeft, a_termRight, a_termSize, a_goalKind, a_goalFirst, a_goalSecond, a_goalThird, a_goalFourth, a_goalSize, a_relationGoal, a_pendingPath, a_nextPath, a_answerPath, a_link, a_trail, a_neqLeft, a_neqRight, a_workGoal, a_workFrame, a_stackA, a_stackB, a_walk, a_numberOf, a_numbered, a_endUnknown, a_implied, a_kept, a_sightings, a_lastSeen) (nI r) := by
  have key : ∀ (d i : Nat), i + d = n0 → wX_leastNumber_2 post (nI r) f_kindSymbol f_kindSlot f_kindPair f_goalEq f_goalNeq f_goalBoth f_goalEither f_goalCall f_goOn f_outAnswer f_outFailure f_outCut f_outPending f_firstVariable f_maxLevel f_maxCalls f_maxSize f_termCount f_goalCount f_searching f_queryGoal f_queryWidth f_levelNow f_pendingCount f_nextCount f_answerCount f_failureCount f_cutCount f_trailTop f_callsDone f_choicesLeft f_neqCount f_workTop f_walkTop f_loaded (nI nu.length) f_endUnknownCount f_constraintsReady f_relevantMask f_keptCount a_termKind a_termLeft a_termRight a_termSize a_goalKind a_goalFirst a_goalSecond a_goalThird a_goalFourth a_goalSize a_relationGoal a_pendingPath a_nextPath a_answerPath a_link a_trail a_neqLeft a_neqRight a_workGoal a_workFrame a_stackA a_stackB a_walk a_numberOf a_numbered a_endUnknown a_implied a_kept a_sightings a_lastSeen (d + 1) (nI i) := by
    intro d
    induction d with
    | zero =>
      intro i hi
      obtain rfl : i = n0 := by omega
      have ea := hA i h0
      have hm : nu.getD i 0 < 66 := hlt _ (by rw [List.getD_eq_getElem?_getD, List.getElem?_eq_getElem h0]; exact List.getElem_mem h0)
      rw [Nat.zero_add] at ea
      have e7 : 704 + nI (nu.getD i 0) = nI (704 + nu.getD i 0) := nI_add 704 _
      refine br_f (nI_ge (by omega) (by omega)) ⟨vp_in_nI (by omega) (by decide), ?_⟩
      rw [nI_clamp (n := i) (by omega), ea, e7]
      exact xw_find hT hR hL (by omega) (br_t (by rw [hq]) h)
    | succ d ih =>
      intro i hi
      have hil : i < nu.length := by omega
      have ea := hA i hil
      have hm : nu.getD i 0 < 66 := hlt _ (by rw [List.getD_eq_getElem?_getD, List.getElem?_eq_getElem hil]; exact List.getElem_mem hil)
      rw [Nat.zero_add] at ea
      have e7 : 704 + nI (nu.getD i 0) = nI (704 + nu.getD i 0) := nI_add 704 _
      have hrt := rs_rt_lt hT.1 hL (n := 704 + nu.getD i 0) (by omega)
      refine br_f (nI_ge (by omega) (by omega)) ⟨vp_in_nI (by omega) (by decide), ?_⟩
      rw [nI_clamp (n := i) (by omega), ea, e7]
      exact xw_find hT hR hL (by omega) (br_f (fun z => hmin i (by omega) ((nI_eq (by omega) (by omega)).mp z)) (nm_r (nI_1 i) (ih (i + 1) (by omega))))
  exact ⟨n0 + 1, key n0 0 (by omega)⟩
theorem yw_least_112 {post : Int32 → SY → Prop} {nf ms y n0 : Nat} {C' : rs_V} {σ' : Nat → List Nat} {nu : List Nat} (hf : nf ≤ 11) (hY : rs_Y ms nf C' σ') (hV : rs_VA (6 * nf) σ' b_val b_len) (hy : y < 1000) (hlt : ∀ a, a ∈ nu → a < 6 * nf) (hnl : nu.length ≤ 66) (hA : rs_A b_num 0 nu) (h0 : n0 < nu.length) (hq : (σ' (nu.getD n0 0)).getD 0 0 = y) (hmin : ∀ m, m < n0 → (σ' (nu.getD m 0)).getD 0 0 ≠ y) (h : post (nI (100 + n0)) (g_maxLevel, g_maxCalls, g_maxSize, g_terms, g_goals, g_searching, g_query, g_read, g_level, g_frames, g_neqs, nI nu.length, g_kept, b_termToken, b_termLen, b_kind, b_goalSize, b_part, b_relation, b_outcome, b_val, b_len, b_neqT, b_neqU, b_neqF, b_stackGoal, b_stackFrame, b_buf, b_bufLen, b_tmp, b_base, b_baseLen, b_num, b_relevant, b_implies, b_keptAt)) : ∃ n, wY_constraintNode_112 post (nI y) g_maxLevel g_maxCalls g_maxSize g_terms g_goals g_searching g_query g_read g_level g_frames g_neqs (nI nu.length) g_kept b_termToken b_termLen b_kind b_goalSize b_part b_relation b_outcome b_val b_len b_neqT b_neqU b_neqF b_stackGoal b_stackFrame b_buf b_bufLen b_tmp b_base b_baseLen b_num b_relevant b_implies b_keptAt n 0 := by
  have fst : ∀ i, i < nu.length → nu.getD i 0 < 6 * nf ∧ b_val (31 * nu.getD i 0) = nI ((σ' (nu.getD i 0)).getD 0 0) ∧ (σ' (nu.getD i 0)).getD 0 0 < 1000 := by
    intro i hi
    have hm : nu.getD i 0 < 6 * nf := hlt _ (by rw [List.getD_eq_getElem?_getD, List.getElem?_eq_getElem hi]; exact List.getElem_mem hi)
    obtain ⟨_, a2, _⟩ := hV _ hm
    have hp := rs_cp_pos hY.1 (nu.getD i 0)
    refine ⟨hm, a2 0 hp, ?_⟩
    refine rs_Y_b hY hf _ _ hm ?_
    exact rs_getD_mem hp
  have key : ∀ (d i : Nat), i + d = n0 → wY_constraintNode_112 post (nI y) g_maxLevel g_maxCalls g_maxSize g_terms g_goals g_searching g_query g_read g_level g_frames g_neqs (nI nu.length) g_kept b_termToken b_termLen b_kind b_goalSize b_part b_relation b_outcome b_val b_len b_neqT b_neqU b_neqF b_stackGoal b_stackFrame b_buf b_bufLen b_tmp b_base b_baseLen b_num b_relevant b_implies b_keptAt (d + 1) (nI i) := by
    intro d
    induction d with
    | zero =>
      intro i hi
      obtain rfl : i = n0 := by omega
      obtain ⟨f1, f2, f3⟩ := fst i h0
      have ea := hA i h0
      rw [Nat.zero_add] at ea
      refine br_f (nI_ge (by omega) (by omega)) ⟨vp_in_nI (by omega) (by decide), ?_⟩
      rw [nI_clamp (n := i) (by omega), ea, rs_n31']
      refine ⟨vp_in_nI (by omega) (by decide), ?_⟩
      rw [nI_clamp (n := 31 * nu.getD i 0) (by omega), f2]
      refine br_t (by rw [hq]) ?_
      have e1 : 100 + nI i = nI (100 + i) := nI_add 100 i
      rw [e1]; exact h
    | succ d ih =>
      intro i hi
      obtain ⟨f1, f2, f3⟩ := fst i (by omega)
      have ea := hA i (by omega)
      rw [Nat.zero_add] at ea
      refine br_f (nI_ge (by omega) (by omega)) ⟨vp_in_nI (by omega) (by decide), ?_⟩
      rw [nI_clamp (n := i) (by omega), ea, rs_n31']
      refine ⟨vp_in_nI (by omega) (by decide), ?_⟩
      rw [nI_clamp (n := 31 * nu.getD i 0) (by omega), f2]
      exact br_f (fun z => hmin i (by omega) ((nI_eq (by omega) (by omega)).mp z)) (nm_r (nI_1 i) (ih (i + 1) (by omega)))
  exact ⟨n0 + 1, key n0 0 (by omega)⟩
theorem vc_constraints (h : rs_REL f_kindSymbol f_kindSlot f_kindPair f_goalEq f_goalNeq f_goalBoth f_goalEither f_goalCall f_goOn f_outAnswer f_outFailure f_outCut f_outPending f_firstVariable f_maxLevel f_maxCalls f_maxSize f_termCount f_goalCount f_searching f_queryGoal f_queryWidth f_levelNow f_pendingCount f_nextCount f_answerCount f_failureCount f_cutCount f_trailTop f_callsDone f_choicesLeft f_neqCount f_workTop f_walkTop f_loaded f_numberedCount f_endUnknownCount f_constraintsReady f_relevantMask f_keptCount a_termKind a_termLeft a_termRight a_termSize a_goalKind a_goalFirst a_goalSecond a_goalThird a_goalFourth a_goalSize a_relationGoal a_pendingPath a_nextPath a_answerPath a_link a_trail a_neqLeft a_neqRight a_workGoal a_workFrame a_stackA a_stackB a_walk a_numberOf a_numbered a_endUnknown a_implied a_kept a_sightings a_lastSeen g_maxLevel g_maxCalls g_maxSize g_terms g_goals g_searching g_query g_read g_level g_frames g_neqs g_numbered g_kept b_termToken b_termLen b_kind b_goalSize b_part b_relation b_outcome b_val b_len b_neqT b_neqU b_neqF b_stackGoal b_stackFrame b_buf b_bufLen b_tmp b_base b_baseLen b_num b_relevant b_implies b_keptAt) (v1 : Int32) : wpX_constraints (fun r u' => wpY_constraints (fun r' v' => r' = r ∧ i_Rel k u' v') (g_maxLevel, g_maxCalls, g_maxSize, g_terms, g_goals, g_searching, g_query, g_read, g_level, g_frames, g_neqs, g_numbered, g_kept, b_termToken, b_termLen, b_kind, b_goalSize, b_part, b_relation, b_outcome, b_val, b_len, b_neqT, b_neqU, b_neqF, b_stackGoal, b_stackFrame, b_buf, b_bufLen, b_tmp, b_base, b_baseLen, b_num, b_relevant, b_implies, b_keptAt) v1) (f_kindSymbol, f_kindSlot, f_kindPair, f_goalEq, f_goalNeq, f_goalBoth, f_goalEither, f_goalCall, f_goOn, f_outAnswer, f_outFailure, f_outCut, f_outPending, f_firstVariable, f_maxLevel, f_maxCalls, f_maxSize, f_termCount, f_goalCount, f_searching, f_queryGoal, f_queryWidth, f_levelNow, f_pendingCount, f_nextCount, f_answerCount, f_failureCount, f_cutCount, f_trailTop, f_callsDone, f_choicesLeft, f_neqCount, f_workTop, f_walkTop, f_loaded, f_numberedCount, f_endUnknownCount, f_constraintsReady, f_relevantMask, f_keptCount, a_termKind, a_termLeft, a_termRight, a_termSize, a_goalKind, a_goalFirst, a_goalSecond, a_goalThird, a_goalFourth, a_goalSize, a_relationGoal, a_pendingPath, a_nextPath, a_answerPath, a_link, a_trail, a_neqLeft, a_neqRight, a_workGoal, a_workFrame, a_stackA, a_stackB, a_walk, a_numberOf, a_numbered, a_endUnknown, a_implied, a_kept, a_sightings, a_lastSeen) v1 := by
  have hR := h
  obtain ⟨T, G, gc, ml, hW, hX, hY, hS⟩ := h
  obtain rfl := hX.2.1
  obtain rfl := hX.2.2.1
  obtain rfl := hY.2.1
  obtain rfl := hY.2.2.1
  have hgc := hW.2.2.2.1
  have htc := hW.2.2.1
  have hms := hW.2.2.2.2.2.2.2.2.2.2
  have hms3 := hW.2.2.2.2.2.2.2.2.2.1
  obtain ⟨rfl, hS⟩ := hS
  unfold wpX_constraints
  rcases hS with rfl | ⟨rfl, q, wd, lv, oc, hSS, hLO⟩
  · refine br_t rfl (br_f (by decide) ?_)
    show wpY_constraints _ _ _
    unfold wpY_constraints
    exact yw_load_n (br_f (by decide) ⟨rfl, hR⟩)
  · have hSS' := hSS
    obtain ⟨hq, w1, w2, hlv, hOC, rfl, rfl, rfl, rfl, rfl, rfl, rfl, hpp, hans, rfl, rfl, rfl, hO⟩ := hSS
    have hl := rs_sel_len oc 1
    rcases rs_dec v1 (n := (rs_sel oc 1).length) (by omega) with hv | ⟨j, hj, rfl⟩
    · refine xw_check_0 hv (br_f (by decide) ?_)
      show wpY_constraints _ _ _
      unfold wpY_constraints
      exact yw_load_0 hOC hO hv (br_f (by decide) ⟨rfl, hR⟩)
    · refine xw_check_1 hj hl (br_t rfl ?_)
      have p2 := (rs_sel_path hOC hj).2.1
      have p0 : 0 ≤ nI ((rs_sel oc 1).getD j 0) := nI_pos' (by omega)
      refine xw_load hX.2.2.2.2.2.1 hX.2.2.2.2.2.2.2.1 hW.2.2.2.2.2 htc hgc rfl rfl hq w2 hOC hans hj hLO ?_
      intro f_trailTop f_callsDone f_choicesLeft f_neqCount f_workTop f_walkTop f_numberedCount f_endUnknownCount f_constraintsReady a_link a_trail a_neqLeft a_neqRight a_workGoal a_workFrame a_stackA a_stackB a_walk a_numberOf a_numbered a_endUnknown hLS hKP
      have hnf := rs_path_nf T.2.2.2.1 hW.2.2.2.2.2 hq ((rs_sel oc 1).getD j 0)
      have hLS' := hLS
      obtain ⟨tt, s, rfl, rfl, rfl, hXL, hn, hNQ, hs, hNU, rfl, heu⟩ := hLS
      have hMg := rs_LS_Mg hX.2.2.2.2.2.1.1 hXL hs
      generalize eP : rs_path T.2.2.2.1 G q ((rs_sel oc 1).getD j 0) = P at *
      have hlt : ∀ b, b ∈ rs_num s wd → b < 66 := fun b hb => Nat.lt_of_lt_of_le (rs_num_lt hMg (by omega) hb) (by omega)
      have hnl := rs_nd_len (n := 66) (rs_num_nd s wd) hlt
      refine xw_prepare hX.2.2.2.2.2.1 hms (by omega) hXL hs hNQ hn hNU hnl heu (fun _ _ => rfl) hKP ?_
      intro f_constraintsReady f_relevantMask f_keptCount a_kept f_walkTop a_link' a_trail a_stackA a_stackB a_walk a_sightings a_lastSeen a_implied hl' hready hkc hkA
      show wpY_constraints _ _ _
      unfold wpY_constraints
      refine yw_load_1 hY.2.2.2.2.2.1 hY.2.2.2.2.2.2.1 hW.2.2.2.2.2 htc hgc rfl rfl hq w2 hOC hO hj ?_
      rw [eP]
      intro σ g_frames g_neqs b_val b_len b_neqT b_neqU b_neqF b_stackGoal b_stackFrame b_buf b_bufLen b_tmp g_numbered b_num hYL
      obtain ⟨rfl, rfl, rfl, hYY, hV, hn', hNY, hnum⟩ := hYL
      refine br_t p0 ?_
      refine yw_findKept hY.2.2.2.2.2.1 htc (by omega) hms hYY hV hNY hn' (by omega) hnum ?_
      intro b_val b_len b_buf b_bufLen b_tmp b_relevant b_implies b_keptAt b_base b_baseLen hB hK
      refine ⟨hkc.symm, ⟨T, G, gc, ml, hW, hX, hY, rfl, Or.inr ⟨rfl, q, wd, lv, oc, hSS', Or.inr ⟨j, hj, rfl, ?_, ?_⟩⟩⟩⟩
      · rw [eP]; exact rs_LS_congr hl' hLS'
      · rw [eP]; exact Or.inr ⟨hready, hkc, hkA⟩
end
end
section
/-! a constraint's node -/
theorem rs_getD_of {l : List Nat} {i y : Nat} (h : l[i]? = some y) : l.getD i 0 = y := by
  rw [List.getD_eq_getElem?_getD, h]
  rfl
section
variable {f_kindSymbol f_kindSlot f_kindPair f_goalEq f_goalNeq f_goalBoth f_goalEither f_goalCall f_goOn f_outAnswer f_outFailure f_outCut f_outPending f_firstVariable f_maxLevel f_maxCalls f_maxSize f_termCount f_goalCount f_searching f_queryGoal f_queryWidth f_levelNow f_pendingCount f_nextCount f_answerCount f_failureCount f_cutCount f_trailTop f_callsDone f_choicesLeft f_neqCount f_workTop f_walkTop f_loaded f_numberedCount f_endUnknownCount f_constraintsReady f_relevantMask f_keptCount : Int32} {a_termKind a_termLeft a_termRight a_termSize a_goalKind a_goalFirst a_goalSecond a_goalThird a_goalFourth a_goalSize a_relationGoal a_pendingPath a_nextPath a_answerPath a_link a_trail a_neqLeft a_neqRight a_workGoal a_workFrame a_stackA a_stackB a_walk a_numberOf a_numbered a_endUnknown a_implied a_kept a_sightings a_lastSeen : Nat → Int32}
variable {g_maxLevel g_maxCalls g_maxSize g_terms g_goals g_searching g_query g_read g_level g_frames g_neqs g_numbered g_kept : Int32} {b_termToken b_termLen b_kind b_goalSize b_part b_relation b_outcome b_val b_len b_neqT b_neqU b_neqF b_stackGoal b_stackFrame b_buf b_bufLen b_tmp b_base b_baseLen b_num b_relevant b_implies b_keptAt : Nat → Int32}
variable {k : Nat}
theorem vc_constraintNode (h : rs_REL f_kindSymbol f_kindSlot f_kindPair f_goalEq f_goalNeq f_goalBoth f_goalEither f_goalCall f_goOn f_outAnswer f_outFailure f_outCut f_outPending f_firstVariable f_maxLevel f_maxCalls f_maxSize f_termCount f_goalCount f_searching f_queryGoal f_queryWidth f_levelNow f_pendingCount f_nextCount f_answerCount f_failureCount f_cutCount f_trailTop f_callsDone f_choicesLeft f_neqCount f_workTop f_walkTop f_loaded f_numberedCount f_endUnknownCount f_constraintsReady f_relevantMask f_keptCount a_termKind a_termLeft a_termRight a_termSize a_goalKind a_goalFirst a_goalSecond a_goalThird a_goalFourth a_goalSize a_relationGoal a_pendingPath a_nextPath a_answerPath a_link a_trail a_neqLeft a_neqRight a_workGoal a_workFrame a_stackA a_stackB a_walk a_numberOf a_numbered a_endUnknown a_implied a_kept a_sightings a_lastSeen g_maxLevel g_maxCalls g_maxSize g_terms g_goals g_searching g_query g_read g_level g_frames g_neqs g_numbered g_kept b_termToken b_termLen b_kind b_goalSize b_part b_relation b_outcome b_val b_len b_neqT b_neqU b_neqF b_stackGoal b_stackFrame b_buf b_bufLen b_tmp b_base b_baseLen b_num b_relevant b_implies b_keptAt) (v1 v2 v3 v4 : Int32) : wpX_constraintNode (fun r u' => wpY_constraintNode (fun r' v' => r' = r ∧ i_Rel k u' v') (g_maxLevel, g_maxCalls, g_maxSize, g_terms, g_goals, g_searching, g_query, g_read, g_level, g_frames, g_neqs, g_numbered, g_kept, b_termToken, b_termLen, b_kind, b_goalSize, b_part, b_relation, b_outcome, b_val, b_len, b_neqT, b_neqU, b_neqF, b_stackGoal, b_stackFrame, b_buf, b_bufLen, b_tmp, b_base, b_baseLen, b_num, b_relevant, b_implies, b_keptAt) v1 v2 v3 v4) (f_kindSymbol, f_kindSlot, f_kindPair, f_goalEq, f_goalNeq, f_goalBoth, f_goalEither, f_goalCall, f_goOn, f_outAnswer, f_outFailure, f_outCut, f_outPending, f_firstVariable, f_maxLevel, f_maxCalls, f_maxSize, f_termCount, f_goalCount, f_searching, f_queryGoal, f_queryWidth, f_levelNow, f_pendingCount, f_nextCount, f_answerCount, f_failureCount, f_cutCount, f_trailTop, f_callsDone, f_choicesLeft, f_neqCount, f_workTop, f_walkTop, f_loaded, f_numberedCount, f_endUnknownCount, f_constraintsReady, f_relevantMask, f_keptCount, a_termKind, a_termLeft, a_termRight, a_termSize, a_goalKind, a_goalFirst, a_goalSecond, a_goalThird, a_goalFourth, a_goalSize, a_relationGoal, a_pendingPath, a_nextPath, a_answerPath, a_link, a_trail, a_neqLeft, a_neqRight, a_workGoal, a_workFrame, a_stackA, a_stackB, a_walk, a_numberOf, a_numbered, a_endUnknown, a_implied, a_kept, a_sightings, a_lastSeen) v1 v2 v3 v4 := by
  have hR := h
  obtain ⟨T, G, gc, ml, hW, hX, hY, hS⟩ := h
  obtain rfl := hX.2.1
  obtain rfl := hX.2.2.1
  obtain rfl := hY.2.1
  obtain rfl := hY.2.2.1
  have hgc := hW.2.2.2.1
  have htc := hW.2.2.1
  have hms := hW.2.2.2.2.2.2.2.2.2.2
  have hms3 := hW.2.2.2.2.2.2.2.2.2.1
  obtain ⟨rfl, hS⟩ := hS
  unfold wpX_constraintNode
  rcases hS with rfl | ⟨rfl, q, wd, lv, oc, hSS, hLO⟩
  · refine br_t rfl (br_f (by decide) ?_)
    show wpY_constraintNode _ _ _ _ _ _
    unfold wpY_constraintNode
    exact yw_load_n (br_f (by decide) ⟨rfl, hR⟩)
  · have hSS' := hSS
    obtain ⟨hq, w1, w2, hlv, hOC, rfl, rfl, rfl, rfl, rfl, rfl, rfl, hpp, hans, rfl, rfl, rfl, hO⟩ := hSS
    have hl := rs_sel_len oc 1
    rcases rs_dec v1 (n := (rs_sel oc 1).length) (by omega) with hv | ⟨j, hj, rfl⟩
    · refine xw_check_0 hv (br_f (by decide) ?_)
      show wpY_constraintNode _ _ _ _ _ _
      unfold wpY_constraintNode
      exact yw_load_0 hOC hO hv (br_f (by decide) ⟨rfl, hR⟩)
    · refine xw_check_1 hj hl (br_t rfl ?_)
      have p2 := (rs_sel_path hOC hj).2.1
      have p0 : 0 ≤ nI ((rs_sel oc 1).getD j 0) := nI_pos' (by omega)
      refine xw_load hX.2.2.2.2.2.1 hX.2.2.2.2.2.2.2.1 hW.2.2.2.2.2 htc hgc rfl rfl hq w2 hOC hans hj hLO ?_
      intro f_trailTop f_callsDone f_choicesLeft f_neqCount f_workTop f_walkTop f_numberedCount f_endUnknownCount f_constraintsReady a_link a_trail a_neqLeft a_neqRight a_workGoal a_workFrame a_stackA a_stackB a_walk a_numberOf a_numbered a_endUnknown hLS hKP
      have hnf := rs_path_nf T.2.2.2.1 hW.2.2.2.2.2 hq ((rs_sel oc 1).getD j 0)
      have hLS' := hLS
      obtain ⟨tt, s, rfl, rfl, rfl, hXL, hn, hNQ, hs, hNU, rfl, heu⟩ := hLS
      have hMg := rs_LS_Mg hX.2.2.2.2.2.1.1 hXL hs
      generalize eP : rs_path T.2.2.2.1 G q ((rs_sel oc 1).getD j 0) = P at *
      have hlt : ∀ b, b ∈ rs_num s wd → b < 66 := fun b hb => Nat.lt_of_lt_of_le (rs_num_lt hMg (by omega) hb) (by omega)
      have hnl := rs_nd_len (n := 66) (rs_num_nd s wd) hlt
      refine xw_prepare hX.2.2.2.2.2.1 hms (by omega) hXL hs hNQ hn hNU hnl heu (fun _ _ => rfl) hKP ?_
      intro f_constraintsReady f_relevantMask f_keptCount a_kept f_walkTop a_link' a_trail a_stackA a_stackB a_walk a_sightings a_lastSeen a_implied hl' hready hkc hkA
      have hLO2 : ∀ l', (∀ n, n < 770 → l' n = a_link n) → rs_LO T G q wd oc (nI tt) (nI (P.2.2.1 - 1)) (nI P.2.2.2.1.length) (nI j) f_numberedCount (nI (rs_eu P.2.2.1 a_link).length) f_constraintsReady f_keptCount l' a_neqLeft a_neqRight a_numberOf a_numbered a_endUnknown a_kept := by
        intro l' hl'
        refine Or.inr ⟨j, hj, rfl, ?_, ?_⟩
        · rw [eP]; exact rs_LS_congr hl' hLS'
        · rw [eP]; exact Or.inr ⟨hready, hkc, hkA⟩
      have hkl := rs_fl_len (P := rs_Kept G.2.2.2.2.2.2.2.2 P.2.2.1 wd P.2.1 P.2.2.2.1) P.2.2.2.1.length 0
      subst hkc
      have hfn : f_numberedCount = nI (rs_num s wd).length := hNU.1
      subst hfn
      have hnumlen : ∀ σ, rs_Y G.2.2.2.2.2.2.2.2 P.2.2.1 P.2.1 σ → (rs_num σ wd).length = (rs_num s wd).length := by
        intro σ hYY
        rw [(rs_num_map hMg.1 (rs_Y_Mg hYY).1 wd wd (Nat.le_refl _)).1, List.length_map]
      by_cases c0 : v2 < 0
      · refine br_t c0 ?_
        show wpY_constraintNode _ _ _ _ _ _
        unfold wpY_constraintNode
        refine yw_load_1 hY.2.2.2.2.2.1 hY.2.2.2.2.2.2.1 hW.2.2.2.2.2 htc hgc rfl rfl hq w2 hOC hO hj ?_
        rw [eP]
        intro σ g_frames g_neqs b_val b_len b_neqT b_neqU b_neqF b_stackGoal b_stackFrame b_buf b_bufLen b_tmp g_numbered b_num hYL
        obtain ⟨rfl, rfl, rfl, hYY, hV, hn', hNY, hnum⟩ := hYL
        refine br_t p0 ?_
        refine yw_findKept hY.2.2.2.2.2.1 htc (by omega) hms hYY hV hNY hn' (by omega) hnum ?_
        intro b_val b_len b_buf b_bufLen b_tmp b_relevant b_implies b_keptAt b_base b_baseLen hB hK
        exact br_t c0 ⟨rfl, ⟨T, G, gc, ml, hW, hX, hY, rfl, Or.inr ⟨rfl, q, wd, lv, oc, hSS', hLO2 _ hl'⟩⟩⟩
      · refine br_f c0 ?_
        obtain ⟨c, hc, rfl⟩ := nI_of c0
        by_cases c1 : c < (rs_fl (rs_Kept G.2.2.2.2.2.2.2.2 P.2.2.1 wd P.2.1 P.2.2.2.1) 0 P.2.2.2.1.length).length
        · refine br_t (nI_lt c1 (by omega)) ?_
          have c1n : ¬ nI (rs_fl (rs_Kept G.2.2.2.2.2.2.2.2 P.2.2.1 wd P.2.1 P.2.2.2.1) 0 P.2.2.2.1.length).length ≤ nI c := nI_ge c1 (by omega)
          by_cases r0 : v3 < 0
          · refine br_t r0 ?_
            show wpY_constraintNode _ _ _ _ _ _
            unfold wpY_constraintNode
            refine yw_load_1 hY.2.2.2.2.2.1 hY.2.2.2.2.2.2.1 hW.2.2.2.2.2 htc hgc rfl rfl hq w2 hOC hO hj ?_
            rw [eP]
            intro σ g_frames g_neqs b_val b_len b_neqT b_neqU b_neqF b_stackGoal b_stackFrame b_buf b_bufLen b_tmp g_numbered b_num hYL
            obtain ⟨rfl, rfl, rfl, hYY, hV, hn', hNY, hnum⟩ := hYL
            refine br_t p0 ?_
            refine yw_findKept hY.2.2.2.2.2.1 htc (by omega) hms hYY hV hNY hn' (by omega) hnum ?_
            intro b_val b_len b_buf b_bufLen b_tmp b_relevant b_implies b_keptAt b_base b_baseLen hB hK
            exact br_f c0 (br_f c1n (br_t r0 ⟨rfl, ⟨T, G, gc, ml, hW, hX, hY, rfl, Or.inr ⟨rfl, q, wd, lv, oc, hSS', hLO2 _ hl'⟩⟩⟩))
          · refine br_f r0 ?_
            obtain ⟨r, hr, rfl⟩ := nI_of r0
            by_cases r1 : r < (rs_num s wd).length
            · refine br_t (nI_lt r1 (by omega)) ?_
              by_cases s2 : 0 ≤ v4
              · refine br_t s2 ⟨vp_in_nI (by omega) (by decide), ?_⟩
                obtain ⟨pos, hpos, rfl⟩ := nI_of (Int32.not_lt.mpr s2)
                have ekc := hkA c c1
                rw [Nat.zero_add] at ekc
                have hmem := rs_getD_mem c1
                generalize edv : (rs_fl (rs_Kept G.2.2.2.2.2.2.2.2 P.2.2.1 wd P.2.1 P.2.2.2.1) 0 P.2.2.2.1.length).getD c 0 = d at *
                obtain ⟨_, hdl, hkept⟩ := rs_fl_mem _ _ hmem
                rw [Nat.zero_add] at hdl
                obtain ⟨dd, hdd, hrel, _⟩ := hkept
                obtain ⟨a, b, oa, ob, la, lb, ea, eb, ed⟩ := hNQ d hdl
                obtain rfl : dd = (rs_ns T a, rs_ns T b) := by
                  rw [hdd] at ed
                  injection ed
                refine nm_r (e' := nI d) (by rw [nI_clamp (by omega)]; exact ekc) ⟨vp_in_nI (by omega) (by decide), vp_in_nI (by omega) (by decide), ?_⟩
                rw [nI_clamp (n := d) (by omega), ea, eb]
                have hXLc := rs_XL_congr hl' hXL
                refine xw_unify hX.2.2.2.2.2.1 hms (by omega) hXLc oa ob ?_ ?_
                · intro a_link2 a_trail a_stackA a_stackB a_walk f_walkTop tt' hSat hXL' hTR
                  obtain ⟨s', t1, t2, t3, t4, t5⟩ := rs_XL_can hX.2.2.2.2.2.1.1 hXL'
                  have hMg' := rs_LS_Mg hX.2.2.2.2.2.1.1 hXL' t1
                  have hU : rs_Unt s s' (6 * P.2.2.1) wd := (rs_Rel_iff hMg t4 hSat).mp hrel
                  have hnr : (rs_num s wd).getD r 0 ∈ rs_num s wd := rs_getD_mem r1
                  have hnr66 := hlt _ hnr
                  have hnr6 := rs_num_lt hMg (by omega) hnr
                  have enr := hNU.2.1 r r1
                  rw [Nat.zero_add] at enr
                  have e7 : 704 + nI ((rs_num s wd).getD r 0) = nI (704 + (rs_num s wd).getD r 0) := nI_add 704 _
                  have hsl : (s' ((rs_num s wd).getD r 0)).length ≤ 31 := by
                    have := t2 _ hnr6
                    omega
                  refine ⟨vp_in_nI (by omega) (by decide), ?_⟩
                  rw [nI_clamp (n := r) (by omega), enr, e7]
                  /- the reference's side, for an answer x -/
                  have hYgo : ∀ (x : Int32), ((s' ((rs_num s wd).getD r 0)).length ≤ pos → x = -5) → (∀ t, (s' ((rs_num s wd).getD r 0))[pos]? = some t → (t < 100 → x = nI t) ∧ (∀ w, t = 100 + w → ∃ n0, n0 < (rs_num s wd).length ∧ x = nI (100 + n0) ∧ s' ((rs_num s wd).getD n0 0) = [100 + w] ∧ ∀ m, m < n0 → s' ((rs_num s wd).getD m 0) ≠ [100 + w])) →
                      ∀ (a_link3 a_trail a_stackA a_stackB a_walk : Nat → Int32) (f_walkTop : Int32), (∀ n, n < 770 → a_link3 n = a_link n) → wpY_constraintNode (fun r' v' => r' = x ∧ i_Rel k (f_kindSymbol, f_kindSlot, f_kindPair, f_goalEq, f_goalNeq, f_goalBoth, f_goalEither, f_goalCall, f_goOn, f_outAnswer, f_outFailure, f_outCut, f_outPending, f_firstVariable, f_maxLevel, nI G.2.2.2.2.2.2.2.1, nI G.2.2.2.2.2.2.2.2, f_termCount, f_goalCount, 1, nI q, nI wd, nI lv, nI (rs_pd oc lv).length, f_nextCount, nI (rs_sel oc 1).length, nI (rs_sel oc 2).length, nI (rs_sel oc 3).length, nI tt, nI (P.2.2.1 - 1), f_choicesLeft, nI P.2.2.2.1.length, f_workTop, f_walkTop, nI j, nI (rs_num s wd).length, nI (rs_eu P.2.2.1 a_link).length, f_constraintsReady, f_relevantMask, nI (rs_fl (rs_Kept G.2.2.2.2.2.2.2.2 P.2.2.1 wd P.2.1 P.2.2.2.1) 0 P.2.2.2.1.length).length, a_termKind, a_termLeft, a_termRight, a_termSize, a_goalKind, a_goalFirst, a_goalSecond, a_goalThird, a_goalFourth, a_goalSize, a_relationGoal, a_pendingPath, a_nextPath, a_answerPath, a_link3, a_trail, a_neqLeft, a_neqRight, a_workGoal, a_workFrame, a_stackA, a_stackB, a_walk, a_numberOf, a_numbered, a_endUnknown, a_implied, a_kept, a_sightings, a_lastSeen) v') (g_maxLevel, nI G.2.2.2.2.2.2.2.1, nI G.2.2.2.2.2.2.2.2, g_terms, g_goals, 1, nI q, nI wd, nI lv, g_frames, g_neqs, g_numbered, g_kept, b_termToken, b_termLen, b_kind, b_goalSize, b_part, b_relation, b_outcome, b_val, b_len, b_neqT, b_neqU, b_neqF, b_stackGoal, b_stackFrame, b_buf, b_bufLen, b_tmp, b_base, b_baseLen, b_num, b_relevant, b_implies, b_keptAt) (nI j) (nI c) (nI r) (nI pos) := by
                    intro x hx0 hx1 a_link3 a_trail a_stackA a_stackB a_walk f_walkTop hl3
                    have hrelX := hLO2 a_link3 hl3
                    unfold wpY_constraintNode
                    refine yw_load_1 hY.2.2.2.2.2.1 hY.2.2.2.2.2.2.1 hW.2.2.2.2.2 htc hgc rfl rfl hq w2 hOC hO hj ?_
                    rw [eP]
                    intro σ g_frames g_neqs b_val b_len b_neqT b_neqU b_neqF b_stackGoal b_stackFrame b_buf b_bufLen b_tmp g_numbered b_num hYL
                    obtain ⟨rfl, rfl, rfl, hYY, hV, hn', hNY, hnum⟩ := hYL
                    refine br_t p0 ?_
                    refine yw_findKept hY.2.2.2.2.2.1 htc (by omega) hms hYY hV hNY hn' (by omega) hnum ?_
                    intro b_val b_len b_buf b_bufLen b_tmp b_relevant b_implies b_keptAt b_base b_baseLen hB hK
                    have hYg := rs_Y_Mg hYY
                    obtain ⟨en, en2⟩ := rs_num_map hMg.1 hYg.1 wd wd (Nat.le_refl _)
                    have hnlen := hnumlen σ hYY
                    have hltY : ∀ b, b ∈ rs_num σ wd → b < 6 * P.2.2.1 := fun b hb => rs_num_lt hYg (by omega) hb
                    have hnlY := rs_nd_len (n := 66) (rs_num_nd σ wd) (fun b hb => Nat.lt_of_lt_of_le (hltY b hb) (by omega))
                    have ekY := hK c c1
                    rw [Nat.zero_add, edv] at ekY
                    refine br_f c0 (br_f c1n (br_f r0 (br_f (nI_ge (by omega) (by omega)) (br_t s2 ⟨vp_in_nI (by omega) (by decide), ?_⟩))))
                    rw [nI_clamp (n := c) (by omega), ekY]
                    refine yw_imagine hY.2.2.2.2.2.1 htc (by omega) hms hYY hB hNY hn' hdd ?_ ?_
                    · intro σ' b_val b_len b_buf b_bufLen b_tmp _ hY' hV'
                      have hYg' := rs_Y_Mg hY'
                      have ernum : ∀ i, i < (rs_num σ wd).length → (rs_num s wd).getD i 0 = rs_rv s ((rs_num σ wd).getD i 0) := by
                        intro i hi
                        rw [en, List.getD_eq_getElem?_getD, List.getElem?_map, List.getElem?_eq_getElem hi, List.getD_eq_getElem?_getD, List.getElem?_eq_getElem hi]
                        rfl
                      have esv : ∀ i, i < (rs_num σ wd).length → s' ((rs_num s wd).getD i 0) = (σ' ((rs_num σ wd).getD i 0)).map (rs_rn s') := by
                        intro i hi
                        obtain ⟨v, _, hv⟩ := en2 _ (rs_getD_mem hi)
                        rw [ernum i hi, ← rs_sub_val hMg.1 t4 (fun θ _ z => z.1) (rs_rv_val hMg.1 hYg.1 hv)]
                        exact rs_MG_map t4 hYg'.1 _
                      have hrY : r < (rs_num σ wd).length := by omega
                      have hnrY := hltY _ (rs_getD_mem hrY)
                      obtain ⟨a1, a2, a3⟩ := hV' _ hnrY
                      have enY := hnum r hrY
                      rw [Nat.zero_add] at enY
                      have eS := esv r hrY
                      have hlenS : (s' ((rs_num s wd).getD r 0)).length = (σ' ((rs_num σ wd).getD r 0)).length := by rw [eS, List.length_map]
                      refine ⟨vp_in_nI (by omega) (by decide), ?_⟩
                      rw [nI_clamp (n := r) (by omega), enY]
                      refine ⟨vp_in_nI (by omega) (by decide), ?_⟩
                      rw [nI_clamp (n := (rs_num σ wd).getD r 0) (by omega), a1]
                      by_cases hpl : pos < (σ' ((rs_num σ wd).getD r 0)).length
                      · refine br_t (nI_lt hpl (by omega)) ⟨vp_in_nI (by omega) (by decide), ?_⟩
                        rw [rs_n31]
                        obtain ⟨y, hy⟩ : ∃ y, (σ' ((rs_num σ wd).getD r 0))[pos]? = some y := ⟨_, List.getElem?_eq_getElem hpl⟩
                        have hymem : y ∈ σ' ((rs_num σ wd).getD r 0) := List.mem_iff_getElem?.mpr ⟨pos, hy⟩
                        have ey : b_val (31 * (rs_num σ wd).getD r 0 + pos) = nI y := (a2 pos hpl).trans (congrArg nI (rs_getD_of hy))
                        have hts : (s' ((rs_num s wd).getD r 0))[pos]? = some (rs_rn s' y) := by
                          rw [eS, List.getElem?_map, hy]; rfl
                        obtain ⟨x1, x2⟩ := hx1 _ hts
                        refine ⟨vp_in_nI (by omega) (by decide), nm_r (e' := nI y) (by rw [nI_clamp (by omega)]; exact ey) ?_⟩
                        rcases hY'.2.2.2.1 _ y hnrY hymem with z | ⟨w, z1, z2, _⟩
                        · rw [rs_rn_lo (by omega)] at x1
                          exact br_f (nI_ge (b := 100) (by omega) (by decide)) ⟨(x1 (by omega)).symm, ⟨T, G, gc, ml, hW, hX, hY, rfl, Or.inr ⟨rfl, q, wd, lv, oc, hSS', hrelX⟩⟩⟩
                        · subst z2
                          obtain ⟨n0, m1, m2, m3, m4⟩ := x2 _ (rs_rv_tok t4 hYg'.1 hymem)
                          subst m2
                          refine br_t (nI_le (a := 100) (by omega) (by omega)) ?_
                          have iff1 : ∀ i, i < (rs_num σ wd).length → (s' ((rs_num s wd).getD i 0) = [100 + rs_rv s' w] ↔ (σ' ((rs_num σ wd).getD i 0)).getD 0 0 = 100 + w) := by
                            intro i hi
                            have hW1 := hY'.1 ((rs_num σ wd).getD i 0)
                            rw [esv i hi, ← rs_rv_tok t4 hYg'.1 hymem]
                            cases e : σ' ((rs_num σ wd).getD i 0) with
                            | nil => rw [e] at hW1; exact absurd (show (1 : Nat) = 0 from hW1) (by omega)
                            | cons t l =>
                              rw [e] at hW1
                              have tm : t ∈ σ' ((rs_num σ wd).getD i 0) := by rw [e]; exact List.mem_cons_self ..
                              constructor
                              · intro z
                                rw [List.map_cons] at z
                                injection z with z _
                                exact rs_MG_inj t4 hYg'.1 tm hymem z
                              · intro z
                                have z : t = 100 + w := z
                                have hl0 : l = [] := rs_W_nz (by omega) hW1
                                rw [hl0, z]; rfl
                          refine yw_least_112 (by omega) hY' hV' (by omega) hltY hnlY hnum (n0 := n0) (by omega) ((iff1 n0 (by omega)).mp m3) (fun m hm z => m4 m hm ((iff1 m (by omega)).mpr z)) ?_
                          exact ⟨rfl, ⟨T, G, gc, ml, hW, hX, hY, rfl, Or.inr ⟨rfl, q, wd, lv, oc, hSS', hrelX⟩⟩⟩
                      · exact br_f (nI_nlt (by omega) (by omega)) ⟨(hx0 (by omega)).symm, ⟨T, G, gc, ml, hW, hX, hY, rfl, Or.inr ⟨rfl, q, wd, lv, oc, hSS', hrelX⟩⟩⟩
                    · intro hSat'
                      exact absurd hSat hSat'
                  refine xw_nodeAt hX.2.2.2.2.2.1 hXL'.2.1 hXL'.2.2.1 hpos hnr66 (t1 _) hsl ?_ ?_
                  · intro r0' f_walkTop a_walk hr0 hx htok
                    by_cases h7 : r0' < 704
                    · refine br_t (nI_lt (b := 704) h7 (by decide)) (br_f (nI_pos (by omega)) ?_)
                      refine xw_termToken hX.2.2.2.2.2.1 h7 ?_
                      refine xw_undoTo hTR (fun a_link3 hl3 => ?_)
                      refine hYgo _ ?_ ?_ a_link3 _ _ _ _ _ (fun n hn => (hl3 n hn).trans (hl' n hn))
                      · intro z
                        rw [List.getElem?_eq_none z] at htok
                        exact absurd htok (by simp)
                      · intro t ht
                        rw [htok] at ht
                        injection ht with ht
                        have := rs_tkn_lo hX.2.2.2.2.2.1.1 h7 hx
                        exact ⟨fun _ => by rw [ht], fun w hw => by omega⟩
                    · obtain ⟨w, rfl⟩ : ∃ w, r0' = 704 + w := ⟨r0' - 704, by omega⟩
                      rw [rs_tkn_hi (by omega), Nat.add_sub_cancel_left] at htok
                      have hwm : 100 + w ∈ s' ((rs_num s wd).getD r 0) := List.mem_iff_getElem?.mpr ⟨pos, htok⟩
                      obtain ⟨u, u1, u2⟩ := rs_least_ex hMg hMg' (fun θ _ z => z.1) hU (by omega) hnr hwm
                      obtain ⟨n0, ⟨n1, n2⟩, n3⟩ := pk_least (fun n => n < (rs_num s wd).length ∧ s' ((rs_num s wd).getD n 0) = [100 + w]) ⟨rs_ix u (rs_num s wd), rs_ix_mem.mp u1, by rw [rs_ix_get u1]; exact u2⟩
                      have hrt : ∀ i, i < (rs_num s wd).length → (rs_rt T (rs_lk a_link2) (704 + (rs_num s wd).getD i 0) = 704 + w ↔ s' ((rs_num s wd).getD i 0) = [100 + w]) := by
                        intro i hi
                        have hi66 := hlt _ (rs_getD_mem hi)
                        constructor
                        · intro z
                          exact rs_WK_var (t1 _) z
                        · intro z
                          have hroot := rs_rt_root hX.2.2.2.2.2.1.1 hXL'.2.2.1 (n := 704 + (rs_num s wd).getD i 0) (by omega)
                          by_cases h8 : rs_rt T (rs_lk a_link2) (704 + (rs_num s wd).getD i 0) < 704
                          · exact absurd z (rs_WK_term hX.2.2.2.2.2.1.1 (t1 _) h8 hroot w)
                          · have hy := rs_WK_var (t1 ((rs_num s wd).getD i 0)) (y := rs_rt T (rs_lk a_link2) (704 + (rs_num s wd).getD i 0) - 704) (by omega)
                            rw [hy] at z
                            injection z with z _
                            omega
                      refine br_f (nI_nlt (b := 704) (by omega) (by omega)) ?_
                      refine xw_leastNumber hX.2.2.2.2.2.1 hXL'.2.1 hXL'.2.2.1 hr0 hlt hnl hNU.2.1 n1 ((hrt n0 n1).mpr n2) (fun m hm z => n3 m hm ⟨by omega, (hrt m (by omega)).mp z⟩) ?_
                      have e100 : 100 + nI n0 = nI (100 + n0) := nI_add 100 n0
                      refine nm_r e100 ?_
                      refine xw_undoTo hTR (fun a_link3 hl3 => ?_)
                      refine hYgo _ ?_ ?_ a_link3 _ _ _ _ _ (fun n hn => (hl3 n hn).trans (hl' n hn))
                      · intro z
                        rw [List.getElem?_eq_none z] at htok
                        exact absurd htok (by simp)
                      · intro t ht
                        rw [htok] at ht
                        injection ht with ht
                        refine ⟨fun z => by omega, fun w' hw => ⟨n0, n1, rfl, ?_, ?_⟩⟩
                        · rw [n2]; congr 1; omega
                        · intro m hm z
                          refine n3 m hm ⟨by omega, ?_⟩
                          rw [z]; congr 1; omega
                  · intro hbig f_walkTop a_walk
                    refine br_t (by decide) (br_t (by decide) ?_)
                    refine xw_undoTo hTR (fun a_link3 hl3 => ?_)
                    refine hYgo _ (fun _ => rfl) ?_ a_link3 _ _ _ _ _ (fun n hn => (hl3 n hn).trans (hl' n hn))
                    intro t ht
                    rw [List.getElem?_eq_none hbig] at ht
                    exact absurd ht (by simp)
                · intro hSat
                  exact absurd hrel.1 hSat
              · refine br_f s2 ?_
                show wpY_constraintNode _ _ _ _ _ _
                unfold wpY_constraintNode
                refine yw_load_1 hY.2.2.2.2.2.1 hY.2.2.2.2.2.2.1 hW.2.2.2.2.2 htc hgc rfl rfl hq w2 hOC hO hj ?_
                rw [eP]
                intro σ g_frames g_neqs b_val b_len b_neqT b_neqU b_neqF b_stackGoal b_stackFrame b_buf b_bufLen b_tmp g_numbered b_num hYL
                obtain ⟨rfl, rfl, rfl, hYY, hV, hn', hNY, hnum⟩ := hYL
                refine br_t p0 ?_
                refine yw_findKept hY.2.2.2.2.2.1 htc (by omega) hms hYY hV hNY hn' (by omega) hnum ?_
                intro b_val b_len b_buf b_bufLen b_tmp b_relevant b_implies b_keptAt b_base b_baseLen hB hK
                have hnlen := hnumlen σ hYY
                exact br_f c0 (br_f c1n (br_f r0 (br_f (nI_ge (by omega) (by omega)) (br_f s2 ⟨rfl, ⟨T, G, gc, ml, hW, hX, hY, rfl, Or.inr ⟨rfl, q, wd, lv, oc, hSS', hLO2 _ hl'⟩⟩⟩))))
            · refine br_f (nI_nlt (by omega) hr) ?_
              show wpY_constraintNode _ _ _ _ _ _
              unfold wpY_constraintNode
              refine yw_load_1 hY.2.2.2.2.2.1 hY.2.2.2.2.2.2.1 hW.2.2.2.2.2 htc hgc rfl rfl hq w2 hOC hO hj ?_
              rw [eP]
              intro σ g_frames g_neqs b_val b_len b_neqT b_neqU b_neqF b_stackGoal b_stackFrame b_buf b_bufLen b_tmp g_numbered b_num hYL
              obtain ⟨rfl, rfl, rfl, hYY, hV, hn', hNY, hnum⟩ := hYL
              refine br_t p0 ?_
              refine yw_findKept hY.2.2.2.2.2.1 htc (by omega) hms hYY hV hNY hn' (by omega) hnum ?_
              intro b_val b_len b_buf b_bufLen b_tmp b_relevant b_implies b_keptAt b_base b_baseLen hB hK
              have hnlen := hnumlen σ hYY
              exact br_f c0 (br_f c1n (br_f r0 (br_t (nI_le (by omega) hr) ⟨rfl, ⟨T, G, gc, ml, hW, hX, hY, rfl, Or.inr ⟨rfl, q, wd, lv, oc, hSS', hLO2 _ hl'⟩⟩⟩)))
        · refine br_f (nI_nlt (by omega) hc) ?_
          show wpY_constraintNode _ _ _ _ _ _
          unfold wpY_constraintNode
          refine yw_load_1 hY.2.2.2.2.2.1 hY.2.2.2.2.2.2.1 hW.2.2.2.2.2 htc hgc rfl rfl hq w2 hOC hO hj ?_
          rw [eP]
          intro σ g_frames g_neqs b_val b_len b_neqT b_neqU b_neqF b_stackGoal b_stackFrame b_buf b_bufLen b_tmp g_numbered b_num hYL
          obtain ⟨rfl, rfl, rfl, hYY, hV, hn', hNY, hnum⟩ := hYL
          refine br_t p0 ?_
          refine yw_findKept hY.2.2.2.2.2.1 htc (by omega) hms hYY hV hNY hn' (by omega) hnum ?_
          intro b_val b_len b_buf b_bufLen b_tmp b_relevant b_implies b_keptAt b_base b_baseLen hB hK
          exact br_f c0 (br_t (nI_le (by omega) hc) ⟨rfl, ⟨T, G, gc, ml, hW, hX, hY, rfl, Or.inr ⟨rfl, q, wd, lv, oc, hSS', hLO2 _ hl'⟩⟩⟩)
end
end
section
/-! the constructors, and what is owed -/
section
variable {g_maxLevel g_maxCalls g_maxSize g_terms g_goals g_searching g_query g_read g_level g_frames g_neqs g_numbered g_kept : Int32} {b_termToken b_termLen b_kind b_goalSize b_part b_relation b_outcome b_val b_len b_neqT b_neqU b_neqF b_stackGoal b_stackFrame b_buf b_bufLen b_tmp b_base b_baseLen b_num b_relevant b_implies b_keptAt : Nat → Int32}
theorem rs_clamp {lo hi : Nat} (v : Int32) (h : lo ≤ hi) (hh : hi < 2 ^ 31) : ∃ n, lo ≤ n ∧ n ≤ hi ∧ (∀ post : Int32 → Prop, ∀ u : SX, post (nI n) → wpX_clamp post u v (nI lo) (nI hi)) ∧ ((nI lo ≤ v → v ≤ nI hi → v = nI n) ∧ (nI lo ≤ v → ¬ v ≤ nI hi → n = hi) ∧ (¬ nI lo ≤ v → n = lo)) := by
  by_cases h1 : nI lo ≤ v
  · by_cases h2 : v ≤ nI hi
    · have h0 : ¬ v < 0 := by
        intro z
        have := Int32.lt_of_le_of_lt h1 z
        exact nI_pos (by omega) this
      obtain ⟨n, hn, rfl⟩ := nI_of h0
      have a1 := (nI_leI (by omega) hn).mp h1
      have a2 := (nI_leI hn hh).mp h2
      exact ⟨n, a1, a2, fun post u hp => br_t h1 (br_t h2 hp), fun _ _ => rfl, fun _ z => absurd h2 z, fun z => absurd h1 z⟩
    · exact ⟨hi, h, Nat.le_refl _, fun post u hp => br_t h1 (br_f h2 hp), fun _ z => absurd z h2, fun _ _ => rfl, fun z => absurd h1 z⟩
  · exact ⟨lo, Nat.le_refl _, h, fun post u hp => br_f h1 hp, fun z => absurd z h1, fun z => absurd z h1, fun _ => rfl⟩
end
section
variable {f_kindSymbol f_kindSlot f_kindPair f_goalEq f_goalNeq f_goalBoth f_goalEither f_goalCall f_goOn f_outAnswer f_outFailure f_outCut f_outPending f_firstVariable f_maxLevel f_maxCalls f_maxSize f_termCount f_goalCount f_searching f_queryGoal f_queryWidth f_levelNow f_pendingCount f_nextCount f_answerCount f_failureCount f_cutCount f_trailTop f_callsDone f_choicesLeft f_neqCount f_workTop f_walkTop f_loaded f_numberedCount f_endUnknownCount f_constraintsReady f_relevantMask f_keptCount : Int32} {a_termKind a_termLeft a_termRight a_termSize a_goalKind a_goalFirst a_goalSecond a_goalThird a_goalFourth a_goalSize a_relationGoal a_pendingPath a_nextPath a_answerPath a_link a_trail a_neqLeft a_neqRight a_workGoal a_workFrame a_stackA a_stackB a_walk a_numberOf a_numbered a_endUnknown a_implied a_kept a_sightings a_lastSeen : Nat → Int32}
variable {g_maxLevel g_maxCalls g_maxSize g_terms g_goals g_searching g_query g_read g_level g_frames g_neqs g_numbered g_kept : Int32} {b_termToken b_termLen b_kind b_goalSize b_part b_relation b_outcome b_val b_len b_neqT b_neqU b_neqF b_stackGoal b_stackFrame b_buf b_bufLen b_tmp b_base b_baseLen b_num b_relevant b_implies b_keptAt : Nat → Int32}
theorem xw_init_364 {post : SX → Prop} (h : ∀ a_relationGoal, (∀ r, r < 8 → a_relationGoal r = -1) → post (f_kindSymbol, f_kindSlot, f_kindPair, f_goalEq, f_goalNeq, f_goalBoth, f_goalEither, f_goalCall, f_goOn, f_outAnswer, f_outFailure, f_outCut, f_outPending, f_firstVariable, f_maxLevel, f_maxCalls, f_maxSize, f_termCount, f_goalCount, f_searching, f_queryGoal, f_queryWidth, f_levelNow, f_pendingCount, f_nextCount, f_answerCount, f_failureCount, f_cutCount, f_trailTop, f_callsDone, f_choicesLeft, f_neqCount, f_workTop, f_walkTop, -1, f_numberedCount, f_endUnknownCount, f_constraintsReady, f_relevantMask, f_keptCount, a_termKind, a_termLeft, a_termRight, a_termSize, a_goalKind, a_goalFirst, a_goalSecond, a_goalThird, a_goalFourth, a_goalSize, a_relationGoal, a_pendingPath, a_nextPath, a_answerPath, a_link, a_trail, a_neqLeft, a_neqRight, a_workGoal, a_workFrame, a_stackA, a_stackB, a_walk, a_numberOf, a_numbered, a_endUnknown, a_implied, a_kept, a_sightings, a_lastSeen)) : ∀ (d i : Nat) (a_relationGoal : Nat → Int32), i + d = 8 → (∀ r, r < i → a_relationGoal r = -1) → wX_init_364 post f_kindSymbol f_kindSlot f_kindPair f_goalEq f_goalNeq f_goalBoth f_goalEither f_goalCall f_goOn f_outAnswer f_outFailure f_outCut f_outPending f_firstVariable f_maxLevel f_maxCalls f_maxSize f_termCount f_goalCount f_searching f_queryGoal f_queryWidth f_levelNow f_pendingCount f_nextCount f_answerCount f_failureCount f_cutCount f_trailTop f_callsDone f_choicesLeft f_neqCount f_workTop f_walkTop f_loaded f_numberedCount f_endUnknownCount f_constraintsReady f_relevantMask f_keptCount (d + 1) (nI i) a_termKind a_termLeft a_termRight a_termSize a_goalKind a_goalFirst a_goalSecond a_goalThird a_goalFourth a_goalSize a_relationGoal a_pendingPath a_nextPath a_answerPath a_link a_trail a_neqLeft a_neqRight a_workGoal a_workFrame a_stackA a_stackB a_walk a_numberOf a_numbered a_endUnknown a_implied a_kept a_sightings a_lastSeen := by
  intro d
  induction d with
  | zero =>
    intro i a_relationGoal hi hr
    obtain rfl : i = 8 := by omega
    exact br_t (by decide) (h _ hr)
  | succ d ih =>
    intro i a_relationGoal hi hr
    refine br_f (nI_ge (b := 8) (by omega) (by decide)) ⟨vp_in_nI (by omega) (by decide), nm_r (e' := upd a_relationGoal i (-1)) (by rw [nI_clamp (by omega)]) (nm_r (nI_1 i) (ih (i + 1) _ (by omega) (fun r hr' => ?_)))⟩
    by_cases e : r = i
    · exact if_pos e
    · exact (if_neg e).trans (hr r (by omega))
theorem yw_init_274 {post : SY → Prop} (h : ∀ b_relation, (∀ r, r < 8 → b_relation r = -1) → post (g_maxLevel, g_maxCalls, g_maxSize, g_terms, g_goals, g_searching, g_query, g_read, g_level, g_frames, g_neqs, g_numbered, g_kept, b_termToken, b_termLen, b_kind, b_goalSize, b_part, b_relation, b_outcome, b_val, b_len, b_neqT, b_neqU, b_neqF, b_stackGoal, b_stackFrame, b_buf, b_bufLen, b_tmp, b_base, b_baseLen, b_num, b_relevant, b_implies, b_keptAt)) : ∀ (d i : Nat) (b_relation : Nat → Int32), i + d = 8 → (∀ r, r < i → b_relation r = -1) → wY_init_274 post g_maxLevel g_maxCalls g_maxSize g_terms g_goals g_searching g_query g_read g_level g_frames g_neqs g_numbered g_kept (d + 1) (nI i) b_termToken b_termLen b_kind b_goalSize b_part b_relation b_outcome b_val b_len b_neqT b_neqU b_neqF b_stackGoal b_stackFrame b_buf b_bufLen b_tmp b_base b_baseLen b_num b_relevant b_implies b_keptAt := by
  intro d
  induction d with
  | zero =>
    intro i b_relation hi hr
    obtain rfl : i = 8 := by omega
    exact br_t (by decide) (h _ hr)
  | succ d ih =>
    intro i b_relation hi hr
    refine br_f (nI_ge (b := 8) (by omega) (by decide)) ⟨vp_in_nI (by omega) (by decide), nm_r (e' := upd b_relation i (-1)) (by rw [nI_clamp (by omega)]) (nm_r (nI_1 i) (ih (i + 1) _ (by omega) (fun r hr' => ?_)))⟩
    by_cases e : r = i
    · exact if_pos e
    · exact (if_neg e).trans (hr r (by omega))
end
theorem yw_init {post : SY → Prop} {ml mc ms : Nat} (k0 k1 k2 : Int32)
    (a0 : (1 ≤ k0 → k0 ≤ 7 → k0 = nI ml) ∧ (1 ≤ k0 → ¬ k0 ≤ 7 → ml = 7) ∧ (¬ 1 ≤ k0 → ml = 1)) (a1 : (1 ≤ k1 → k1 ≤ 10 → k1 = nI mc) ∧ (1 ≤ k1 → ¬ k1 ≤ 10 → mc = 10) ∧ (¬ 1 ≤ k1 → mc = 1)) (a2 : (3 ≤ k2 → k2 ≤ 31 → k2 = nI ms) ∧ (3 ≤ k2 → ¬ k2 ≤ 31 → ms = 31) ∧ (¬ 3 ≤ k2 → ms = 3))
    (h : ∀ b_relation : Nat → Int32, (∀ r, r < 8 → b_relation r = -1) → post (nI ml, nI mc, nI ms, 0, 0, 0, 0, 0, 0, 0, 0, 0, 0, (fun _ => 0), (fun _ => 0), (fun _ => 0), (fun _ => 0), (fun _ => 0), b_relation, (fun _ => 0), (fun _ => 0), (fun _ => 0), (fun _ => 0), (fun _ => 0), (fun _ => 0), (fun _ => 0), (fun _ => 0), (fun _ => 0), (fun _ => 0), (fun _ => 0), (fun _ => 0), (fun _ => 0), (fun _ => 0), (fun _ => 0), (fun _ => 0), (fun _ => 0))) : wpY_init post k0 k1 k2 := by
  have s3 : ∀ x : Int32, ∀ y : Int32, x = nI ml → y = nI mc → wY_init_243 post k2 y x 0 0 0 0 0 0 0 0 0 0 0 0 (fun _ => 0) (fun _ => 0) (fun _ => 0) (fun _ => 0) (fun _ => 0) (fun _ => 0) (fun _ => 0) (fun _ => 0) (fun _ => 0) (fun _ => 0) (fun _ => 0) (fun _ => 0) (fun _ => 0) (fun _ => 0) (fun _ => 0) (fun _ => 0) (fun _ => 0) (fun _ => 0) (fun _ => 0) (fun _ => 0) (fun _ => 0) (fun _ => 0) (fun _ => 0) := by
    intro x y hx hy
    subst hx hy
    have fin : ∃ n, wY_init_274 post (nI ml) (nI mc) (nI ms) 0 0 0 0 0 0 0 0 0 0 n 0 (fun _ => 0) (fun _ => 0) (fun _ => 0) (fun _ => 0) (fun _ => 0) (fun _ => 0) (fun _ => 0) (fun _ => 0) (fun _ => 0) (fun _ => 0) (fun _ => 0) (fun _ => 0) (fun _ => 0) (fun _ => 0) (fun _ => 0) (fun _ => 0) (fun _ => 0) (fun _ => 0) (fun _ => 0) (fun _ => 0) (fun _ => 0) (fun _ => 0) (fun _ => 0) := ⟨9, yw_init_274 h 8 0 _ (by omega) (fun r hr => absurd hr (by omega))⟩
    refine br_c (fun h1 => br_c (fun h2 => ?_) (fun h2 => ?_)) (fun h1 => ?_)
    · rw [a2.1 h1 h2]; exact fin
    · have e : ms = 31 := a2.2.1 h1 h2
      rw [e] at fin; exact fin
    · have e : ms = 3 := a2.2.2 h1
      rw [e] at fin; exact fin
  have s2 : ∀ x : Int32, x = nI ml → wY_init_218 post k1 k2 x 0 0 0 0 0 0 0 0 0 0 0 0 0 (fun _ => 0) (fun _ => 0) (fun _ => 0) (fun _ => 0) (fun _ => 0) (fun _ => 0) (fun _ => 0) (fun _ => 0) (fun _ => 0) (fun _ => 0) (fun _ => 0) (fun _ => 0) (fun _ => 0) (fun _ => 0) (fun _ => 0) (fun _ => 0) (fun _ => 0) (fun _ => 0) (fun _ => 0) (fun _ => 0) (fun _ => 0) (fun _ => 0) (fun _ => 0) := by
    intro x hx
    refine br_c (fun h1 => br_c (fun h2 => s3 x k1 hx (a1.1 h1 h2)) (fun h2 => s3 x 10 hx ?_)) (fun h1 => s3 x 1 hx ?_)
    · rw [a1.2.1 h1 h2]; rfl
    · rw [a1.2.2 h1]; rfl
  refine br_c (fun h1 => br_c (fun h2 => s2 k0 (a0.1 h1 h2)) (fun h2 => s2 7 ?_)) (fun h1 => s2 1 ?_)
  · rw [a0.2.1 h1 h2]; rfl
  · rw [a0.2.2 h1]; rfl
theorem i_vc0 (k0 : Int32) (k1 : Int32) (k2 : Int32) : wpX_init (fun u => wpY_init (fun v => i_Rel 3 u v) k0 k1 k2) k0 k1 k2 := by
  obtain ⟨ml, l1, l2, lX, lY⟩ := rs_clamp (lo := 1) (hi := 7) k0 (by omega) (by omega)
  obtain ⟨mc, c1, c2, cX, cY⟩ := rs_clamp (lo := 1) (hi := 10) k1 (by omega) (by omega)
  obtain ⟨ms, m1, m2, mX, mY⟩ := rs_clamp (lo := 3) (hi := 31) k2 (by omega) (by omega)
  unfold wpX_init
  refine lX _ _ ?_
  refine cX _ _ ?_
  refine mX _ _ ⟨9, ?_⟩
  refine xw_init_364 ?_ 8 0 _ (by omega) (fun r hr => absurd hr (by omega))
  intro a_relationGoal hrX
  refine yw_init k0 k1 k2 lY cY mY ?_
  intro b_relation hrY
  refine ⟨(fun _ => 0, fun _ => 0, fun _ => 0, fun _ => [1], 0), (fun _ => 0, fun _ => 0, fun _ => 0, fun _ => 0, fun _ => 0, fun _ => 0, fun _ => none, mc, ms), 0, ml, ?_, ?_, ?_, rfl, Or.inl rfl⟩
  · refine ⟨l1, l2, by show (0 : Nat) ≤ 64; omega, by omega, fun _ _ _ => rfl, ?_⟩
    exact ⟨fun g hg => absurd hg (by omega), fun r b e => absurd e (by simp), c1, c2, m1, m2⟩
  · refine ⟨rfl, rfl, rfl, rfl, rfl, ⟨?_, fun t _ => ⟨rfl, rfl, rfl⟩⟩, fun t ht => absurd ht (by show ¬ t < 0; omega), ⟨fun g hg => absurd hg (by omega), fun r hr => Or.inl ⟨rfl, hrX r hr⟩⟩, fun g hg => absurd hg (by omega)⟩
    intro t ht
    exact ⟨by show ([1] : List Nat).length ≤ 15; simp, Or.inl ⟨rfl, by show (0 : Nat) < 16; omega, rfl⟩⟩
  · exact ⟨rfl, rfl, rfl, rfl, rfl, fun t ht => absurd ht (by show ¬ t < 0; omega), ⟨fun g hg => absurd hg (by omega), fun r hr => Or.inl ⟨rfl, hrY r hr⟩⟩, fun g hg => absurd hg (by omega)⟩
theorem i_vc_symbol {k : Nat} {u : SX} {v : SY} (I : i_Rel k u v) (hk : k + 5 ≤ 2563) (v1 : Int32) : wpX_symbol (fun r u' => wpY_symbol (fun r' v' => r' = r ∧ i_Rel (k + 5) u' v') v v1) u v1 :=
  rs_el (P := fun u v => wpX_symbol (fun r u' => wpY_symbol (fun r' v' => r' = r ∧ i_Rel (k + 5) u' v') v v1) u v1) (fun _ _ _ _ _ _ _ _ _ _ _ _ _ _ _ _ _ _ _ _ _ _ _ _ _ _ _ _ _ _ _ _ _ _ _ _ _ _ _ _ _ _ _ _ _ _ _ _ _ _ _ _ _ _ _ _ _ _ _ _ _ _ _ _ _ _ _ _ _ _ _ _ _ _ _ _ _ _ _ _ _ _ _ _ _ _ _ _ _ _ _ _ _ _ _ _ _ _ _ _ _ _ _ _ _ _ h => vc_symbol h v1) I
theorem i_vc_variable {k : Nat} {u : SX} {v : SY} (I : i_Rel k u v) (hk : k + 5 ≤ 2563) (v1 : Int32) : wpX_variable (fun r u' => wpY_variable (fun r' v' => r' = r ∧ i_Rel (k + 5) u' v') v v1) u v1 :=
  rs_el (P := fun u v => wpX_variable (fun r u' => wpY_variable (fun r' v' => r' = r ∧ i_Rel (k + 5) u' v') v v1) u v1) (fun _ _ _ _ _ _ _ _ _ _ _ _ _ _ _ _ _ _ _ _ _ _ _ _ _ _ _ _ _ _ _ _ _ _ _ _ _ _ _ _ _ _ _ _ _ _ _ _ _ _ _ _ _ _ _ _ _ _ _ _ _ _ _ _ _ _ _ _ _ _ _ _ _ _ _ _ _ _ _ _ _ _ _ _ _ _ _ _ _ _ _ _ _ _ _ _ _ _ _ _ _ _ _ _ _ _ h => vc_variable h v1) I
theorem i_vc_pair {k : Nat} {u : SX} {v : SY} (I : i_Rel k u v) (hk : k + 5 ≤ 2563) (v1 : Int32) (v2 : Int32) : wpX_pair (fun r u' => wpY_pair (fun r' v' => r' = r ∧ i_Rel (k + 5) u' v') v v1 v2) u v1 v2 :=
  rs_el (P := fun u v => wpX_pair (fun r u' => wpY_pair (fun r' v' => r' = r ∧ i_Rel (k + 5) u' v') v v1 v2) u v1 v2) (fun _ _ _ _ _ _ _ _ _ _ _ _ _ _ _ _ _ _ _ _ _ _ _ _ _ _ _ _ _ _ _ _ _ _ _ _ _ _ _ _ _ _ _ _ _ _ _ _ _ _ _ _ _ _ _ _ _ _ _ _ _ _ _ _ _ _ _ _ _ _ _ _ _ _ _ _ _ _ _ _ _ _ _ _ _ _ _ _ _ _ _ _ _ _ _ _ _ _ _ _ _ _ _ _ _ _ h => vc_pair h v1 v2) I
theorem i_vc_eq {k : Nat} {u : SX} {v : SY} (I : i_Rel k u v) (hk : k + 5 ≤ 2563) (v1 : Int32) (v2 : Int32) : wpX_eq (fun r u' => wpY_eq (fun r' v' => r' = r ∧ i_Rel (k + 5) u' v') v v1 v2) u v1 v2 :=
  rs_el (P := fun u v => wpX_eq (fun r u' => wpY_eq (fun r' v' => r' = r ∧ i_Rel (k + 5) u' v') v v1 v2) u v1 v2) (fun _ _ _ _ _ _ _ _ _ _ _ _ _ _ _ _ _ _ _ _ _ _ _ _ _ _ _ _ _ _ _ _ _ _ _ _ _ _ _ _ _ _ _ _ _ _ _ _ _ _ _ _ _ _ _ _ _ _ _ _ _ _ _ _ _ _ _ _ _ _ _ _ _ _ _ _ _ _ _ _ _ _ _ _ _ _ _ _ _ _ _ _ _ _ _ _ _ _ _ _ _ _ _ _ _ _ h => vc_eq h v1 v2) I
theorem i_vc_neq {k : Nat} {u : SX} {v : SY} (I : i_Rel k u v) (hk : k + 5 ≤ 2563) (v1 : Int32) (v2 : Int32) : wpX_neq (fun r u' => wpY_neq (fun r' v' => r' = r ∧ i_Rel (k + 5) u' v') v v1 v2) u v1 v2 :=
  rs_el (P := fun u v => wpX_neq (fun r u' => wpY_neq (fun r' v' => r' = r ∧ i_Rel (k + 5) u' v') v v1 v2) u v1 v2) (fun _ _ _ _ _ _ _ _ _ _ _ _ _ _ _ _ _ _ _ _ _ _ _ _ _ _ _ _ _ _ _ _ _ _ _ _ _ _ _ _ _ _ _ _ _ _ _ _ _ _ _ _ _ _ _ _ _ _ _ _ _ _ _ _ _ _ _ _ _ _ _ _ _ _ _ _ _ _ _ _ _ _ _ _ _ _ _ _ _ _ _ _ _ _ _ _ _ _ _ _ _ _ _ _ _ _ h => vc_neq h v1 v2) I
theorem i_vc_both {k : Nat} {u : SX} {v : SY} (I : i_Rel k u v) (hk : k + 5 ≤ 2563) (v1 : Int32) (v2 : Int32) : wpX_both (fun r u' => wpY_both (fun r' v' => r' = r ∧ i_Rel (k + 5) u' v') v v1 v2) u v1 v2 :=
  rs_el (P := fun u v => wpX_both (fun r u' => wpY_both (fun r' v' => r' = r ∧ i_Rel (k + 5) u' v') v v1 v2) u v1 v2) (fun _ _ _ _ _ _ _ _ _ _ _ _ _ _ _ _ _ _ _ _ _ _ _ _ _ _ _ _ _ _ _ _ _ _ _ _ _ _ _ _ _ _ _ _ _ _ _ _ _ _ _ _ _ _ _ _ _ _ _ _ _ _ _ _ _ _ _ _ _ _ _ _ _ _ _ _ _ _ _ _ _ _ _ _ _ _ _ _ _ _ _ _ _ _ _ _ _ _ _ _ _ _ _ _ _ _ h => vc_both h v1 v2) I
theorem i_vc_either {k : Nat} {u : SX} {v : SY} (I : i_Rel k u v) (hk : k + 5 ≤ 2563) (v1 : Int32) (v2 : Int32) : wpX_either (fun r u' => wpY_either (fun r' v' => r' = r ∧ i_Rel (k + 5) u' v') v v1 v2) u v1 v2 :=
  rs_el (P := fun u v => wpX_either (fun r u' => wpY_either (fun r' v' => r' = r ∧ i_Rel (k + 5) u' v') v v1 v2) u v1 v2) (fun _ _ _ _ _ _ _ _ _ _ _ _ _ _ _ _ _ _ _ _ _ _ _ _ _ _ _ _ _ _ _ _ _ _ _ _ _ _ _ _ _ _ _ _ _ _ _ _ _ _ _ _ _ _ _ _ _ _ _ _ _ _ _ _ _ _ _ _ _ _ _ _ _ _ _ _ _ _ _ _ _ _ _ _ _ _ _ _ _ _ _ _ _ _ _ _ _ _ _ _ _ _ _ _ _ _ h => vc_either h v1 v2) I
theorem i_vc_call {k : Nat} {u : SX} {v : SY} (I : i_Rel k u v) (hk : k + 5 ≤ 2563) (v1 : Int32) (v2 : Int32) (v3 : Int32) (v4 : Int32) : wpX_call (fun r u' => wpY_call (fun r' v' => r' = r ∧ i_Rel (k + 5) u' v') v v1 v2 v3 v4) u v1 v2 v3 v4 :=
  rs_el (P := fun u v => wpX_call (fun r u' => wpY_call (fun r' v' => r' = r ∧ i_Rel (k + 5) u' v') v v1 v2 v3 v4) u v1 v2 v3 v4) (fun _ _ _ _ _ _ _ _ _ _ _ _ _ _ _ _ _ _ _ _ _ _ _ _ _ _ _ _ _ _ _ _ _ _ _ _ _ _ _ _ _ _ _ _ _ _ _ _ _ _ _ _ _ _ _ _ _ _ _ _ _ _ _ _ _ _ _ _ _ _ _ _ _ _ _ _ _ _ _ _ _ _ _ _ _ _ _ _ _ _ _ _ _ _ _ _ _ _ _ _ _ _ _ _ _ _ h => vc_call h v1 v2 v3 v4) I
theorem i_vc_define {k : Nat} {u : SX} {v : SY} (I : i_Rel k u v) (hk : k + 5 ≤ 2563) (v1 : Int32) (v2 : Int32) : wpX_define (fun r u' => wpY_define (fun r' v' => r' = r ∧ i_Rel (k + 5) u' v') v v1 v2) u v1 v2 :=
  rs_el (P := fun u v => wpX_define (fun r u' => wpY_define (fun r' v' => r' = r ∧ i_Rel (k + 5) u' v') v v1 v2) u v1 v2) (fun _ _ _ _ _ _ _ _ _ _ _ _ _ _ _ _ _ _ _ _ _ _ _ _ _ _ _ _ _ _ _ _ _ _ _ _ _ _ _ _ _ _ _ _ _ _ _ _ _ _ _ _ _ _ _ _ _ _ _ _ _ _ _ _ _ _ _ _ _ _ _ _ _ _ _ _ _ _ _ _ _ _ _ _ _ _ _ _ _ _ _ _ _ _ _ _ _ _ _ _ _ _ _ _ _ _ h => vc_define h v1 v2) I
theorem i_vc_start {k : Nat} {u : SX} {v : SY} (I : i_Rel k u v) (hk : k + 5 ≤ 2563) (v1 : Int32) (v2 : Int32) : wpX_start (fun r u' => wpY_start (fun r' v' => r' = r ∧ i_Rel (k + 5) u' v') v v1 v2) u v1 v2 :=
  rs_el (P := fun u v => wpX_start (fun r u' => wpY_start (fun r' v' => r' = r ∧ i_Rel (k + 5) u' v') v v1 v2) u v1 v2) (fun _ _ _ _ _ _ _ _ _ _ _ _ _ _ _ _ _ _ _ _ _ _ _ _ _ _ _ _ _ _ _ _ _ _ _ _ _ _ _ _ _ _ _ _ _ _ _ _ _ _ _ _ _ _ _ _ _ _ _ _ _ _ _ _ _ _ _ _ _ _ _ _ _ _ _ _ _ _ _ _ _ _ _ _ _ _ _ _ _ _ _ _ _ _ _ _ _ _ _ _ _ _ _ _ _ _ h => vc_start h v1 v2) I
theorem i_vc_advance {k : Nat} {u : SX} {v : SY} (I : i_Rel k u v) (hk : k + 5 ≤ 2563) : wpX_advance (fun r u' => wpY_advance (fun r' v' => r' = r ∧ i_Rel (k + 5) u' v') v) u :=
  rs_el (P := fun u v => wpX_advance (fun r u' => wpY_advance (fun r' v' => r' = r ∧ i_Rel (k + 5) u' v') v) u) (fun _ _ _ _ _ _ _ _ _ _ _ _ _ _ _ _ _ _ _ _ _ _ _ _ _ _ _ _ _ _ _ _ _ _ _ _ _ _ _ _ _ _ _ _ _ _ _ _ _ _ _ _ _ _ _ _ _ _ _ _ _ _ _ _ _ _ _ _ _ _ _ _ _ _ _ _ _ _ _ _ _ _ _ _ _ _ _ _ _ _ _ _ _ _ _ _ _ _ _ _ _ _ _ _ _ _ h => vc_advance h) I
theorem i_vc_level {k : Nat} {u : SX} {v : SY} (I : i_Rel k u v) (hk : k + 5 ≤ 2563) : wpX_level (fun r => wpY_level (fun r' => r' = r ∧ i_Rel (k + 5) u v) v) u :=
  rs_el (P := fun u v => wpX_level (fun r => wpY_level (fun r' => r' = r ∧ i_Rel (k + 5) u v) v) u) (fun _ _ _ _ _ _ _ _ _ _ _ _ _ _ _ _ _ _ _ _ _ _ _ _ _ _ _ _ _ _ _ _ _ _ _ _ _ _ _ _ _ _ _ _ _ _ _ _ _ _ _ _ _ _ _ _ _ _ _ _ _ _ _ _ _ _ _ _ _ _ _ _ _ _ _ _ _ _ _ _ _ _ _ _ _ _ _ _ _ _ _ _ _ _ _ _ _ _ _ _ _ _ _ _ _ _ h => vc_level h) I
theorem i_vc_answers {k : Nat} {u : SX} {v : SY} (I : i_Rel k u v) (hk : k + 5 ≤ 2563) : wpX_answers (fun r => wpY_answers (fun r' => r' = r ∧ i_Rel (k + 5) u v) v) u :=
  rs_el (P := fun u v => wpX_answers (fun r => wpY_answers (fun r' => r' = r ∧ i_Rel (k + 5) u v) v) u) (fun _ _ _ _ _ _ _ _ _ _ _ _ _ _ _ _ _ _ _ _ _ _ _ _ _ _ _ _ _ _ _ _ _ _ _ _ _ _ _ _ _ _ _ _ _ _ _ _ _ _ _ _ _ _ _ _ _ _ _ _ _ _ _ _ _ _ _ _ _ _ _ _ _ _ _ _ _ _ _ _ _ _ _ _ _ _ _ _ _ _ _ _ _ _ _ _ _ _ _ _ _ _ _ _ _ _ h => vc_answers h) I
theorem i_vc_pending {k : Nat} {u : SX} {v : SY} (I : i_Rel k u v) (hk : k + 5 ≤ 2563) : wpX_pending (fun r => wpY_pending (fun r' => r' = r ∧ i_Rel (k + 5) u v) v) u :=
  rs_el (P := fun u v => wpX_pending (fun r => wpY_pending (fun r' => r' = r ∧ i_Rel (k + 5) u v) v) u) (fun _ _ _ _ _ _ _ _ _ _ _ _ _ _ _ _ _ _ _ _ _ _ _ _ _ _ _ _ _ _ _ _ _ _ _ _ _ _ _ _ _ _ _ _ _ _ _ _ _ _ _ _ _ _ _ _ _ _ _ _ _ _ _ _ _ _ _ _ _ _ _ _ _ _ _ _ _ _ _ _ _ _ _ _ _ _ _ _ _ _ _ _ _ _ _ _ _ _ _ _ _ _ _ _ _ _ h => vc_pending h) I
theorem i_vc_failures {k : Nat} {u : SX} {v : SY} (I : i_Rel k u v) (hk : k + 5 ≤ 2563) : wpX_failures (fun r => wpY_failures (fun r' => r' = r ∧ i_Rel (k + 5) u v) v) u :=
  rs_el (P := fun u v => wpX_failures (fun r => wpY_failures (fun r' => r' = r ∧ i_Rel (k + 5) u v) v) u) (fun _ _ _ _ _ _ _ _ _ _ _ _ _ _ _ _ _ _ _ _ _ _ _ _ _ _ _ _ _ _ _ _ _ _ _ _ _ _ _ _ _ _ _ _ _ _ _ _ _ _ _ _ _ _ _ _ _ _ _ _ _ _ _ _ _ _ _ _ _ _ _ _ _ _ _ _ _ _ _ _ _ _ _ _ _ _ _ _ _ _ _ _ _ _ _ _ _ _ _ _ _ _ _ _ _ _ h => vc_failures h) I
theorem i_vc_cuts {k : Nat} {u : SX} {v : SY} (I : i_Rel k u v) (hk : k + 5 ≤ 2563) : wpX_cuts (fun r => wpY_cuts (fun r' => r' = r ∧ i_Rel (k + 5) u v) v) u :=
  rs_el (P := fun u v => wpX_cuts (fun r => wpY_cuts (fun r' => r' = r ∧ i_Rel (k + 5) u v) v) u) (fun _ _ _ _ _ _ _ _ _ _ _ _ _ _ _ _ _ _ _ _ _ _ _ _ _ _ _ _ _ _ _ _ _ _ _ _ _ _ _ _ _ _ _ _ _ _ _ _ _ _ _ _ _ _ _ _ _ _ _ _ _ _ _ _ _ _ _ _ _ _ _ _ _ _ _ _ _ _ _ _ _ _ _ _ _ _ _ _ _ _ _ _ _ _ _ _ _ _ _ _ _ _ _ _ _ _ h => vc_cuts h) I
theorem i_vc_path {k : Nat} {u : SX} {v : SY} (I : i_Rel k u v) (hk : k + 5 ≤ 2563) (v1 : Int32) : wpX_path (fun r => wpY_path (fun r' => r' = r ∧ i_Rel (k + 5) u v) v v1) u v1 :=
  rs_el (P := fun u v => wpX_path (fun r => wpY_path (fun r' => r' = r ∧ i_Rel (k + 5) u v) v v1) u v1) (fun _ _ _ _ _ _ _ _ _ _ _ _ _ _ _ _ _ _ _ _ _ _ _ _ _ _ _ _ _ _ _ _ _ _ _ _ _ _ _ _ _ _ _ _ _ _ _ _ _ _ _ _ _ _ _ _ _ _ _ _ _ _ _ _ _ _ _ _ _ _ _ _ _ _ _ _ _ _ _ _ _ _ _ _ _ _ _ _ _ _ _ _ _ _ _ _ _ _ _ _ _ _ _ _ _ _ h => vc_path h v1) I
theorem i_vc_node {k : Nat} {u : SX} {v : SY} (I : i_Rel k u v) (hk : k + 5 ≤ 2563) (v1 : Int32) (v2 : Int32) (v3 : Int32) : wpX_node (fun r u' => wpY_node (fun r' v' => r' = r ∧ i_Rel (k + 5) u' v') v v1 v2 v3) u v1 v2 v3 :=
  rs_el (P := fun u v => wpX_node (fun r u' => wpY_node (fun r' v' => r' = r ∧ i_Rel (k + 5) u' v') v v1 v2 v3) u v1 v2 v3) (fun _ _ _ _ _ _ _ _ _ _ _ _ _ _ _ _ _ _ _ _ _ _ _ _ _ _ _ _ _ _ _ _ _ _ _ _ _ _ _ _ _ _ _ _ _ _ _ _ _ _ _ _ _ _ _ _ _ _ _ _ _ _ _ _ _ _ _ _ _ _ _ _ _ _ _ _ _ _ _ _ _ _ _ _ _ _ _ _ _ _ _ _ _ _ _ _ _ _ _ _ _ _ _ _ _ _ h => vc_node h v1 v2 v3) I
theorem i_vc_unknowns {k : Nat} {u : SX} {v : SY} (I : i_Rel k u v) (hk : k + 5 ≤ 2563) (v1 : Int32) : wpX_unknowns (fun r u' => wpY_unknowns (fun r' v' => r' = r ∧ i_Rel (k + 5) u' v') v v1) u v1 :=
  rs_el (P := fun u v => wpX_unknowns (fun r u' => wpY_unknowns (fun r' v' => r' = r ∧ i_Rel (k + 5) u' v') v v1) u v1) (fun _ _ _ _ _ _ _ _ _ _ _ _ _ _ _ _ _ _ _ _ _ _ _ _ _ _ _ _ _ _ _ _ _ _ _ _ _ _ _ _ _ _ _ _ _ _ _ _ _ _ _ _ _ _ _ _ _ _ _ _ _ _ _ _ _ _ _ _ _ _ _ _ _ _ _ _ _ _ _ _ _ _ _ _ _ _ _ _ _ _ _ _ _ _ _ _ _ _ _ _ _ _ _ _ _ _ h => vc_unknowns h v1) I
theorem i_vc_constraints {k : Nat} {u : SX} {v : SY} (I : i_Rel k u v) (hk : k + 5 ≤ 2563) (v1 : Int32) : wpX_constraints (fun r u' => wpY_constraints (fun r' v' => r' = r ∧ i_Rel (k + 5) u' v') v v1) u v1 :=
  rs_el (P := fun u v => wpX_constraints (fun r u' => wpY_constraints (fun r' v' => r' = r ∧ i_Rel (k + 5) u' v') v v1) u v1) (fun _ _ _ _ _ _ _ _ _ _ _ _ _ _ _ _ _ _ _ _ _ _ _ _ _ _ _ _ _ _ _ _ _ _ _ _ _ _ _ _ _ _ _ _ _ _ _ _ _ _ _ _ _ _ _ _ _ _ _ _ _ _ _ _ _ _ _ _ _ _ _ _ _ _ _ _ _ _ _ _ _ _ _ _ _ _ _ _ _ _ _ _ _ _ _ _ _ _ _ _ _ _ _ _ _ _ h => vc_constraints h v1) I
theorem i_vc_constraintNode {k : Nat} {u : SX} {v : SY} (I : i_Rel k u v) (hk : k + 5 ≤ 2563) (v1 : Int32) (v2 : Int32) (v3 : Int32) (v4 : Int32) : wpX_constraintNode (fun r u' => wpY_constraintNode (fun r' v' => r' = r ∧ i_Rel (k + 5) u' v') v v1 v2 v3 v4) u v1 v2 v3 v4 :=
  rs_el (P := fun u v => wpX_constraintNode (fun r u' => wpY_constraintNode (fun r' v' => r' = r ∧ i_Rel (k + 5) u' v') v v1 v2 v3 v4) u v1 v2 v3 v4) (fun _ _ _ _ _ _ _ _ _ _ _ _ _ _ _ _ _ _ _ _ _ _ _ _ _ _ _ _ _ _ _ _ _ _ _ _ _ _ _ _ _ _ _ _ _ _ _ _ _ _ _ _ _ _ _ _ _ _ _ _ _ _ _ _ _ _ _ _ _ _ _ _ _ _ _ _ _ _ _ _ _ _ _ _ _ _ _ _ _ _ _ _ _ _ _ _ _ _ _ _ _ _ _ _ _ _ h => vc_constraintNode h v1 v2 v3 v4) I
theorem i_vc_compare {k : Nat} {u : SX} {v : SY} (I : i_Rel k u v) (hk : k + 5 ≤ 2563) (v1 : Int32) (v2 : Int32) (v3 : Int32) : wpX_compare (fun r u' => wpY_compare (fun r' v' => r' = r ∧ i_Rel (k + 5) u' v') v v1 v2 v3) u v1 v2 v3 :=
  rs_el (P := fun u v => wpX_compare (fun r u' => wpY_compare (fun r' v' => r' = r ∧ i_Rel (k + 5) u' v') v v1 v2 v3) u v1 v2 v3) (fun _ _ _ _ _ _ _ _ _ _ _ _ _ _ _ _ _ _ _ _ _ _ _ _ _ _ _ _ _ _ _ _ _ _ _ _ _ _ _ _ _ _ _ _ _ _ _ _ _ _ _ _ _ _ _ _ _ _ _ _ _ _ _ _ _ _ _ _ _ _ _ _ _ _ _ _ _ _ _ _ _ _ _ _ _ _ _ _ _ _ _ _ _ _ _ _ _ _ _ _ _ _ _ _ _ _ h => vc_compare h v1 v2 v3) I
end
