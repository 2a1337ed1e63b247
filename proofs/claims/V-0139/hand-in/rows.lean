section
/-! pure rows to paste: stores, nI and lN arithmetic, masks, shifts, narrowing, branches by naturals (pk_le, pk_lt, pk_eq), loops (lp1 .. lp16: the measure of the state; rp1 ..: recursion), negatives. Take what you need -/
theorem pk_us {f : Nat → Int32} {k : Nat} {x : Int32} : upd f k x k = x := if_pos rfl
theorem pk_un {f : Nat → Int32} {k j : Nat} {x : Int32} (h : j ≠ k) : upd f k x j = f j := if_neg h
theorem pk_uLs {f : Nat → Int64} {k : Nat} {x : Int64} : vp_updL f k x k = x := if_pos rfl
theorem pk_uLn {f : Nat → Int64} {k j : Nat} {x : Int64} (h : j ≠ k) : vp_updL f k x j = f j := if_neg h
theorem pk_sub {a b : Nat} (h : b ≤ a) : nI a - nI b = nI (a - b) := by
  obtain ⟨c, rfl⟩ : ∃ c, a = c + b := ⟨a - b, by omega⟩
  rw [← nI_add, Int32.add_sub_cancel, Nat.add_sub_cancel]
theorem pk_m1 (n : Nat) : nI (n + 1) + (-1) = nI n := by
  rw [← nI_1, Int32.add_assoc, show (1 : Int32) + (-1) = 0 from rfl, Int32.add_zero]
theorem pk_mul (a b : Nat) : nI a * nI b = nI (a * b) := (Int32.ofNat_mul a b).symm
theorem pk_div {a d : Nat} (ha : a < 2 ^ 31) (h0 : 0 < d) (hd : d < 2 ^ 31) : nI a / nI d = nI (a / d) := by
  apply Int32.toInt_inj.mp
  rw [lg_idiv_nonneg (by rw [nI_toInt ha]; omega) (by rw [nI_toInt hd]; omega), nI_toInt ha, nI_toInt hd, nI_toInt (Nat.lt_of_le_of_lt (Nat.div_le_self a d) ha)]
  first | rfl | exact (Int.natCast_ediv _ _).symm
theorem pk_rem {a d : Nat} (ha : a < 2 ^ 31) (h0 : 0 < d) (hd : d < 2 ^ 31) : nI a - nI a / nI d * nI d = nI (a % d) := by
  rw [pk_div ha h0 hd, pk_mul, pk_sub (Nat.div_mul_le_self a d)]
  exact congrArg nI (by have := Nat.div_add_mod' a d; omega)
theorem pk_sub_toInt {a b : Nat} (ha : a < 2 ^ 30) (hb : b < 2 ^ 30) : (nI a - nI b).toInt = (a : Int) - b := by
  rw [Int32.toInt_sub, nI_toInt (by omega), nI_toInt (by omega)]
  exact Int.bmod_eq_of_le (by omega) (by omega)
theorem pk_sneg {a b : Nat} (hb : b < 2 ^ 30) (h : a < b) : nI a - nI b < 0 := by
  rw [Int32.lt_iff_toInt_lt, pk_sub_toInt (by omega) hb, show (0 : Int32).toInt = 0 from by decide]
  omega
theorem pk_ix (x : Int32) {n : Nat} (hn : n < 2 ^ 31) : x < 0 ∨ nI n ≤ x ∨ ∃ j : Nat, j < n ∧ x = nI j := by
  by_cases h : x < 0
  · exact Or.inl h
  · obtain ⟨j, hj, rfl⟩ := nI_of h
    by_cases h2 : j < n
    · exact Or.inr (Or.inr ⟨j, h2, rfl⟩)
    · exact Or.inr (Or.inl (nI_le (by omega) hj))
theorem pk_le {x y : Int32} {A B : Prop} (a b : Nat) (f : a ≤ b → A) (g : b < a → B) (hx : x = nI a := by rfl) (hy : y = nI b := by rfl) (ha : a < 2 ^ 31 := by omega) (hb : b < 2 ^ 31 := by omega) : (x ≤ y → A) ∧ (¬ x ≤ y → B) := by
  subst hx hy
  rw [nI_leI ha hb]
  exact ⟨f, fun z => g (by omega)⟩
theorem pk_lt {x y : Int32} {A B : Prop} (a b : Nat) (f : a < b → A) (g : b ≤ a → B) (hx : x = nI a := by rfl) (hy : y = nI b := by rfl) (ha : a < 2 ^ 31 := by omega) (hb : b < 2 ^ 31 := by omega) : (x < y → A) ∧ (¬ x < y → B) := by
  subst hx hy
  rw [nI_ltI ha hb]
  exact ⟨f, fun z => g (by omega)⟩
theorem pk_eq {x y : Int32} {A B : Prop} (a b : Nat) (f : a = b → A) (g : a ≠ b → B) (hx : x = nI a := by rfl) (hy : y = nI b := by rfl) (ha : a < 2 ^ 31 := by omega) (hb : b < 2 ^ 31 := by omega) : (x = y → A) ∧ (¬ x = y → B) := by
  subst hx hy
  rw [nI_eq ha hb]
  exact ⟨f, g⟩
theorem pk_in {x : Int32} (n N : Nat) (h : n < N) (hx : x = nI n := by rfl) (hN : N < 2 ^ 31 := by omega) : vp_in x N := by
  subst hx
  exact vp_in_nI h hN
theorem pk_cl {x : Int32} (n : Nat) (hx : x = nI n := by rfl) (h : n < 2 ^ 31 := by omega) : x.toNatClampNeg = n := by
  subst hx
  exact nI_clamp h
theorem pk_tn {n : Nat} (h : n < 2 ^ 32) : (nI n).toBitVec.toNat = n := Nat.mod_eq_of_lt h
theorem pk_and (x : Int32) {m : Int32} (k : Nat) (hm : m.toBitVec.toNat = 2 ^ k - 1) : x &&& m = nI (x.toBitVec.toNat % 2 ^ k) := by
  apply Int32.toBitVec_inj.mp
  apply BitVec.eq_of_toNat_eq
  rw [Int32.toBitVec_and, BitVec.toNat_and, hm, Nat.and_two_pow_sub_one_eq_mod]
  show _ = (BitVec.ofNat 32 _).toNat
  rw [BitVec.toNat_ofNat]
  exact (Nat.mod_eq_of_lt (Nat.lt_of_le_of_lt (Nat.mod_le _ _) x.toBitVec.isLt)).symm
theorem pk_andN {n : Nat} (h : n < 2 ^ 32) {m : Int32} (k : Nat) (hm : m.toBitVec.toNat = 2 ^ k - 1) : nI n &&& m = nI (n % 2 ^ k) := by
  rw [pk_and _ k hm, pk_tn h]
theorem pk_andE (x : Int32) {m : Int32} (k : Nat) (hm : m.toBitVec.toNat = 2 ^ k - 1) : ∃ j : Nat, j < 2 ^ k ∧ x &&& m = nI j := ⟨_, Nat.mod_lt _ (Nat.two_pow_pos k), pk_and x k hm⟩
theorem pk_andIn (x : Int32) {m : Int32} (k : Nat) (hm : m.toBitVec.toNat = 2 ^ k - 1) (hk : k ≤ 30) : vp_in (x &&& m) (2 ^ k) := by
  obtain ⟨j, hj, e⟩ := pk_andE x k hm
  rw [e]
  exact vp_in_nI hj (Nat.lt_of_le_of_lt (Nat.pow_le_pow_right (by decide) hk) (by decide))
theorem pk_shl (a s : Int32) (k : Nat) (hs : (s.toBitVec.smod 32).toNat = k) : (a <<< s).toBitVec.toNat = a.toBitVec.toNat * 2 ^ k % 2 ^ 32 := by
  show (a.toBitVec <<< (s.toBitVec.smod 32).toNat).toNat = _
  rw [hs, BitVec.toNat_shiftLeft, Nat.shiftLeft_eq]
theorem pk_shlN {n : Nat} (s : Int32) (k : Nat) (hs : (s.toBitVec.smod 32).toNat = k) (h : n * 2 ^ k < 2 ^ 32) : nI n <<< s = nI (n * 2 ^ k) := by
  apply Int32.toBitVec_inj.mp
  apply BitVec.eq_of_toNat_eq
  have hn : n < 2 ^ 32 := Nat.lt_of_le_of_lt (Nat.le_mul_of_pos_right n (Nat.two_pow_pos k)) h
  rw [pk_shl _ _ k hs, pk_tn hn, pk_tn h, Nat.mod_eq_of_lt h]
theorem pk_shr (a s : Int32) (k : Nat) (hs : (s.toBitVec.smod 32).toNat = k) : (a >>> s).toInt = a.toInt >>> k := by
  show (a.toBitVec.sshiftRight (s.toBitVec.smod 32).toNat).toInt = _
  rw [hs, BitVec.toInt_sshiftRight]
  rfl
theorem pk_shrN {n : Nat} (h : n < 2 ^ 31) (s : Int32) (k : Nat) (hs : (s.toBitVec.smod 32).toNat = k) : nI n >>> s = nI (n / 2 ^ k) := by
  apply Int32.toInt_inj.mp
  have h2 : n / 2 ^ k ≤ n := Nat.div_le_self _ _
  rw [pk_shr _ _ k hs, nI_toInt h, nI_toInt (by omega), Int.shiftRight_eq_div_pow]
  rfl
theorem pk_ushr (x s : Int32) (k : Nat) (hs : ((s.toUInt32 &&& Int32.toUInt32 31).toBitVec % 32).toNat = k) : (x.toUInt32 >>> (s.toUInt32 &&& Int32.toUInt32 31)).toInt32.toBitVec.toNat = x.toBitVec.toNat / 2 ^ k := by
  have e : (x.toUInt32 >>> (s.toUInt32 &&& Int32.toUInt32 31)).toInt32.toBitVec = x.toBitVec >>> k := by
    rw [← hs]
    exact UInt32.toBitVec_shiftRight _ _
  rw [e, BitVec.toNat_ushiftRight, Nat.shiftRight_eq_div_pow]
theorem pk_ushrN {n : Nat} (hn : n < 2 ^ 32) (s : Int32) (k : Nat) (hs : ((s.toUInt32 &&& Int32.toUInt32 31).toBitVec % 32).toNat = k) : ((nI n).toUInt32 >>> (s.toUInt32 &&& Int32.toUInt32 31)).toInt32 = nI (n / 2 ^ k) := by
  apply Int32.toBitVec_inj.mp
  apply BitVec.eq_of_toNat_eq
  rw [pk_ushr _ s k hs, pk_tn hn, pk_tn (Nat.lt_of_le_of_lt (Nat.div_le_self _ _) hn)]
theorem pk_nb (z : Int32) : narrow .byte (.int z.toInt8.toInt32) = .int z.toInt8.toInt32 := congrArg Value.int (by simp)
theorem pk_ns (z : Int32) : narrow .short (.int z.toInt16.toInt32) = .int z.toInt16.toInt32 := congrArg Value.int (by simp)
theorem pk_fb (r : Int32) : fits .byte (.int r.toInt8.toInt32) = true := by
  have ⟨a, b⟩ := lg_i2b_range r
  have h1 : (-128 : Int32).toInt = -128 := by decide
  have h2 : (127 : Int32).toInt = 127 := by decide
  simp only [fits, Bool.and_eq_true, decide_eq_true_eq, Int32.le_iff_toInt_le, h1, h2]
  omega
theorem pk_fs (r : Int32) : fits .short (.int r.toInt16.toInt32) = true := by
  have ⟨a, b⟩ := lg_i2s_range r
  have h1 : (-32768 : Int32).toInt = -32768 := by decide
  have h2 : (32767 : Int32).toInt = 32767 := by decide
  simp only [fits, Bool.and_eq_true, decide_eq_true_eq, Int32.le_iff_toInt_le, h1, h2]
  omega
theorem pk_charN {q : Nat} (hq : q < 65536) : narrow .char (.int (nI q)) = .int (nI q) ∧ fits .char (.int (nI q)) = true := by
  constructor
  · have e : (nI q).toUInt32.toUInt16.toUInt32.toInt32 = nI q := by
      apply Int32.toBitVec_inj.mp
      apply BitVec.eq_of_toNat_eq
      show (nI q).toUInt32.toUInt16.toUInt32.toNat = q % 2 ^ 32
      rw [UInt16.toNat_toUInt32, UInt32.toNat_toUInt16, show (nI q).toUInt32.toNat = q % 2 ^ 32 from rfl]
      omega
    exact congrArg Value.int e
  · have a : (0 : Int32) ≤ nI q := nI_pos' (by omega)
    have b : nI q ≤ 65535 := nI_le (b := 65535) (by omega) (by decide)
    show (decide ((0 : Int32) ≤ nI q) && decide (nI q ≤ 65535)) = true
    rw [decide_eq_true a, decide_eq_true b]
    rfl
theorem pk_char (x : Int32) : (x.toUInt32 % 65536).toInt32 = nI (x.toBitVec.toNat % 65536) := by
  apply Int32.toBitVec_inj.mp
  apply BitVec.eq_of_toNat_eq
  rw [pk_tn (by omega)]
  show (x.toUInt32 % 65536).toNat = _
  rw [UInt32.toNat_mod]
  rfl
theorem pk_nc (x : Int32) : narrow .char (.int (x.toUInt32 % 65536).toInt32) = .int (x.toUInt32 % 65536).toInt32 := by
  rw [pk_char]
  exact (pk_charN (Nat.mod_lt _ (by decide))).1
theorem pk_fc (x : Int32) : fits .char (.int (x.toUInt32 % 65536).toInt32) = true := by
  rw [pk_char]
  exact (pk_charN (Nat.mod_lt _ (by decide))).2
theorem pk_vb (z : Int32) : vp_nar .byte z.toInt8.toInt32 = z.toInt8.toInt32 := by rw [vp_nar_byte]; simp
theorem pk_vs (z : Int32) : vp_nar .short z.toInt16.toInt32 = z.toInt16.toInt32 := by rw [vp_nar_short]; simp
theorem pk_vc (z : Int32) : vp_nar .char (z.toUInt32 % 65536).toInt32 = (z.toUInt32 % 65536).toInt32 := Value.int.inj (pk_nc z)
theorem pk_lT {n : Nat} (h : n < 2 ^ 63) : (lN n).toInt = (n : Int) := lg_ofNat_toInt h
theorem pk_lLT {a b : Nat} (ha : a < 2 ^ 63) (hb : b < 2 ^ 63) : lN a < lN b ↔ a < b := by
  rw [Int64.lt_iff_toInt_lt, pk_lT ha, pk_lT hb]; omega
theorem pk_lLE {a b : Nat} (ha : a < 2 ^ 63) (hb : b < 2 ^ 63) : lN a ≤ lN b ↔ a ≤ b := by
  rw [Int64.le_iff_toInt_le, pk_lT ha, pk_lT hb]; omega
theorem pk_lEQ {a b : Nat} (ha : a < 2 ^ 63) (hb : b < 2 ^ 63) : lN a = lN b ↔ a = b := by
  rw [← Int64.toInt_inj, pk_lT ha, pk_lT hb]; omega
theorem pk_lOf {x : Int64} (h : ¬ x < 0) : ∃ k : Nat, k < 2 ^ 63 ∧ x = lN k := by
  rw [Int64.lt_iff_toInt_lt] at h
  have h0 : (0 : Int64).toInt = 0 := by decide
  have hx := Int64.toInt_lt x
  refine ⟨x.toInt.toNat, by omega, Int64.toInt_inj.mp ?_⟩
  rw [pk_lT (by omega)]
  omega
theorem pk_lDiv {a b : Nat} (ha : a < 2 ^ 63) (h0 : 0 < b) (hb : b < 2 ^ 63) : lN a / lN b = lN (a / b) := by
  apply Int64.toInt_inj.mp
  rw [lg_ldiv_nonneg (by rw [pk_lT ha]; omega) (by rw [pk_lT hb]; omega), pk_lT ha, pk_lT hb, pk_lT (Nat.lt_of_le_of_lt (Nat.div_le_self a b) ha)]
  rfl
theorem pk_lRem {a b : Nat} (ha : a < 2 ^ 63) (h0 : 0 < b) (hb : b < 2 ^ 63) : lN a - lN a / lN b * lN b = lN (a % b) := by
  rw [pk_lDiv ha h0 hb, lN_mul, lN_sub (Nat.div_mul_le_self a b)]
  exact congrArg lN (by have := Nat.div_add_mod' a b; omega)
theorem pk_loop {σ : Type} (W : Nat → Nat → σ → Prop) (I : Nat → σ → Prop) (e i0 : Nat) (s : σ) (hi : i0 ≤ e) (h0 : I i0 s) (hx : ∀ n s, I e s → W (n + 1) e s)
    (hs : ∀ n i s, i < e → I i s → (∀ s', I (i + 1) s' → W n (i + 1) s') → W (n + 1) i s) : ∃ n, W n i0 s :=
  ⟨e + 1, loop_i W I e hx hs (e + 1) i0 s hi (by omega) h0⟩
theorem pk_loopD {σ : Type} (W : Nat → Nat → σ → Prop) (I : Nat → σ → Prop) (hx : ∀ n s, I 0 s → W (n + 1) 0 s)
    (hs : ∀ n i s, I (i + 1) s → (∀ s', I i s' → W n i s') → W (n + 1) (i + 1) s) : ∀ (e : Nat) (s : σ), I e s → W (e + 1) e s := by
  intro e
  induction e with
  | zero => exact fun s h => hx 0 s h
  | succ e ih => exact fun s h => hs (e + 1) e s h (fun s' h' => ih s' h')
theorem lp1 {A1 : Type} (W : Nat → A1 → Prop) (I : A1 → Prop) (μ : A1 → Nat) (hs : ∀ (n : Nat) (a1 : A1), I a1 → (∀ (b1 : A1), I b1 → μ b1 < μ a1 → W n b1) → W (n + 1) a1) (a1 : A1) (h : I a1) : ∃ n, W n a1 :=
  loop_m (σ := A1) (fun n s => W n s) (fun s => I s) (fun s => μ s) (fun n s hI hk => hs n s hI (fun b1 h9 hm => hk b1 h9 hm)) a1 h
theorem lp2 {A1 A2 : Type} (W : Nat → A1 → A2 → Prop) (I : A1 → A2 → Prop) (μ : A1 → A2 → Nat) (hs : ∀ (n : Nat) (a1 : A1) (a2 : A2), I a1 a2 → (∀ (b1 : A1) (b2 : A2), I b1 b2 → μ b1 b2 < μ a1 a2 → W n b1 b2) → W (n + 1) a1 a2) (a1 : A1) (a2 : A2) (h : I a1 a2) : ∃ n, W n a1 a2 :=
  loop_m (σ := A1 × A2) (fun n s => W n s.1 s.2) (fun s => I s.1 s.2) (fun s => μ s.1 s.2) (fun n s hI hk => hs n s.1 s.2 hI (fun b1 b2 h9 hm => hk (b1, b2) h9 hm)) (a1, a2) h
theorem lp3 {A1 A2 A3 : Type} (W : Nat → A1 → A2 → A3 → Prop) (I : A1 → A2 → A3 → Prop) (μ : A1 → A2 → A3 → Nat) (hs : ∀ (n : Nat) (a1 : A1) (a2 : A2) (a3 : A3), I a1 a2 a3 → (∀ (b1 : A1) (b2 : A2) (b3 : A3), I b1 b2 b3 → μ b1 b2 b3 < μ a1 a2 a3 → W n b1 b2 b3) → W (n + 1) a1 a2 a3) (a1 : A1) (a2 : A2) (a3 : A3) (h : I a1 a2 a3) : ∃ n, W n a1 a2 a3 :=
  loop_m (σ := A1 × A2 × A3) (fun n s => W n s.1 s.2.1 s.2.2) (fun s => I s.1 s.2.1 s.2.2) (fun s => μ s.1 s.2.1 s.2.2) (fun n s hI hk => hs n s.1 s.2.1 s.2.2 hI (fun b1 b2 b3 h9 hm => hk (b1, b2, b3) h9 hm)) (a1, a2, a3) h
theorem lp4 {A1 A2 A3 A4 : Type} (W : Nat → A1 → A2 → A3 → A4 → Prop) (I : A1 → A2 → A3 → A4 → Prop) (μ : A1 → A2 → A3 → A4 → Nat) (hs : ∀ (n : Nat) (a1 : A1) (a2 : A2) (a3 : A3) (a4 : A4), I a1 a2 a3 a4 → (∀ (b1 : A1) (b2 : A2) (b3 : A3) (b4 : A4), I b1 b2 b3 b4 → μ b1 b2 b3 b4 < μ a1 a2 a3 a4 → W n b1 b2 b3 b4) → W (n + 1) a1 a2 a3 a4) (a1 : A1) (a2 : A2) (a3 : A3) (a4 : A4) (h : I a1 a2 a3 a4) : ∃ n, W n a1 a2 a3 a4 :=
  loop_m (σ := A1 × A2 × A3 × A4) (fun n s => W n s.1 s.2.1 s.2.2.1 s.2.2.2) (fun s => I s.1 s.2.1 s.2.2.1 s.2.2.2) (fun s => μ s.1 s.2.1 s.2.2.1 s.2.2.2) (fun n s hI hk => hs n s.1 s.2.1 s.2.2.1 s.2.2.2 hI (fun b1 b2 b3 b4 h9 hm => hk (b1, b2, b3, b4) h9 hm)) (a1, a2, a3, a4) h
theorem lp5 {A1 A2 A3 A4 A5 : Type} (W : Nat → A1 → A2 → A3 → A4 → A5 → Prop) (I : A1 → A2 → A3 → A4 → A5 → Prop) (μ : A1 → A2 → A3 → A4 → A5 → Nat) (hs : ∀ (n : Nat) (a1 : A1) (a2 : A2) (a3 : A3) (a4 : A4) (a5 : A5), I a1 a2 a3 a4 a5 → (∀ (b1 : A1) (b2 : A2) (b3 : A3) (b4 : A4) (b5 : A5), I b1 b2 b3 b4 b5 → μ b1 b2 b3 b4 b5 < μ a1 a2 a3 a4 a5 → W n b1 b2 b3 b4 b5) → W (n + 1) a1 a2 a3 a4 a5) (a1 : A1) (a2 : A2) (a3 : A3) (a4 : A4) (a5 : A5) (h : I a1 a2 a3 a4 a5) : ∃ n, W n a1 a2 a3 a4 a5 :=
  loop_m (σ := A1 × A2 × A3 × A4 × A5) (fun n s => W n s.1 s.2.1 s.2.2.1 s.2.2.2.1 s.2.2.2.2) (fun s => I s.1 s.2.1 s.2.2.1 s.2.2.2.1 s.2.2.2.2) (fun s => μ s.1 s.2.1 s.2.2.1 s.2.2.2.1 s.2.2.2.2) (fun n s hI hk => hs n s.1 s.2.1 s.2.2.1 s.2.2.2.1 s.2.2.2.2 hI (fun b1 b2 b3 b4 b5 h9 hm => hk (b1, b2, b3, b4, b5) h9 hm)) (a1, a2, a3, a4, a5) h
theorem lp6 {A1 A2 A3 A4 A5 A6 : Type} (W : Nat → A1 → A2 → A3 → A4 → A5 → A6 → Prop) (I : A1 → A2 → A3 → A4 → A5 → A6 → Prop) (μ : A1 → A2 → A3 → A4 → A5 → A6 → Nat) (hs : ∀ (n : Nat) (a1 : A1) (a2 : A2) (a3 : A3) (a4 : A4) (a5 : A5) (a6 : A6), I a1 a2 a3 a4 a5 a6 → (∀ (b1 : A1) (b2 : A2) (b3 : A3) (b4 : A4) (b5 : A5) (b6 : A6), I b1 b2 b3 b4 b5 b6 → μ b1 b2 b3 b4 b5 b6 < μ a1 a2 a3 a4 a5 a6 → W n b1 b2 b3 b4 b5 b6) → W (n + 1) a1 a2 a3 a4 a5 a6) (a1 : A1) (a2 : A2) (a3 : A3) (a4 : A4) (a5 : A5) (a6 : A6) (h : I a1 a2 a3 a4 a5 a6) : ∃ n, W n a1 a2 a3 a4 a5 a6 :=
  loop_m (σ := A1 × A2 × A3 × A4 × A5 × A6) (fun n s => W n s.1 s.2.1 s.2.2.1 s.2.2.2.1 s.2.2.2.2.1 s.2.2.2.2.2) (fun s => I s.1 s.2.1 s.2.2.1 s.2.2.2.1 s.2.2.2.2.1 s.2.2.2.2.2) (fun s => μ s.1 s.2.1 s.2.2.1 s.2.2.2.1 s.2.2.2.2.1 s.2.2.2.2.2) (fun n s hI hk => hs n s.1 s.2.1 s.2.2.1 s.2.2.2.1 s.2.2.2.2.1 s.2.2.2.2.2 hI (fun b1 b2 b3 b4 b5 b6 h9 hm => hk (b1, b2, b3, b4, b5, b6) h9 hm)) (a1, a2, a3, a4, a5, a6) h
theorem lp7 {A1 A2 A3 A4 A5 A6 A7 : Type} (W : Nat → A1 → A2 → A3 → A4 → A5 → A6 → A7 → Prop) (I : A1 → A2 → A3 → A4 → A5 → A6 → A7 → Prop) (μ : A1 → A2 → A3 → A4 → A5 → A6 → A7 → Nat) (hs : ∀ (n : Nat) (a1 : A1) (a2 : A2) (a3 : A3) (a4 : A4) (a5 : A5) (a6 : A6) (a7 : A7), I a1 a2 a3 a4 a5 a6 a7 → (∀ (b1 : A1) (b2 : A2) (b3 : A3) (b4 : A4) (b5 : A5) (b6 : A6) (b7 : A7), I b1 b2 b3 b4 b5 b6 b7 → μ b1 b2 b3 b4 b5 b6 b7 < μ a1 a2 a3 a4 a5 a6 a7 → W n b1 b2 b3 b4 b5 b6 b7) → W (n + 1) a1 a2 a3 a4 a5 a6 a7) (a1 : A1) (a2 : A2) (a3 : A3) (a4 : A4) (a5 : A5) (a6 : A6) (a7 : A7) (h : I a1 a2 a3 a4 a5 a6 a7) : ∃ n, W n a1 a2 a3 a4 a5 a6 a7 :=
  loop_m (σ := A1 × A2 × A3 × A4 × A5 × A6 × A7) (fun n s => W n s.1 s.2.1 s.2.2.1 s.2.2.2.1 s.2.2.2.2.1 s.2.2.2.2.2.1 s.2.2.2.2.2.2) (fun s => I s.1 s.2.1 s.2.2.1 s.2.2.2.1 s.2.2.2.2.1 s.2.2.2.2.2.1 s.2.2.2.2.2.2) (fun s => μ s.1 s.2.1 s.2.2.1 s.2.2.2.1 s.2.2.2.2.1 s.2.2.2.2.2.1 s.2.2.2.2.2.2) (fun n s hI hk => hs n s.1 s.2.1 s.2.2.1 s.2.2.2.1 s.2.2.2.2.1 s.2.2.2.2.2.1 s.2.2.2.2.2.2 hI (fun b1 b2 b3 b4 b5 b6 b7 h9 hm => hk (b1, b2, b3, b4, b5, b6, b7) h9 hm)) (a1, a2, a3, a4, a5, a6, a7) h
theorem lp8 {A1 A2 A3 A4 A5 A6 A7 A8 : Type} (W : Nat → A1 → A2 → A3 → A4 → A5 → A6 → A7 → A8 → Prop) (I : A1 → A2 → A3 → A4 → A5 → A6 → A7 → A8 → Prop) (μ : A1 → A2 → A3 → A4 → A5 → A6 → A7 → A8 → Nat) (hs : ∀ (n : Nat) (a1 : A1) (a2 : A2) (a3 : A3) (a4 : A4) (a5 : A5) (a6 : A6) (a7 : A7) (a8 : A8), I a1 a2 a3 a4 a5 a6 a7 a8 → (∀ (b1 : A1) (b2 : A2) (b3 : A3) (b4 : A4) (b5 : A5) (b6 : A6) (b7 : A7) (b8 : A8), I b1 b2 b3 b4 b5 b6 b7 b8 → μ b1 b2 b3 b4 b5 b6 b7 b8 < μ a1 a2 a3 a4 a5 a6 a7 a8 → W n b1 b2 b3 b4 b5 b6 b7 b8) → W (n + 1) a1 a2 a3 a4 a5 a6 a7 a8) (a1 : A1) (a2 : A2) (a3 : A3) (a4 : A4) (a5 : A5) (a6 : A6) (a7 : A7) (a8 : A8) (h : I a1 a2 a3 a4 a5 a6 a7 a8) : ∃ n, W n a1 a2 a3 a4 a5 a6 a7 a8 :=
  loop_m (σ := A1 × A2 × A3 × A4 × A5 × A6 × A7 × A8) (fun n s => W n s.1 s.2.1 s.2.2.1 s.2.2.2.1 s.2.2.2.2.1 s.2.2.2.2.2.1 s.2.2.2.2.2.2.1 s.2.2.2.2.2.2.2) (fun s => I s.1 s.2.1 s.2.2.1 s.2.2.2.1 s.2.2.2.2.1 s.2.2.2.2.2.1 s.2.2.2.2.2.2.1 s.2.2.2.2.2.2.2) (fun s => μ s.1 s.2.1 s.2.2.1 s.2.2.2.1 s.2.2.2.2.1 s.2.2.2.2.2.1 s.2.2.2.2.2.2.1 s.2.2.2.2.2.2.2) (fun n s hI hk => hs n s.1 s.2.1 s.2.2.1 s.2.2.2.1 s.2.2.2.2.1 s.2.2.2.2.2.1 s.2.2.2.2.2.2.1 s.2.2.2.2.2.2.2 hI (fun b1 b2 b3 b4 b5 b6 b7 b8 h9 hm => hk (b1, b2, b3, b4, b5, b6, b7, b8) h9 hm)) (a1, a2, a3, a4, a5, a6, a7, a8) h
theorem lp9 {A1 A2 A3 A4 A5 A6 A7 A8 A9 : Type} (W : Nat → A1 → A2 → A3 → A4 → A5 → A6 → A7 → A8 → A9 → Prop) (I : A1 → A2 → A3 → A4 → A5 → A6 → A7 → A8 → A9 → Prop) (μ : A1 → A2 → A3 → A4 → A5 → A6 → A7 → A8 → A9 → Nat) (hs : ∀ (n : Nat) (a1 : A1) (a2 : A2) (a3 : A3) (a4 : A4) (a5 : A5) (a6 : A6) (a7 : A7) (a8 : A8) (a9 : A9), I a1 a2 a3 a4 a5 a6 a7 a8 a9 → (∀ (b1 : A1) (b2 : A2) (b3 : A3) (b4 : A4) (b5 : A5) (b6 : A6) (b7 : A7) (b8 : A8) (b9 : A9), I b1 b2 b3 b4 b5 b6 b7 b8 b9 → μ b1 b2 b3 b4 b5 b6 b7 b8 b9 < μ a1 a2 a3 a4 a5 a6 a7 a8 a9 → W n b1 b2 b3 b4 b5 b6 b7 b8 b9) → W (n + 1) a1 a2 a3 a4 a5 a6 a7 a8 a9) (a1 : A1) (a2 : A2) (a3 : A3) (a4 : A4) (a5 : A5) (a6 : A6) (a7 : A7) (a8 : A8) (a9 : A9) (h : I a1 a2 a3 a4 a5 a6 a7 a8 a9) : ∃ n, W n a1 a2 a3 a4 a5 a6 a7 a8 a9 :=
  loop_m (σ := A1 × A2 × A3 × A4 × A5 × A6 × A7 × A8 × A9) (fun n s => W n s.1 s.2.1 s.2.2.1 s.2.2.2.1 s.2.2.2.2.1 s.2.2.2.2.2.1 s.2.2.2.2.2.2.1 s.2.2.2.2.2.2.2.1 s.2.2.2.2.2.2.2.2) (fun s => I s.1 s.2.1 s.2.2.1 s.2.2.2.1 s.2.2.2.2.1 s.2.2.2.2.2.1 s.2.2.2.2.2.2.1 s.2.2.2.2.2.2.2.1 s.2.2.2.2.2.2.2.2) (fun s => μ s.1 s.2.1 s.2.2.1 s.2.2.2.1 s.2.2.2.2.1 s.2.2.2.2.2.1 s.2.2.2.2.2.2.1 s.2.2.2.2.2.2.2.1 s.2.2.2.2.2.2.2.2) (fun n s hI hk => hs n s.1 s.2.1 s.2.2.1 s.2.2.2.1 s.2.2.2.2.1 s.2.2.2.2.2.1 s.2.2.2.2.2.2.1 s.2.2.2.2.2.2.2.1 s.2.2.2.2.2.2.2.2 hI (fun b1 b2 b3 b4 b5 b6 b7 b8 b9 h9 hm => hk (b1, b2, b3, b4, b5, b6, b7, b8, b9) h9 hm)) (a1, a2, a3, a4, a5, a6, a7, a8, a9) h
theorem lp10 {A1 A2 A3 A4 A5 A6 A7 A8 A9 A10 : Type} (W : Nat → A1 → A2 → A3 → A4 → A5 → A6 → A7 → A8 → A9 → A10 → Prop) (I : A1 → A2 → A3 → A4 → A5 → A6 → A7 → A8 → A9 → A10 → Prop) (μ : A1 → A2 → A3 → A4 → A5 → A6 → A7 → A8 → A9 → A10 → Nat) (hs : ∀ (n : Nat) (a1 : A1) (a2 : A2) (a3 : A3) (a4 : A4) (a5 : A5) (a6 : A6) (a7 : A7) (a8 : A8) (a9 : A9) (a10 : A10), I a1 a2 a3 a4 a5 a6 a7 a8 a9 a10 → (∀ (b1 : A1) (b2 : A2) (b3 : A3) (b4 : A4) (b5 : A5) (b6 : A6) (b7 : A7) (b8 : A8) (b9 : A9) (b10 : A10), I b1 b2 b3 b4 b5 b6 b7 b8 b9 b10 → μ b1 b2 b3 b4 b5 b6 b7 b8 b9 b10 < μ a1 a2 a3 a4 a5 a6 a7 a8 a9 a10 → W n b1 b2 b3 b4 b5 b6 b7 b8 b9 b10) → W (n + 1) a1 a2 a3 a4 a5 a6 a7 a8 a9 a10) (a1 : A1) (a2 : A2) (a3 : A3) (a4 : A4) (a5 : A5) (a6 : A6) (a7 : A7) (a8 : A8) (a9 : A9) (a10 : A10) (h : I a1 a2 a3 a4 a5 a6 a7 a8 a9 a10) : ∃ n, W n a1 a2 a3 a4 a5 a6 a7 a8 a9 a10 :=
  loop_m (σ := A1 × A2 × A3 × A4 × A5 × A6 × A7 × A8 × A9 × A10) (fun n s => W n s.1 s.2.1 s.2.2.1 s.2.2.2.1 s.2.2.2.2.1 s.2.2.2.2.2.1 s.2.2.2.2.2.2.1 s.2.2.2.2.2.2.2.1 s.2.2.2.2.2.2.2.2.1 s.2.2.2.2.2.2.2.2.2) (fun s => I s.1 s.2.1 s.2.2.1 s.2.2.2.1 s.2.2.2.2.1 s.2.2.2.2.2.1 s.2.2.2.2.2.2.1 s.2.2.2.2.2.2.2.1 s.2.2.2.2.2.2.2.2.1 s.2.2.2.2.2.2.2.2.2) (fun s => μ s.1 s.2.1 s.2.2.1 s.2.2.2.1 s.2.2.2.2.1 s.2.2.2.2.2.1 s.2.2.2.2.2.2.1 s.2.2.2.2.2.2.2.1 s.2.2.2.2.2.2.2.2.1 s.2.2.2.2.2.2.2.2.2) (fun n s hI hk => hs n s.1 s.2.1 s.2.2.1 s.2.2.2.1 s.2.2.2.2.1 s.2.2.2.2.2.1 s.2.2.2.2.2.2.1 s.2.2.2.2.2.2.2.1 s.2.2.2.2.2.2.2.2.1 s.2.2.2.2.2.2.2.2.2 hI (fun b1 b2 b3 b4 b5 b6 b7 b8 b9 b10 h9 hm => hk (b1, b2, b3, b4, b5, b6, b7, b8, b9, b10) h9 hm)) (a1, a2, a3, a4, a5, a6, a7, a8, a9, a10) h
theorem lp11 {A1 A2 A3 A4 A5 A6 A7 A8 A9 A10 A11 : Type} (W : Nat → A1 → A2 → A3 → A4 → A5 → A6 → A7 → A8 → A9 → A10 → A11 → Prop) (I : A1 → A2 → A3 → A4 → A5 → A6 → A7 → A8 → A9 → A10 → A11 → Prop) (μ : A1 → A2 → A3 → A4 → A5 → A6 → A7 → A8 → A9 → A10 → A11 → Nat) (hs : ∀ (n : Nat) (a1 : A1) (a2 : A2) (a3 : A3) (a4 : A4) (a5 : A5) (a6 : A6) (a7 : A7) (a8 : A8) (a9 : A9) (a10 : A10) (a11 : A11), I a1 a2 a3 a4 a5 a6 a7 a8 a9 a10 a11 → (∀ (b1 : A1) (b2 : A2) (b3 : A3) (b4 : A4) (b5 : A5) (b6 : A6) (b7 : A7) (b8 : A8) (b9 : A9) (b10 : A10) (b11 : A11), I b1 b2 b3 b4 b5 b6 b7 b8 b9 b10 b11 → μ b1 b2 b3 b4 b5 b6 b7 b8 b9 b10 b11 < μ a1 a2 a3 a4 a5 a6 a7 a8 a9 a10 a11 → W n b1 b2 b3 b4 b5 b6 b7 b8 b9 b10 b11) → W (n + 1) a1 a2 a3 a4 a5 a6 a7 a8 a9 a10 a11) (a1 : A1) (a2 : A2) (a3 : A3) (a4 : A4) (a5 : A5) (a6 : A6) (a7 : A7) (a8 : A8) (a9 : A9) (a10 : A10) (a11 : A11) (h : I a1 a2 a3 a4 a5 a6 a7 a8 a9 a10 a11) : ∃ n, W n a1 a2 a3 a4 a5 a6 a7 a8 a9 a10 a11 :=
  loop_m (σ := A1 × A2 × A3 × A4 × A5 × A6 × A7 × A8 × A9 × A10 × A11) (fun n s => W n s.1 s.2.1 s.2.2.1 s.2.2.2.1 s.2.2.2.2.1 s.2.2.2.2.2.1 s.2.2.2.2.2.2.1 s.2.2.2.2.2.2.2.1 s.2.2.2.2.2.2.2.2.1 s.2.2.2.2.2.2.2.2.2.1 s.2.2.2.2.2.2.2.2.2.2) (fun s => I s.1 s.2.1 s.2.2.1 s.2.2.2.1 s.2.2.2.2.1 s.2.2.2.2.2.1 s.2.2.2.2.2.2.1 s.2.2.2.2.2.2.2.1 s.2.2.2.2.2.2.2.2.1 s.2.2.2.2.2.2.2.2.2.1 s.2.2.2.2.2.2.2.2.2.2) (fun s => μ s.1 s.2.1 s.2.2.1 s.2.2.2.1 s.2.2.2.2.1 s.2.2.2.2.2.1 s.2.2.2.2.2.2.1 s.2.2.2.2.2.2.2.1 s.2.2.2.2.2.2.2.2.1 s.2.2.2.2.2.2.2.2.2.1 s.2.2.2.2.2.2.2.2.2.2) (fun n s hI hk => hs n s.1 s.2.1 s.2.2.1 s.2.2.2.1 s.2.2.2.2.1 s.2.2.2.2.2.1 s.2.2.2.2.2.2.1 s.2.2.2.2.2.2.2.1 s.2.2.2.2.2.2.2.2.1 s.2.2.2.2.2.2.2.2.2.1 s.2.2.2.2.2.2.2.2.2.2 hI (fun b1 b2 b3 b4 b5 b6 b7 b8 b9 b10 b11 h9 hm => hk (b1, b2, b3, b4, b5, b6, b7, b8, b9, b10, b11) h9 hm)) (a1, a2, a3, a4, a5, a6, a7, a8, a9, a10, a11) h
theorem lp12 {A1 A2 A3 A4 A5 A6 A7 A8 A9 A10 A11 A12 : Type} (W : Nat → A1 → A2 → A3 → A4 → A5 → A6 → A7 → A8 → A9 → A10 → A11 → A12 → Prop) (I : A1 → A2 → A3 → A4 → A5 → A6 → A7 → A8 → A9 → A10 → A11 → A12 → Prop) (μ : A1 → A2 → A3 → A4 → A5 → A6 → A7 → A8 → A9 → A10 → A11 → A12 → Nat) (hs : ∀ (n : Nat) (a1 : A1) (a2 : A2) (a3 : A3) (a4 : A4) (a5 : A5) (a6 : A6) (a7 : A7) (a8 : A8) (a9 : A9) (a10 : A10) (a11 : A11) (a12 : A12), I a1 a2 a3 a4 a5 a6 a7 a8 a9 a10 a11 a12 → (∀ (b1 : A1) (b2 : A2) (b3 : A3) (b4 : A4) (b5 : A5) (b6 : A6) (b7 : A7) (b8 : A8) (b9 : A9) (b10 : A10) (b11 : A11) (b12 : A12), I b1 b2 b3 b4 b5 b6 b7 b8 b9 b10 b11 b12 → μ b1 b2 b3 b4 b5 b6 b7 b8 b9 b10 b11 b12 < μ a1 a2 a3 a4 a5 a6 a7 a8 a9 a10 a11 a12 → W n b1 b2 b3 b4 b5 b6 b7 b8 b9 b10 b11 b12) → W (n + 1) a1 a2 a3 a4 a5 a6 a7 a8 a9 a10 a11 a12) (a1 : A1) (a2 : A2) (a3 : A3) (a4 : A4) (a5 : A5) (a6 : A6) (a7 : A7) (a8 : A8) (a9 : A9) (a10 : A10) (a11 : A11) (a12 : A12) (h : I a1 a2 a3 a4 a5 a6 a7 a8 a9 a10 a11 a12) : ∃ n, W n a1 a2 a3 a4 a5 a6 a7 a8 a9 a10 a11 a12 :=
  loop_m (σ := A1 × A2 × A3 × A4 × A5 × A6 × A7 × A8 × A9 × A10 × A11 × A12) (fun n s => W n s.1 s.2.1 s.2.2.1 s.2.2.2.1 s.2.2.2.2.1 s.2.2.2.2.2.1 s.2.2.2.2.2.2.1 s.2.2.2.2.2.2.2.1 s.2.2.2.2.2.2.2.2.1 s.2.2.2.2.2.2.2.2.2.1 s.2.2.2.2.2.2.2.2.2.2.1 s.2.2.2.2.2.2.2.2.2.2.2) (fun s => I s.1 s.2.1 s.2.2.1 s.2.2.2.1 s.2.2.2.2.1 s.2.2.2.2.2.1 s.2.2.2.2.2.2.1 s.2.2.2.2.2.2.2.1 s.2.2.2.2.2.2.2.2.1 s.2.2.2.2.2.2.2.2.2.1 s.2.2.2.2.2.2.2.2.2.2.1 s.2.2.2.2.2.2.2.2.2.2.2) (fun s => μ s.1 s.2.1 s.2.2.1 s.2.2.2.1 s.2.2.2.2.1 s.2.2.2.2.2.1 s.2.2.2.2.2.2.1 s.2.2.2.2.2.2.2.1 s.2.2.2.2.2.2.2.2.1 s.2.2.2.2.2.2.2.2.2.1 s.2.2.2.2.2.2.2.2.2.2.1 s.2.2.2.2.2.2.2.2.2.2.2) (fun n s hI hk => hs n s.1 s.2.1 s.2.2.1 s.2.2.2.1 s.2.2.2.2.1 s.2.2.2.2.2.1 s.2.2.2.2.2.2.1 s.2.2.2.2.2.2.2.1 s.2.2.2.2.2.2.2.2.1 s.2.2.2.2.2.2.2.2.2.1 s.2.2.2.2.2.2.2.2.2.2.1 s.2.2.2.2.2.2.2.2.2.2.2 hI (fun b1 b2 b3 b4 b5 b6 b7 b8 b9 b10 b11 b12 h9 hm => hk (b1, b2, b3, b4, b5, b6, b7, b8, b9, b10, b11, b12) h9 hm)) (a1, a2, a3, a4, a5, a6, a7, a8, a9, a10, a11, a12) h
theorem lp13 {A1 A2 A3 A4 A5 A6 A7 A8 A9 A10 A11 A12 A13 : Type} (W : Nat → A1 → A2 → A3 → A4 → A5 → A6 → A7 → A8 → A9 → A10 → A11 → A12 → A13 → Prop) (I : A1 → A2 → A3 → A4 → A5 → A6 → A7 → A8 → A9 → A10 → A11 → A12 → A13 → Prop) (μ : A1 → A2 → A3 → A4 → A5 → A6 → A7 → A8 → A9 → A10 → A11 → A12 → A13 → Nat) (hs : ∀ (n : Nat) (a1 : A1) (a2 : A2) (a3 : A3) (a4 : A4) (a5 : A5) (a6 : A6) (a7 : A7) (a8 : A8) (a9 : A9) (a10 : A10) (a11 : A11) (a12 : A12) (a13 : A13), I a1 a2 a3 a4 a5 a6 a7 a8 a9 a10 a11 a12 a13 → (∀ (b1 : A1) (b2 : A2) (b3 : A3) (b4 : A4) (b5 : A5) (b6 : A6) (b7 : A7) (b8 : A8) (b9 : A9) (b10 : A10) (b11 : A11) (b12 : A12) (b13 : A13), I b1 b2 b3 b4 b5 b6 b7 b8 b9 b10 b11 b12 b13 → μ b1 b2 b3 b4 b5 b6 b7 b8 b9 b10 b11 b12 b13 < μ a1 a2 a3 a4 a5 a6 a7 a8 a9 a10 a11 a12 a13 → W n b1 b2 b3 b4 b5 b6 b7 b8 b9 b10 b11 b12 b13) → W (n + 1) a1 a2 a3 a4 a5 a6 a7 a8 a9 a10 a11 a12 a13) (a1 : A1) (a2 : A2) (a3 : A3) (a4 : A4) (a5 : A5) (a6 : A6) (a7 : A7) (a8 : A8) (a9 : A9) (a10 : A10) (a11 : A11) (a12 : A12) (a13 : A13) (h : I a1 a2 a3 a4 a5 a6 a7 a8 a9 a10 a11 a12 a13) : ∃ n, W n a1 a2 a3 a4 a5 a6 a7 a8 a9 a10 a11 a12 a13 :=
  loop_m (σ := A1 × A2 × A3 × A4 × A5 × A6 × A7 × A8 × A9 × A10 × A11 × A12 × A13) (fun n s => W n s.1 s.2.1 s.2.2.1 s.2.2.2.1 s.2.2.2.2.1 s.2.2.2.2.2.1 s.2.2.2.2.2.2.1 s.2.2.2.2.2.2.2.1 s.2.2.2.2.2.2.2.2.1 s.2.2.2.2.2.2.2.2.2.1 s.2.2.2.2.2.2.2.2.2.2.1 s.2.2.2.2.2.2.2.2.2.2.2.1 s.2.2.2.2.2.2.2.2.2.2.2.2) (fun s => I s.1 s.2.1 s.2.2.1 s.2.2.2.1 s.2.2.2.2.1 s.2.2.2.2.2.1 s.2.2.2.2.2.2.1 s.2.2.2.2.2.2.2.1 s.2.2.2.2.2.2.2.2.1 s.2.2.2.2.2.2.2.2.2.1 s.2.2.2.2.2.2.2.2.2.2.1 s.2.2.2.2.2.2.2.2.2.2.2.1 s.2.2.2.2.2.2.2.2.2.2.2.2) (fun s => μ s.1 s.2.1 s.2.2.1 s.2.2.2.1 s.2.2.2.2.1 s.2.2.2.2.2.1 s.2.2.2.2.2.2.1 s.2.2.2.2.2.2.2.1 s.2.2.2.2.2.2.2.2.1 s.2.2.2.2.2.2.2.2.2.1 s.2.2.2.2.2.2.2.2.2.2.1 s.2.2.2.2.2.2.2.2.2.2.2.1 s.2.2.2.2.2.2.2.2.2.2.2.2) (fun n s hI hk => hs n s.1 s.2.1 s.2.2.1 s.2.2.2.1 s.2.2.2.2.1 s.2.2.2.2.2.1 s.2.2.2.2.2.2.1 s.2.2.2.2.2.2.2.1 s.2.2.2.2.2.2.2.2.1 s.2.2.2.2.2.2.2.2.2.1 s.2.2.2.2.2.2.2.2.2.2.1 s.2.2.2.2.2.2.2.2.2.2.2.1 s.2.2.2.2.2.2.2.2.2.2.2.2 hI (fun b1 b2 b3 b4 b5 b6 b7 b8 b9 b10 b11 b12 b13 h9 hm => hk (b1, b2, b3, b4, b5, b6, b7, b8, b9, b10, b11, b12, b13) h9 hm)) (a1, a2, a3, a4, a5, a6, a7, a8, a9, a10, a11, a12, a13) h
theorem lp14 {A1 A2 A3 A4 A5 A6 A7 A8 A9 A10 A11 A12 A13 A14 : Type} (W : Nat → A1 → A2 → A3 → A4 → A5 → A6 → A7 → A8 → A9 → A10 → A11 → A12 → A13 → A14 → Prop) (I : A1 → A2 → A3 → A4 → A5 → A6 → A7 → A8 → A9 → A10 → A11 → A12 → A13 → A14 → Prop) (μ : A1 → A2 → A3 → A4 → A5 → A6 → A7 → A8 → A9 → A10 → A11 → A12 → A13 → A14 → Nat) (hs : ∀ (n : Nat) (a1 : A1) (a2 : A2) (a3 : A3) (a4 : A4) (a5 : A5) (a6 : A6) (a7 : A7) (a8 : A8) (a9 : A9) (a10 : A10) (a11 : A11) (a12 : A12) (a13 : A13) (a14 : A14), I a1 a2 a3 a4 a5 a6 a7 a8 a9 a10 a11 a12 a13 a14 → (∀ (b1 : A1) (b2 : A2) (b3 : A3) (b4 : A4) (b5 : A5) (b6 : A6) (b7 : A7) (b8 : A8) (b9 : A9) (b10 : A10) (b11 : A11) (b12 : A12) (b13 : A13) (b14 : A14), I b1 b2 b3 b4 b5 b6 b7 b8 b9 b10 b11 b12 b13 b14 → μ b1 b2 b3 b4 b5 b6 b7 b8 b9 b10 b11 b12 b13 b14 < μ a1 a2 a3 a4 a5 a6 a7 a8 a9 a10 a11 a12 a13 a14 → W n b1 b2 b3 b4 b5 b6 b7 b8 b9 b10 b11 b12 b13 b14) → W (n + 1) a1 a2 a3 a4 a5 a6 a7 a8 a9 a10 a11 a12 a13 a14) (a1 : A1) (a2 : A2) (a3 : A3) (a4 : A4) (a5 : A5) (a6 : A6) (a7 : A7) (a8 : A8) (a9 : A9) (a10 : A10) (a11 : A11) (a12 : A12) (a13 : A13) (a14 : A14) (h : I a1 a2 a3 a4 a5 a6 a7 a8 a9 a10 a11 a12 a13 a14) : ∃ n, W n a1 a2 a3 a4 a5 a6 a7 a8 a9 a10 a11 a12 a13 a14 :=
  loop_m (σ := A1 × A2 × A3 × A4 × A5 × A6 × A7 × A8 × A9 × A10 × A11 × A12 × A13 × A14) (fun n s => W n s.1 s.2.1 s.2.2.1 s.2.2.2.1 s.2.2.2.2.1 s.2.2.2.2.2.1 s.2.2.2.2.2.2.1 s.2.2.2.2.2.2.2.1 s.2.2.2.2.2.2.2.2.1 s.2.2.2.2.2.2.2.2.2.1 s.2.2.2.2.2.2.2.2.2.2.1 s.2.2.2.2.2.2.2.2.2.2.2.1 s.2.2.2.2.2.2.2.2.2.2.2.2.1 s.2.2.2.2.2.2.2.2.2.2.2.2.2) (fun s => I s.1 s.2.1 s.2.2.1 s.2.2.2.1 s.2.2.2.2.1 s.2.2.2.2.2.1 s.2.2.2.2.2.2.1 s.2.2.2.2.2.2.2.1 s.2.2.2.2.2.2.2.2.1 s.2.2.2.2.2.2.2.2.2.1 s.2.2.2.2.2.2.2.2.2.2.1 s.2.2.2.2.2.2.2.2.2.2.2.1 s.2.2.2.2.2.2.2.2.2.2.2.2.1 s.2.2.2.2.2.2.2.2.2.2.2.2.2) (fun s => μ s.1 s.2.1 s.2.2.1 s.2.2.2.1 s.2.2.2.2.1 s.2.2.2.2.2.1 s.2.2.2.2.2.2.1 s.2.2.2.2.2.2.2.1 s.2.2.2.2.2.2.2.2.1 s.2.2.2.2.2.2.2.2.2.1 s.2.2.2.2.2.2.2.2.2.2.1 s.2.2.2.2.2.2.2.2.2.2.2.1 s.2.2.2.2.2.2.2.2.2.2.2.2.1 s.2.2.2.2.2.2.2.2.2.2.2.2.2) (fun n s hI hk => hs n s.1 s.2.1 s.2.2.1 s.2.2.2.1 s.2.2.2.2.1 s.2.2.2.2.2.1 s.2.2.2.2.2.2.1 s.2.2.2.2.2.2.2.1 s.2.2.2.2.2.2.2.2.1 s.2.2.2.2.2.2.2.2.2.1 s.2.2.2.2.2.2.2.2.2.2.1 s.2.2.2.2.2.2.2.2.2.2.2.1 s.2.2.2.2.2.2.2.2.2.2.2.2.1 s.2.2.2.2.2.2.2.2.2.2.2.2.2 hI (fun b1 b2 b3 b4 b5 b6 b7 b8 b9 b10 b11 b12 b13 b14 h9 hm => hk (b1, b2, b3, b4, b5, b6, b7, b8, b9, b10, b11, b12, b13, b14) h9 hm)) (a1, a2, a3, a4, a5, a6, a7, a8, a9, a10, a11, a12, a13, a14) h
theorem lp15 {A1 A2 A3 A4 A5 A6 A7 A8 A9 A10 A11 A12 A13 A14 A15 : Type} (W : Nat → A1 → A2 → A3 → A4 → A5 → A6 → A7 → A8 → A9 → A10 → A11 → A12 → A13 → A14 → A15 → Prop) (I : A1 → A2 → A3 → A4 → A5 → A6 → A7 → A8 → A9 → A10 → A11 → A12 → A13 → A14 → A15 → Prop) (μ : A1 → A2 → A3 → A4 → A5 → A6 → A7 → A8 → A9 → A10 → A11 → A12 → A13 → A14 → A15 → Nat) (hs : ∀ (n : Nat) (a1 : A1) (a2 : A2) (a3 : A3) (a4 : A4) (a5 : A5) (a6 : A6) (a7 : A7) (a8 : A8) (a9 : A9) (a10 : A10) (a11 : A11) (a12 : A12) (a13 : A13) (a14 : A14) (a15 : A15), I a1 a2 a3 a4 a5 a6 a7 a8 a9 a10 a11 a12 a13 a14 a15 → (∀ (b1 : A1) (b2 : A2) (b3 : A3) (b4 : A4) (b5 : A5) (b6 : A6) (b7 : A7) (b8 : A8) (b9 : A9) (b10 : A10) (b11 : A11) (b12 : A12) (b13 : A13) (b14 : A14) (b15 : A15), I b1 b2 b3 b4 b5 b6 b7 b8 b9 b10 b11 b12 b13 b14 b15 → μ b1 b2 b3 b4 b5 b6 b7 b8 b9 b10 b11 b12 b13 b14 b15 < μ a1 a2 a3 a4 a5 a6 a7 a8 a9 a10 a11 a12 a13 a14 a15 → W n b1 b2 b3 b4 b5 b6 b7 b8 b9 b10 b11 b12 b13 b14 b15) → W (n + 1) a1 a2 a3 a4 a5 a6 a7 a8 a9 a10 a11 a12 a13 a14 a15) (a1 : A1) (a2 : A2) (a3 : A3) (a4 : A4) (a5 : A5) (a6 : A6) (a7 : A7) (a8 : A8) (a9 : A9) (a10 : A10) (a11 : A11) (a12 : A12) (a13 : A13) (a14 : A14) (a15 : A15) (h : I a1 a2 a3 a4 a5 a6 a7 a8 a9 a10 a11 a12 a13 a14 a15) : ∃ n, W n a1 a2 a3 a4 a5 a6 a7 a8 a9 a10 a11 a12 a13 a14 a15 :=
  loop_m (σ := A1 × A2 × A3 × A4 × A5 × A6 × A7 × A8 × A9 × A10 × A11 × A12 × A13 × A14 × A15) (fun n s => W n s.1 s.2.1 s.2.2.1 s.2.2.2.1 s.2.2.2.2.1 s.2.2.2.2.2.1 s.2.2.2.2.2.2.1 s.2.2.2.2.2.2.2.1 s.2.2.2.2.2.2.2.2.1 s.2.2.2.2.2.2.2.2.2.1 s.2.2.2.2.2.2.2.2.2.2.1 s.2.2.2.2.2.2.2.2.2.2.2.1 s.2.2.2.2.2.2.2.2.2.2.2.2.1 s.2.2.2.2.2.2.2.2.2.2.2.2.2.1 s.2.2.2.2.2.2.2.2.2.2.2.2.2.2) (fun s => I s.1 s.2.1 s.2.2.1 s.2.2.2.1 s.2.2.2.2.1 s.2.2.2.2.2.1 s.2.2.2.2.2.2.1 s.2.2.2.2.2.2.2.1 s.2.2.2.2.2.2.2.2.1 s.2.2.2.2.2.2.2.2.2.1 s.2.2.2.2.2.2.2.2.2.2.1 s.2.2.2.2.2.2.2.2.2.2.2.1 s.2.2.2.2.2.2.2.2.2.2.2.2.1 s.2.2.2.2.2.2.2.2.2.2.2.2.2.1 s.2.2.2.2.2.2.2.2.2.2.2.2.2.2) (fun s => μ s.1 s.2.1 s.2.2.1 s.2.2.2.1 s.2.2.2.2.1 s.2.2.2.2.2.1 s.2.2.2.2.2.2.1 s.2.2.2.2.2.2.2.1 s.2.2.2.2.2.2.2.2.1 s.2.2.2.2.2.2.2.2.2.1 s.2.2.2.2.2.2.2.2.2.2.1 s.2.2.2.2.2.2.2.2.2.2.2.1 s.2.2.2.2.2.2.2.2.2.2.2.2.1 s.2.2.2.2.2.2.2.2.2.2.2.2.2.1 s.2.2.2.2.2.2.2.2.2.2.2.2.2.2) (fun n s hI hk => hs n s.1 s.2.1 s.2.2.1 s.2.2.2.1 s.2.2.2.2.1 s.2.2.2.2.2.1 s.2.2.2.2.2.2.1 s.2.2.2.2.2.2.2.1 s.2.2.2.2.2.2.2.2.1 s.2.2.2.2.2.2.2.2.2.1 s.2.2.2.2.2.2.2.2.2.2.1 s.2.2.2.2.2.2.2.2.2.2.2.1 s.2.2.2.2.2.2.2.2.2.2.2.2.1 s.2.2.2.2.2.2.2.2.2.2.2.2.2.1 s.2.2.2.2.2.2.2.2.2.2.2.2.2.2 hI (fun b1 b2 b3 b4 b5 b6 b7 b8 b9 b10 b11 b12 b13 b14 b15 h9 hm => hk (b1, b2, b3, b4, b5, b6, b7, b8, b9, b10, b11, b12, b13, b14, b15) h9 hm)) (a1, a2, a3, a4, a5, a6, a7, a8, a9, a10, a11, a12, a13, a14, a15) h
theorem lp16 {A1 A2 A3 A4 A5 A6 A7 A8 A9 A10 A11 A12 A13 A14 A15 A16 : Type} (W : Nat → A1 → A2 → A3 → A4 → A5 → A6 → A7 → A8 → A9 → A10 → A11 → A12 → A13 → A14 → A15 → A16 → Prop) (I : A1 → A2 → A3 → A4 → A5 → A6 → A7 → A8 → A9 → A10 → A11 → A12 → A13 → A14 → A15 → A16 → Prop) (μ : A1 → A2 → A3 → A4 → A5 → A6 → A7 → A8 → A9 → A10 → A11 → A12 → A13 → A14 → A15 → A16 → Nat) (hs : ∀ (n : Nat) (a1 : A1) (a2 : A2) (a3 : A3) (a4 : A4) (a5 : A5) (a6 : A6) (a7 : A7) (a8 : A8) (a9 : A9) (a10 : A10) (a11 : A11) (a12 : A12) (a13 : A13) (a14 : A14) (a15 : A15) (a16 : A16), I a1 a2 a3 a4 a5 a6 a7 a8 a9 a10 a11 a12 a13 a14 a15 a16 → (∀ (b1 : A1) (b2 : A2) (b3 : A3) (b4 : A4) (b5 : A5) (b6 : A6) (b7 : A7) (b8 : A8) (b9 : A9) (b10 : A10) (b11 : A11) (b12 : A12) (b13 : A13) (b14 : A14) (b15 : A15) (b16 : A16), I b1 b2 b3 b4 b5 b6 b7 b8 b9 b10 b11 b12 b13 b14 b15 b16 → μ b1 b2 b3 b4 b5 b6 b7 b8 b9 b10 b11 b12 b13 b14 b15 b16 < μ a1 a2 a3 a4 a5 a6 a7 a8 a9 a10 a11 a12 a13 a14 a15 a16 → W n b1 b2 b3 b4 b5 b6 b7 b8 b9 b10 b11 b12 b13 b14 b15 b16) → W (n + 1) a1 a2 a3 a4 a5 a6 a7 a8 a9 a10 a11 a12 a13 a14 a15 a16) (a1 : A1) (a2 : A2) (a3 : A3) (a4 : A4) (a5 : A5) (a6 : A6) (a7 : A7) (a8 : A8) (a9 : A9) (a10 : A10) (a11 : A11) (a12 : A12) (a13 : A13) (a14 : A14) (a15 : A15) (a16 : A16) (h : I a1 a2 a3 a4 a5 a6 a7 a8 a9 a10 a11 a12 a13 a14 a15 a16) : ∃ n, W n a1 a2 a3 a4 a5 a6 a7 a8 a9 a10 a11 a12 a13 a14 a15 a16 :=
  loop_m (σ := A1 × A2 × A3 × A4 × A5 × A6 × A7 × A8 × A9 × A10 × A11 × A12 × A13 × A14 × A15 × A16) (fun n s => W n s.1 s.2.1 s.2.2.1 s.2.2.2.1 s.2.2.2.2.1 s.2.2.2.2.2.1 s.2.2.2.2.2.2.1 s.2.2.2.2.2.2.2.1 s.2.2.2.2.2.2.2.2.1 s.2.2.2.2.2.2.2.2.2.1 s.2.2.2.2.2.2.2.2.2.2.1 s.2.2.2.2.2.2.2.2.2.2.2.1 s.2.2.2.2.2.2.2.2.2.2.2.2.1 s.2.2.2.2.2.2.2.2.2.2.2.2.2.1 s.2.2.2.2.2.2.2.2.2.2.2.2.2.2.1 s.2.2.2.2.2.2.2.2.2.2.2.2.2.2.2) (fun s => I s.1 s.2.1 s.2.2.1 s.2.2.2.1 s.2.2.2.2.1 s.2.2.2.2.2.1 s.2.2.2.2.2.2.1 s.2.2.2.2.2.2.2.1 s.2.2.2.2.2.2.2.2.1 s.2.2.2.2.2.2.2.2.2.1 s.2.2.2.2.2.2.2.2.2.2.1 s.2.2.2.2.2.2.2.2.2.2.2.1 s.2.2.2.2.2.2.2.2.2.2.2.2.1 s.2.2.2.2.2.2.2.2.2.2.2.2.2.1 s.2.2.2.2.2.2.2.2.2.2.2.2.2.2.1 s.2.2.2.2.2.2.2.2.2.2.2.2.2.2.2) (fun s => μ s.1 s.2.1 s.2.2.1 s.2.2.2.1 s.2.2.2.2.1 s.2.2.2.2.2.1 s.2.2.2.2.2.2.1 s.2.2.2.2.2.2.2.1 s.2.2.2.2.2.2.2.2.1 s.2.2.2.2.2.2.2.2.2.1 s.2.2.2.2.2.2.2.2.2.2.1 s.2.2.2.2.2.2.2.2.2.2.2.1 s.2.2.2.2.2.2.2.2.2.2.2.2.1 s.2.2.2.2.2.2.2.2.2.2.2.2.2.1 s.2.2.2.2.2.2.2.2.2.2.2.2.2.2.1 s.2.2.2.2.2.2.2.2.2.2.2.2.2.2.2) (fun n s hI hk => hs n s.1 s.2.1 s.2.2.1 s.2.2.2.1 s.2.2.2.2.1 s.2.2.2.2.2.1 s.2.2.2.2.2.2.1 s.2.2.2.2.2.2.2.1 s.2.2.2.2.2.2.2.2.1 s.2.2.2.2.2.2.2.2.2.1 s.2.2.2.2.2.2.2.2.2.2.1 s.2.2.2.2.2.2.2.2.2.2.2.1 s.2.2.2.2.2.2.2.2.2.2.2.2.1 s.2.2.2.2.2.2.2.2.2.2.2.2.2.1 s.2.2.2.2.2.2.2.2.2.2.2.2.2.2.1 s.2.2.2.2.2.2.2.2.2.2.2.2.2.2.2 hI (fun b1 b2 b3 b4 b5 b6 b7 b8 b9 b10 b11 b12 b13 b14 b15 b16 h9 hm => hk (b1, b2, b3, b4, b5, b6, b7, b8, b9, b10, b11, b12, b13, b14, b15, b16) h9 hm)) (a1, a2, a3, a4, a5, a6, a7, a8, a9, a10, a11, a12, a13, a14, a15, a16) h
theorem pk_least (P : Nat → Prop) (h : ∃ k, P k) : ∃ k, P k ∧ ∀ j, j < k → ¬ P j := by
  obtain ⟨k, hk⟩ := h
  induction k using Nat.strongRecOn with
  | ind k ih =>
    by_cases e : ∃ j, j < k ∧ P j
    · obtain ⟨j, hj, pj⟩ := e
      exact ih j hj pj
    · exact ⟨k, hk, fun j hj pj => e ⟨j, hj, pj⟩⟩
theorem rp1 {ρ A1 : Type} (W : Nat → (ρ → Prop) → A1 → Prop) (ok : A1 → Prop) (μ : A1 → Nat) (val : A1 → ρ)
    (hs : ∀ (d : Nat) (post : ρ → Prop) (a1 : A1), ok a1 → post (val a1) → (∀ (post' : ρ → Prop) (b1 : A1), ok b1 → μ b1 < μ a1 → post' (val b1) → W d post' b1) → W (d + 1) post a1) :
    ∀ (d : Nat) (post : ρ → Prop) (a1 : A1), ok a1 → μ a1 < d → post (val a1) → W d post a1 := by
  intro d
  induction d with
  | zero => intro post a1 _ h; omega
  | succ d ih =>
    intro post a1 ho hm hp
    exact hs d post a1 ho hp (fun post' b1 ho' hm' hp' => ih post' b1 ho' (by omega) hp')
theorem rp2 {ρ A1 A2 : Type} (W : Nat → (ρ → Prop) → A1 → A2 → Prop) (ok : A1 → A2 → Prop) (μ : A1 → A2 → Nat) (val : A1 → A2 → ρ)
    (hs : ∀ (d : Nat) (post : ρ → Prop) (a1 : A1) (a2 : A2), ok a1 a2 → post (val a1 a2) → (∀ (post' : ρ → Prop) (b1 : A1) (b2 : A2), ok b1 b2 → μ b1 b2 < μ a1 a2 → post' (val b1 b2) → W d post' b1 b2) → W (d + 1) post a1 a2) :
    ∀ (d : Nat) (post : ρ → Prop) (a1 : A1) (a2 : A2), ok a1 a2 → μ a1 a2 < d → post (val a1 a2) → W d post a1 a2 := by
  intro d
  induction d with
  | zero => intro post a1 a2 _ h; omega
  | succ d ih =>
    intro post a1 a2 ho hm hp
    exact hs d post a1 a2 ho hp (fun post' b1 b2 ho' hm' hp' => ih post' b1 b2 ho' (by omega) hp')
theorem rp3 {ρ A1 A2 A3 : Type} (W : Nat → (ρ → Prop) → A1 → A2 → A3 → Prop) (ok : A1 → A2 → A3 → Prop) (μ : A1 → A2 → A3 → Nat) (val : A1 → A2 → A3 → ρ)
    (hs : ∀ (d : Nat) (post : ρ → Prop) (a1 : A1) (a2 : A2) (a3 : A3), ok a1 a2 a3 → post (val a1 a2 a3) → (∀ (post' : ρ → Prop) (b1 : A1) (b2 : A2) (b3 : A3), ok b1 b2 b3 → μ b1 b2 b3 < μ a1 a2 a3 → post' (val b1 b2 b3) → W d post' b1 b2 b3) → W (d + 1) post a1 a2 a3) :
    ∀ (d : Nat) (post : ρ → Prop) (a1 : A1) (a2 : A2) (a3 : A3), ok a1 a2 a3 → μ a1 a2 a3 < d → post (val a1 a2 a3) → W d post a1 a2 a3 := by
  intro d
  induction d with
  | zero => intro post a1 a2 a3 _ h; omega
  | succ d ih =>
    intro post a1 a2 a3 ho hm hp
    exact hs d post a1 a2 a3 ho hp (fun post' b1 b2 b3 ho' hm' hp' => ih post' b1 b2 b3 ho' (by omega) hp')
theorem rp4 {ρ A1 A2 A3 A4 : Type} (W : Nat → (ρ → Prop) → A1 → A2 → A3 → A4 → Prop) (ok : A1 → A2 → A3 → A4 → Prop) (μ : A1 → A2 → A3 → A4 → Nat) (val : A1 → A2 → A3 → A4 → ρ)
    (hs : ∀ (d : Nat) (post : ρ → Prop) (a1 : A1) (a2 : A2) (a3 : A3) (a4 : A4), ok a1 a2 a3 a4 → post (val a1 a2 a3 a4) → (∀ (post' : ρ → Prop) (b1 : A1) (b2 : A2) (b3 : A3) (b4 : A4), ok b1 b2 b3 b4 → μ b1 b2 b3 b4 < μ a1 a2 a3 a4 → post' (val b1 b2 b3 b4) → W d post' b1 b2 b3 b4) → W (d + 1) post a1 a2 a3 a4) :
    ∀ (d : Nat) (post : ρ → Prop) (a1 : A1) (a2 : A2) (a3 : A3) (a4 : A4), ok a1 a2 a3 a4 → μ a1 a2 a3 a4 < d → post (val a1 a2 a3 a4) → W d post a1 a2 a3 a4 := by
  intro d
  induction d with
  | zero => intro post a1 a2 a3 a4 _ h; omega
  | succ d ih =>
    intro post a1 a2 a3 a4 ho hm hp
    exact hs d post a1 a2 a3 a4 ho hp (fun post' b1 b2 b3 b4 ho' hm' hp' => ih post' b1 b2 b3 b4 ho' (by omega) hp')
theorem rp5 {ρ A1 A2 A3 A4 A5 : Type} (W : Nat → (ρ → Prop) → A1 → A2 → A3 → A4 → A5 → Prop) (ok : A1 → A2 → A3 → A4 → A5 → Prop) (μ : A1 → A2 → A3 → A4 → A5 → Nat) (val : A1 → A2 → A3 → A4 → A5 → ρ)
    (hs : ∀ (d : Nat) (post : ρ → Prop) (a1 : A1) (a2 : A2) (a3 : A3) (a4 : A4) (a5 : A5), ok a1 a2 a3 a4 a5 → post (val a1 a2 a3 a4 a5) → (∀ (post' : ρ → Prop) (b1 : A1) (b2 : A2) (b3 : A3) (b4 : A4) (b5 : A5), ok b1 b2 b3 b4 b5 → μ b1 b2 b3 b4 b5 < μ a1 a2 a3 a4 a5 → post' (val b1 b2 b3 b4 b5) → W d post' b1 b2 b3 b4 b5) → W (d + 1) post a1 a2 a3 a4 a5) :
    ∀ (d : Nat) (post : ρ → Prop) (a1 : A1) (a2 : A2) (a3 : A3) (a4 : A4) (a5 : A5), ok a1 a2 a3 a4 a5 → μ a1 a2 a3 a4 a5 < d → post (val a1 a2 a3 a4 a5) → W d post a1 a2 a3 a4 a5 := by
  intro d
  induction d with
  | zero => intro post a1 a2 a3 a4 a5 _ h; omega
  | succ d ih =>
    intro post a1 a2 a3 a4 a5 ho hm hp
    exact hs d post a1 a2 a3 a4 a5 ho hp (fun post' b1 b2 b3 b4 b5 ho' hm' hp' => ih post' b1 b2 b3 b4 b5 ho' (by omega) hp')
theorem rp6 {ρ A1 A2 A3 A4 A5 A6 : Type} (W : Nat → (ρ → Prop) → A1 → A2 → A3 → A4 → A5 → A6 → Prop) (ok : A1 → A2 → A3 → A4 → A5 → A6 → Prop) (μ : A1 → A2 → A3 → A4 → A5 → A6 → Nat) (val : A1 → A2 → A3 → A4 → A5 → A6 → ρ)
    (hs : ∀ (d : Nat) (post : ρ → Prop) (a1 : A1) (a2 : A2) (a3 : A3) (a4 : A4) (a5 : A5) (a6 : A6), ok a1 a2 a3 a4 a5 a6 → post (val a1 a2 a3 a4 a5 a6) → (∀ (post' : ρ → Prop) (b1 : A1) (b2 : A2) (b3 : A3) (b4 : A4) (b5 : A5) (b6 : A6), ok b1 b2 b3 b4 b5 b6 → μ b1 b2 b3 b4 b5 b6 < μ a1 a2 a3 a4 a5 a6 → post' (val b1 b2 b3 b4 b5 b6) → W d post' b1 b2 b3 b4 b5 b6) → W (d + 1) post a1 a2 a3 a4 a5 a6) :
    ∀ (d : Nat) (post : ρ → Prop) (a1 : A1) (a2 : A2) (a3 : A3) (a4 : A4) (a5 : A5) (a6 : A6), ok a1 a2 a3 a4 a5 a6 → μ a1 a2 a3 a4 a5 a6 < d → post (val a1 a2 a3 a4 a5 a6) → W d post a1 a2 a3 a4 a5 a6 := by
  intro d
  induction d with
  | zero => intro post a1 a2 a3 a4 a5 a6 _ h; omega
  | succ d ih =>
    intro post a1 a2 a3 a4 a5 a6 ho hm hp
    exact hs d post a1 a2 a3 a4 a5 a6 ho hp (fun post' b1 b2 b3 b4 b5 b6 ho' hm' hp' => ih post' b1 b2 b3 b4 b5 b6 ho' (by omega) hp')
theorem rec_p {σ ρ : Type} (W : Nat → (ρ → Prop) → σ → Prop) (ok : σ → Prop) (μ : σ → Nat) (val : σ → ρ)
    (hs : ∀ d s post, ok s → post (val s) → (∀ s' post', ok s' → μ s' < μ s → post' (val s') → W d post' s') → W (d + 1) post s) :
    ∀ d s post, ok s → μ s < d → post (val s) → W d post s := by
  intro d
  induction d with
  | zero => intro s post _ h; omega
  | succ d ih =>
    intro s post ho hm hp
    exact hs d s post ho hp (fun s' post' ho' hm' hp' => ih s' post' ho' (by omega) hp')
theorem rec_q {σ ρ : Type} (W : Nat → (ρ → Prop) → σ → Prop) (ok : σ → Prop) (μ : σ → Nat) (Q : σ → ρ → Prop)
    (hs : ∀ d s post, ok s → (∀ r, Q s r → post r) → (∀ s' post', ok s' → μ s' < μ s → (∀ r, Q s' r → post' r) → W d post' s') → W (d + 1) post s) :
    ∀ d s post, ok s → μ s < d → (∀ r, Q s r → post r) → W d post s := by
  intro d
  induction d with
  | zero => intro s post _ h; omega
  | succ d ih =>
    intro s post ho hm hp
    exact hs d s post ho hp (fun s' post' ho' hm' hp' => ih s' post' ho' (by omega) hp')
def bx_sum (f : Nat → Int32) : Nat → Int32
  | 0 => 0
  | n + 1 => bx_sum f n + f n
theorem ek_u {A : Prop} {B : Nat → Prop} {k N : Nat} (hk : k < N) (h : B k) : (some k = none → A) ∧ (∀ y : Nat, some k = some y → (y < N ∧ B y)) :=
  ⟨fun z => absurd z (Option.some_ne_none k), fun _ e => (by cases e; exact ⟨hk, h⟩)⟩
theorem ek_nu {A : Prop} {B : Nat → Prop} (h : A) : ((none : Option Nat) = none → A) ∧ (∀ y : Nat, (none : Option Nat) = some y → B y) :=
  ⟨fun _ => h, fun _ e => (by cases e)⟩
theorem ek_if {c d A B : Prop} (e : c ↔ d) (f : d → A) (g : ¬ d → B) : (c → A) ∧ (¬ c → B) :=
  ⟨fun z => f (e.mp z), fun z => g (fun y => z (e.mpr y))⟩
theorem ek_v {α : Sort _} {P : α → Prop} {a b : α} (e : a = b) (h : P b) : P a := e ▸ h
theorem co_some {x : Option Nat} {A : Prop} {B : Nat → Prop} (i : Nat) (h : B i) (hx : x = some i := by rfl) : (x = none → A) ∧ (∀ y : Nat, x = some y → B y) := by
  subst hx
  exact ⟨fun e => (nomatch e), fun y e => Option.some.inj e ▸ h⟩
theorem co_none {x : Option Nat} {A : Prop} {B : Nat → Prop} (h : A) (hx : x = none := by rfl) : (x = none → A) ∧ (∀ y : Nat, x = some y → B y) := by
  subst hx
  exact ⟨fun _ => h, fun y e => (nomatch e)⟩
theorem co_any {x : Option Nat} {A : Prop} {B : Nat → Prop} (hn : x = none → A) (hs : ∀ i : Nat, x = some i → B i) : (x = none → A) ∧ (∀ y : Nat, x = some y → B y) := ⟨hn, hs⟩
theorem co_2 {P : Nat → Prop} (h0 : P 0) (h1 : P 1) {i : Nat} (hi : i < 2) : P i :=
  match i, hi with
  | 0, _ => h0
  | 1, _ => h1
theorem co_3 {P : Nat → Prop} (h0 : P 0) (h1 : P 1) (h2 : P 2) {i : Nat} (hi : i < 3) : P i :=
  match i, hi with
  | 0, _ => h0
  | 1, _ => h1
  | 2, _ => h2
theorem co_4 {P : Nat → Prop} (h0 : P 0) (h1 : P 1) (h2 : P 2) (h3 : P 3) {i : Nat} (hi : i < 4) : P i :=
  match i, hi with
  | 0, _ => h0
  | 1, _ => h1
  | 2, _ => h2
  | 3, _ => h3
theorem co_dec {N : Nat} {P : Nat → Prop} [DecidablePred P] (h : (List.range N).all (fun i => decide (P i)) = true) {i : Nat} (hi : i < N) : P i := by
  have := List.all_eq_true.mp h i (List.mem_range.mpr hi)
  exact of_decide_eq_true this
theorem co_tab {α : Type} {l : List α} {d : α} {P : α → Prop} (h : ∀ a, a ∈ l → P a) {i : Nat} (hi : i < l.length) : P (l.getD i d) := by
  rw [List.getD_eq_getElem?_getD, List.getElem?_eq_getElem hi]
  exact h _ (List.getElem_mem hi)
theorem pk_mu {x : Int32} {L : Nat} (h0 : ¬ x < 0) (h : ¬ nI L ≤ x) (hL : L < 2 ^ 31) : ∃ j : Nat, j < L ∧ x = nI j ∧ x + 1 = nI (j + 1) ∧ x.toNatClampNeg = j ∧ L - (x + 1).toNatClampNeg < L - x.toNatClampNeg := by
  obtain ⟨j, hj, rfl⟩ := nI_of h0
  have hl : j < L := Nat.not_le.mp fun q => h (nI_le q hj)
  refine ⟨j, hl, rfl, nI_1 j, nI_clamp hj, ?_⟩
  rw [nI_1, nI_clamp (by omega), nI_clamp hj]
  omega
theorem op_s {α : Type} {r : Option α} {A : Prop} {B : α → Prop} {y : α} (h : r = some y) (b : B y) : (r = none → A) ∧ ∀ z, r = some z → B z :=
  ⟨fun e => (by rw [h] at e; cases e), fun z e => (by rw [h] at e; cases e; exact b)⟩
def l_holds {α : Type} (a : Nat → Option Nat) (LP : List Nat) (p : Nat → α) (c : Nat) (b : Nat → α) : Prop :=
  ∀ j, j < c → ∃ y, a j = some y ∧ y ∈ LP ∧ p y = b j
theorem l_holds_0 {α : Type} {a : Nat → Option Nat} {LP : List Nat} {p b : Nat → α} : l_holds a LP p 0 b := fun j h => absurd h (Nat.not_lt_zero j)
theorem l_in_new (LP : List Nat) (q : Nat) : q ∈ LP ++ [q] := List.mem_append.mpr (Or.inr (List.mem_singleton.mpr rfl))
def l_sum (b : Nat → Int32) : Nat → Int32
  | 0 => 0
  | k + 1 => l_sum b k + b k
theorem sb_shr0 (x : Int32) : x >>> ((0 : Int32) &&& 31) = x := by
  rw [show ((0 : Int32) &&& 31) = 0 by decide]
  simp
theorem sb_shl0 (x : Int32) : x <<< ((0 : Int32) &&& 31) = x := by
  rw [show ((0 : Int32) &&& 31) = 0 by decide]
  simp
theorem sb_cl0 : (0 : Int32).toNatClampNeg = 0 := by decide
theorem sb_m1 {p : Nat} (h : 0 < p) : nI p + (-1) = nI (p - 1) := by
  obtain ⟨q, rfl⟩ : ∃ q, p = q + 1 := ⟨p - 1, by omega⟩
  exact pk_m1 q
def sb_b (c : Nat) : Int32 := (nI c).toInt8.toInt32
theorem sb_byte : ∀ c, c < 256 → sb_b c &&& 255 = nI c ∧ ((nI c).toUInt32 % 65536).toInt32 = nI c ∧ nI c ≤ 255 := by decide +kernel
def sb_Fit (a : Nat → Int32) : Prop := ∀ j, fits .byte (.int (a j)) = true
def sb_Lat (t : Nat → Nat) (n : Nat) (a : Nat → Int32) : Prop := ∀ j, j < n → t j < 256 ∧ a j = sb_b (t j)
theorem sb_fitB (c : Nat) : fits .byte (.int (sb_b c)) = true := pk_fb _
theorem sb_fit0 : sb_Fit (fun _ => 0) := fun _ => by
  show fits .byte (.int 0) = true
  decide
theorem sb_fitU {a : Nat → Int32} {k : Nat} {x : Int32} (h : sb_Fit a) (hx : fits .byte (.int x) = true) : sb_Fit (upd a k x) := by
  intro j
  by_cases e : j = k
  · subst e
    rw [pk_us]
    exact hx
  · rw [pk_un e]
    exact h j
def sb_cat (t : Nat → Nat) (n : Nat) (s : Nat → Nat) : Nat → Nat := fun j => if j < n then t j else s (j - n)
theorem sb_cat_lo {t s : Nat → Nat} {n j : Nat} (h : j < n) : sb_cat t n s j = t j := if_pos h
theorem sb_cat_hi {t s : Nat → Nat} {n j : Nat} : sb_cat t n s (n + j) = s j := by
  show (if n + j < n then t (n + j) else s (n + j - n)) = s j
  rw [if_neg (by omega), Nat.add_sub_cancel_left]
theorem sb_latPut {t s : Nat → Nat} {n w : Nat} {a a' : Nat → Int32} (h : sb_Lat t n a) (hk : ∀ j, j < n → a' j = a j) (hs : ∀ i, i < w → s i < 256 ∧ a' (n + i) = sb_b (s i)) : sb_Lat (sb_cat t n s) (n + w) a' := by
  intro j hj
  by_cases e : j < n
  · rw [sb_cat_lo e, hk j e]
    exact h j e
  · obtain ⟨i, rfl⟩ : ∃ i, j = n + i := ⟨j - n, by omega⟩
    rw [sb_cat_hi]
    exact hs i (by omega)
theorem sb_latKeep {t : Nat → Nat} {n : Nat} {a a' : Nat → Int32} (h : sb_Lat t n a) (hk : ∀ j, j < n → a' j = a j) : sb_Lat t n a' := fun j hj => by
  rw [hk j hj]
  exact h j hj
def sb_cap (q m : Nat) : Nat := if q ≤ m then m else if 2 * m + 2 < q then q else 2 * m + 2
def sb_Room (q m mc ms : Nat) : Prop := q ≤ m ∨ (1 ≤ mc ∧ sb_cap q m ≤ ms ∧ sb_cap q m ≤ 65536)
theorem sb_cap_ge (q m : Nat) : q ≤ sb_cap q m := by
  unfold sb_cap
  split
  · omega
  · split <;> omega
theorem sb_cap_gem (q m : Nat) : m ≤ sb_cap q m := by
  unfold sb_cap
  split
  · omega
  · split <;> omega
theorem sb_cap_le {q m mc ms : Nat} (hm : m ≤ 65536) (hr : sb_Room q m mc ms) : sb_cap q m ≤ 65536 := by
  rcases hr with h | h
  · rw [sb_cap, if_pos h]
    exact hm
  · exact h.2.2
theorem sb_at {P : Int32 → Prop} {x y : Int32} (e : x = y) (h : P y) : P x := e ▸ h
def sb_dg (w : Nat) : Nat := if w < 10 then 1 else if w < 100 then 2 else if w < 1000 then 3 else if w < 10000 then 4 else if w < 100000 then 5 else if w < 1000000 then 6 else if w < 10000000 then 7 else if w < 100000000 then 8 else if w < 1000000000 then 9 else 10
def sb_dec (v : Nat) : Nat → Nat := fun i => 48 + v / 10 ^ (sb_dg v - 1 - i) % 10
theorem sb_dg_in (w : Nat) : 1 ≤ sb_dg w ∧ sb_dg w ≤ 10 := by
  unfold sb_dg
  constructor <;> (repeat' split) <;> omega
theorem sb_dg100 {w : Nat} (h : 100 ≤ w) (hw : w < 2 ^ 31) : sb_dg w = sb_dg (w / 100) + 2 := by
  rw [sb_dg, sb_dg, if_neg (show ¬ w < 10 by omega), if_neg (show ¬ w < 100 by omega)]
  by_cases h3 : w < 1000
  · rw [if_pos h3, if_pos (show w / 100 < 10 by omega)]
  rw [if_neg h3, if_neg (show ¬ w / 100 < 10 by omega)]
  by_cases h4 : w < 10000
  · rw [if_pos h4, if_pos (show w / 100 < 100 by omega)]
  rw [if_neg h4, if_neg (show ¬ w / 100 < 100 by omega)]
  by_cases h5 : w < 100000
  · rw [if_pos h5, if_pos (show w / 100 < 1000 by omega)]
  rw [if_neg h5, if_neg (show ¬ w / 100 < 1000 by omega)]
  by_cases h6 : w < 1000000
  · rw [if_pos h6, if_pos (show w / 100 < 10000 by omega)]
  rw [if_neg h6, if_neg (show ¬ w / 100 < 10000 by omega)]
  by_cases h7 : w < 10000000
  · rw [if_pos h7, if_pos (show w / 100 < 100000 by omega)]
  rw [if_neg h7, if_neg (show ¬ w / 100 < 100000 by omega)]
  by_cases h8 : w < 100000000
  · rw [if_pos h8, if_pos (show w / 100 < 1000000 by omega)]
  rw [if_neg h8, if_neg (show ¬ w / 100 < 1000000 by omega)]
  by_cases h9 : w < 1000000000
  · rw [if_pos h9, if_pos (show w / 100 < 10000000 by omega)]
  rw [if_neg h9, if_neg (show ¬ w / 100 < 10000000 by omega)]
  rw [if_pos (show w / 100 < 100000000 by omega)]
theorem sb_negT {w : Nat} (h : w < 2 ^ 31) : (-nI w).toInt = -(w : Int) := by
  rw [Int32.toInt_neg, nI_toInt h]
  exact Int.bmod_eq_of_le (by omega) (by omega)
theorem sb_nle {a b : Nat} (ha : a < 2 ^ 31) (hb : b < 2 ^ 31) : -nI a ≤ -nI b ↔ b ≤ a := by
  rw [Int32.le_iff_toInt_le, sb_negT ha, sb_negT hb]
  omega
theorem sb_nlt {a b : Nat} (ha : a < 2 ^ 31) (hb : b < 2 ^ 31) : -nI a < -nI b ↔ b < a := by
  rw [Int32.lt_iff_toInt_lt, sb_negT ha, sb_negT hb]
  omega
theorem sb_cmp {A B : Prop} {x : Int32} (v c : Nat) (f : c ≤ v → A) (g : v < c → B) (hv : v < 2 ^ 31) (hx : x = -nI c := by rfl) (hc : c < 2 ^ 31 := by omega) : (-nI v ≤ x → A) ∧ (¬ -nI v ≤ x → B) := by
  subst hx
  rw [sb_nle hv hc]
  exact ⟨f, fun z => g (by omega)⟩
theorem sb_ndiv {w : Nat} (hw : w < 2 ^ 31) : (-nI w) / 100 = -nI (w / 100) := by
  apply Int32.toInt_inj.mp
  have h100 : (100 : Int32).toInt = 100 := by decide
  rw [Int32.toInt_div, sb_negT hw, h100, sb_negT (by omega), Int.neg_tdiv, Int.tdiv_eq_ediv_of_nonneg (by omega), Int.bmod_eq_of_le (by omega) (by omega)]
  omega
theorem sb_nrem {w : Nat} (hw : w < 2 ^ 31) : (-nI (w / 100)) * 100 - (-nI w) = nI (w % 100) := by
  have h := pk_rem (a := w) (d := 100) hw (by decide) (by decide)
  rw [pk_div hw (by decide) (by decide)] at h
  rw [← h]
  show (-nI (w / 100)) * nI 100 - (-nI w) = nI w - nI (w / 100) * nI 100
  rw [Int32.neg_mul, Int32.sub_neg, Int32.add_comm, ← Int32.sub_eq_add_neg]
end
section
/-! numbers of any sign: zI, zL are ring maps from Int; only comparisons and divisions ask for a range -/
def zI (z : Int) : Int32 := Int32.ofInt z
def zL (z : Int) : Int64 := Int64.ofInt z
theorem zI_add (a b : Int) : zI a + zI b = zI (a + b) := (Int32.ofInt_add a b).symm
theorem zI_sub (a b : Int) : zI a - zI b = zI (a - b) := (Int32.ofInt_sub a b).symm
theorem zI_mul (a b : Int) : zI a * zI b = zI (a * b) := (Int32.ofInt_mul a b).symm
theorem zI_neg (a : Int) : -zI a = zI (-a) := (Int32.ofInt_neg a).symm
theorem zI_of (x : Int32) : x = zI x.toInt := (Int32.ofInt_toInt x).symm
theorem zI_n (n : Nat) : nI n = zI n := Int32.ofInt_eq_ofNat.symm
theorem zI_t {z : Int} (h : -2147483648 ≤ z) (h' : z < 2147483648) : (zI z).toInt = z :=
  Int32.toInt_ofInt_of_le (by have : (2 : Int) ^ 31 = 2147483648 := by decide
                              omega) (by have : (2 : Int) ^ 31 = 2147483648 := by decide
                                         omega)
theorem zI_le {a b : Int} (a1 : -2147483648 ≤ a) (a2 : a < 2147483648) (b1 : -2147483648 ≤ b) (b2 : b < 2147483648) : zI a ≤ zI b ↔ a ≤ b := by
  rw [Int32.le_iff_toInt_le, zI_t a1 a2, zI_t b1 b2]
theorem zI_lt {a b : Int} (a1 : -2147483648 ≤ a) (a2 : a < 2147483648) (b1 : -2147483648 ≤ b) (b2 : b < 2147483648) : zI a < zI b ↔ a < b := by
  rw [Int32.lt_iff_toInt_lt, zI_t a1 a2, zI_t b1 b2]
theorem zI_eq {a b : Int} (a1 : -2147483648 ≤ a) (a2 : a < 2147483648) (b1 : -2147483648 ≤ b) (b2 : b < 2147483648) : zI a = zI b ↔ a = b := by
  rw [← Int32.toInt_inj, zI_t a1 a2, zI_t b1 b2]
theorem zI_cl {z : Int} (h : 0 ≤ z) (h' : z < 2147483648) : (zI z).toNatClampNeg = z.toNat := by
  obtain ⟨n, rfl⟩ := Int.eq_ofNat_of_zero_le h
  rw [← zI_n, nI_clamp (by omega)]; rfl
theorem zI_nat {z : Int} (h : 0 ≤ z) : zI z = nI z.toNat := by
  rw [zI_n, Int.toNat_of_nonneg h]
theorem zI_div {a b : Int} (a1 : -2147483648 ≤ a) (a2 : a < 2147483648) (b1 : -2147483648 ≤ b) (b2 : b < 2147483648) : zI a / zI b = zI (a.tdiv b) := by
  apply Int32.toInt_inj.mp
  rw [Int32.toInt_div, zI_t a1 a2, zI_t b1 b2]
  exact (Int32.toInt_ofInt).symm
theorem zI_rem {a b : Int} (a1 : -2147483648 ≤ a) (a2 : a < 2147483648) (b1 : -2147483648 ≤ b) (b2 : b < 2147483648) : zI a - zI a / zI b * zI b = zI (a.tmod b) := by
  rw [zI_div a1 a2 b1 b2, zI_mul, zI_sub]
  have h := Int.mul_tdiv_add_tmod a b
  exact congrArg zI (by rw [Int.mul_comm]; omega)
theorem zI_r (x : Int32) : -2147483648 ≤ x.toInt ∧ x.toInt < 2147483648 := ⟨x.le_toInt, x.toInt_lt⟩
theorem zL_add (a b : Int) : zL a + zL b = zL (a + b) := (Int64.ofInt_add a b).symm
theorem zL_sub (a b : Int) : zL a - zL b = zL (a - b) := (Int64.ofInt_sub a b).symm
theorem zL_mul (a b : Int) : zL a * zL b = zL (a * b) := (Int64.ofInt_mul a b).symm
theorem zL_neg (a : Int) : -zL a = zL (-a) := (Int64.ofInt_neg a).symm
theorem zL_of (x : Int64) : x = zL x.toInt := (Int64.ofInt_toInt x).symm
theorem zL_n (n : Nat) : lN n = zL n := Int64.ofInt_eq_ofNat.symm
theorem zL_t {z : Int} (h : -9223372036854775808 ≤ z) (h' : z < 9223372036854775808) : (zL z).toInt = z :=
  Int64.toInt_ofInt_of_le (by have : (2 : Int) ^ 63 = 9223372036854775808 := by decide
                              omega) (by have : (2 : Int) ^ 63 = 9223372036854775808 := by decide
                                         omega)
theorem zL_le {a b : Int} (a1 : -9223372036854775808 ≤ a) (a2 : a < 9223372036854775808) (b1 : -9223372036854775808 ≤ b) (b2 : b < 9223372036854775808) : zL a ≤ zL b ↔ a ≤ b := by
  rw [Int64.le_iff_toInt_le, zL_t a1 a2, zL_t b1 b2]
theorem zL_lt {a b : Int} (a1 : -9223372036854775808 ≤ a) (a2 : a < 9223372036854775808) (b1 : -9223372036854775808 ≤ b) (b2 : b < 9223372036854775808) : zL a < zL b ↔ a < b := by
  rw [Int64.lt_iff_toInt_lt, zL_t a1 a2, zL_t b1 b2]
theorem zL_eq {a b : Int} (a1 : -9223372036854775808 ≤ a) (a2 : a < 9223372036854775808) (b1 : -9223372036854775808 ≤ b) (b2 : b < 9223372036854775808) : zL a = zL b ↔ a = b := by
  rw [← Int64.toInt_inj, zL_t a1 a2, zL_t b1 b2]
theorem zL_div {a b : Int} (a1 : -9223372036854775808 ≤ a) (a2 : a < 9223372036854775808) (b1 : -9223372036854775808 ≤ b) (b2 : b < 9223372036854775808) : zL a / zL b = zL (a.tdiv b) := by
  apply Int64.toInt_inj.mp
  rw [Int64.toInt_div, zL_t a1 a2, zL_t b1 b2]
  exact (Int64.toInt_ofInt).symm
theorem zL_rem {a b : Int} (a1 : -9223372036854775808 ≤ a) (a2 : a < 9223372036854775808) (b1 : -9223372036854775808 ≤ b) (b2 : b < 9223372036854775808) : zL a - zL a / zL b * zL b = zL (a.tmod b) := by
  rw [zL_div a1 a2 b1 b2, zL_mul, zL_sub]
  have h := Int.mul_tdiv_add_tmod a b
  exact congrArg zL (by rw [Int.mul_comm]; omega)
theorem zI_l {z : Int} (h : -2147483648 ≤ z) (h' : z < 2147483648) : (zI z).toInt64 = zL z :=
  Int32.toInt64_ofInt (by rw [show Int32.minValue.toInt = -2147483648 from by decide]; exact h) (by rw [show Int32.maxValue.toInt = 2147483647 from by decide]; omega)
theorem zL_i (z : Int) : (zL z).toInt32 = zI z := Int64.toInt32_ofInt
theorem zI_x64 (x : Int32) : x.toInt64 = zL x.toInt := by
  have h := zI_r x
  conv => lhs; rw [zI_of x]
  exact zI_l h.1 h.2
theorem zI_0 : (0 : Int32) = zI 0 := by decide
theorem zI_1 : (1 : Int32) = zI 1 := by decide
theorem zL_0 : (0 : Int64) = zL 0 := by decide
theorem zL_1 : (1 : Int64) = zL 1 := by decide
/-! index arithmetic -/
theorem nx_m2 (a : Nat) : 2 * nI a = nI (2 * a) := pk_mul 2 a
theorem nx_6m (a : Nat) : 6 * nI a = nI (6 * a) := pk_mul 6 a
theorem nx_m3 (a : Nat) : nI a * 3 = nI (a * 3) := pk_mul a 3
theorem nx_m4 (a : Nat) : nI a * 4 = nI (a * 4) := pk_mul a 4
theorem nx_m6 (a : Nat) : nI a * 6 = nI (a * 6) := pk_mul a 6
theorem nx_m8 (a : Nat) : nI a * 8 = nI (a * 8) := pk_mul a 8
theorem nx_m15 (a : Nat) : nI a * 15 = nI (a * 15) := pk_mul a 15
theorem nx_m40 (a : Nat) : nI a * 40 = nI (a * 40) := pk_mul a 40
theorem nx_m64 (a : Nat) : nI a * 64 = nI (a * 64) := pk_mul a 64
theorem nx_m225 (a : Nat) : nI a * 225 = nI (a * 225) := pk_mul a 225
theorem nx_a2 (a : Nat) : nI a + 2 = nI (a + 2) := nI_add a 2
theorem nx_a3 (a : Nat) : nI a + 3 = nI (a + 3) := nI_add a 3
theorem nx_a4 (a : Nat) : nI a + 4 = nI (a + 4) := nI_add a 4
theorem nx_3a (a : Nat) : 3 + nI a = nI (3 + a) := nI_add 3 a
theorem nx_s1 {a : Nat} (h : 1 ≤ a) : nI a - 1 = nI (a - 1) := pk_sub h
theorem vx_n {x : Int32} (n : Nat) {N : Nat} (e : x = nI n) (h : n < N) (hN : N < 2147483648) : vp_in x N := by
  rw [e]; exact vp_in_nI h (by omega)
theorem cx_n {x : Int32} (n : Nat) (e : x = nI n) (h : n < 2147483648) : x.toNatClampNeg = n := by
  rw [e]; exact nI_clamp (by omega)
theorem vx_z {z : Int} {N : Nat} (h : 0 ≤ z) (h' : z < N) (hN : N < 2147483648) : vp_in (zI z) N := by
  rw [vp_in_iff, zI_t (by omega) (by omega)]; exact ⟨h, h'⟩
theorem ti_le {a b : Int32} : a ≤ b ↔ a.toInt ≤ b.toInt := Int32.le_iff_toInt_le
theorem ti_lt {a b : Int32} : a < b ↔ a.toInt < b.toInt := Int32.lt_iff_toInt_lt
theorem ti_eq {a b : Int32} : a = b ↔ a.toInt = b.toInt := Int32.toInt_inj.symm
/-! floor division -/
theorem fl_pos {a b q r : Int} (h : a = b * q + r) (h0 : 0 ≤ r) (h1 : r < b) : a / b = q := by
  have hb : 0 < b := by omega
  have := Int.ediv_emod_unique hb (a := a) (q := q) (r := r)
  exact (this.mpr ⟨by omega, h0, h1⟩).1
theorem fl_t {a b : Int} (hb : 0 < b) : a / b = if 0 ≤ a.tmod b then a.tdiv b else a.tdiv b - 1 := by
  have h := Int.mul_tdiv_add_tmod a b
  have h1 := Int.tmod_lt_of_pos a hb
  have h2 : -b < a.tmod b := by
    have := Int.lt_tmod_of_pos a hb
    omega
  split
  · exact fl_pos h.symm (by assumption) h1
  · have e : b * (a.tdiv b - 1) = b * a.tdiv b - b := by rw [Int.mul_sub, Int.mul_one]
    exact fl_pos (r := a.tmod b + b) (by rw [e]; omega) (by omega) (by omega)
theorem fl_le {a b t : Int} (hb : 0 < b) : t ≤ a / b ↔ t * b ≤ a := Int.le_ediv_iff_mul_le hb
end
section
/-! gcd, floorDiv, sameRow, storeConstraint -/
def dtp : Nat → (Nat → Int) → (Nat → Int) → Int
  | 0, _, _ => 0
  | n + 1, c, z => dtp n c z + c n * z n
theorem dtp_congr {n : Nat} {c c' z z' : Nat → Int} (h : ∀ v, v < n → c v = c' v) (h' : ∀ v, v < n → z v = z' v) : dtp n c z = dtp n c' z' := by
  induction n with
  | zero => rfl
  | succ n ih =>
    show dtp n c z + c n * z n = dtp n c' z' + c' n * z' n
    rw [ih (fun v hv => h v (by omega)) (fun v hv => h' v (by omega)), h n (by omega), h' n (by omega)]
theorem dtp_scale {n : Nat} {c z : Nat → Int} (g : Int) : dtp n (fun v => g * c v) z = g * dtp n c z := by
  induction n with
  | zero => exact (Int.mul_zero g).symm
  | succ n ih =>
    show dtp n _ z + g * c n * z n = g * (dtp n c z + c n * z n)
    rw [ih, Int.mul_add, Int.mul_assoc]
theorem dtp_comb {n : Nat} {c d z : Nat → Int} (a b : Int) : dtp n (fun v => c v * a + d v * b) z = dtp n c z * a + dtp n d z * b := by
  induction n with
  | zero => show (0 : Int) = 0 * a + 0 * b; omega
  | succ n ih =>
    show dtp n _ z + (c n * a + d n * b) * z n = (dtp n c z + c n * z n) * a + (dtp n d z + d n * z n) * b
    rw [ih]; grind
theorem dtp_comb3 {n : Nat} {c d e z : Nat → Int} (a b f : Int) : dtp n (fun v => a * c v + b * d v + f * e v) z = a * dtp n c z + b * dtp n d z + f * dtp n e z := by
  induction n with
  | zero => show (0 : Int) = a * 0 + b * 0 + f * 0; omega
  | succ n ih =>
    show dtp n _ z + (a * c n + b * d n + f * e n) * z n = a * (dtp n c z + c n * z n) + b * (dtp n d z + d n * z n) + f * (dtp n e z + e n * z n)
    rw [ih]; grind
theorem dtp_zero {n : Nat} {c z : Nat → Int} (h : ∀ v, v < n → c v = 0) : dtp n c z = 0 := by
  induction n with
  | zero => rfl
  | succ n ih =>
    show dtp n c z + c n * z n = 0
    rw [ih (fun v hv => h v (by omega)), h n (by omega), Int.zero_mul]; rfl
def gcf (c : Nat → Int) : Nat → Nat
  | 0 => 0
  | n + 1 => Nat.gcd (gcf c n) (c n).natAbs
theorem gcf_dvd {c : Nat → Int} : ∀ {n v : Nat}, v < n → gcf c n ∣ (c v).natAbs := by
  intro n
  induction n with
  | zero => intro v hv; omega
  | succ n ih =>
    intro v hv
    by_cases h : v = n
    · subst h; exact Nat.gcd_dvd_right _ _
    · exact Nat.dvd_trans (Nat.gcd_dvd_left _ _) (ih (by omega))
theorem gcf_lt {c : Nat → Int} {B : Nat} (hB : 0 < B) : ∀ {n : Nat}, (∀ v, v < n → (c v).natAbs < B) → gcf c n < B := by
  intro n
  induction n with
  | zero => intro _; exact hB
  | succ n ih =>
    intro h
    show Nat.gcd (gcf c n) (c n).natAbs < B
    by_cases z : (c n).natAbs = 0
    · rw [z, Nat.gcd_zero_right]; exact ih (fun v hv => h v (by omega))
    · exact Nat.lt_of_le_of_lt (Nat.le_of_dvd (by omega) (Nat.gcd_dvd_right _ _)) (h n (by omega))
theorem gcf_zero {c : Nat → Int} {n : Nat} (h : gcf c n = 0) {v : Nat} (hv : v < n) : c v = 0 := by
  have := gcf_dvd (c := c) hv
  rw [h] at this
  have := Nat.eq_zero_of_zero_dvd this
  omega
section
variable {f_depth f_side f_arraySide f_statements f_sealed f_points f_distanceCount f_bandFirst f_bandCount f_bandSize f_accepted f_blamed f_prefixLength f_tunedFresh f_scanAt f_scanFirst f_scanCount f_scanSize f_scanPins : Int32} {f_rangeLow f_rangeHigh : Int64} {a_limits a_ops a_factors a_given a_subs a_pointX a_numberAt a_cells a_seen a_distances a_matrix a_prefix a_prefixFrom a_prefixTo a_tunedOrder a_tunedKey a_toX a_toZ a_sysCount a_hullLow a_hullHigh a_cursor a_limit a_pin a_echelon a_pivot : Nat → Int32} {a_sysCoef a_sysBound a_cand a_spanLow a_spanHigh : Nat → Int64}
theorem xg_loop {post : Int64 → Prop} : ∀ (k p q s n : Nat), q ≤ p → p < 2 ^ 62 → p * q < 2 ^ k → s + k < 127 → k < n → post (lN (Nat.gcd p q)) → wX_gcd_31 post f_depth f_side f_arraySide f_statements f_sealed f_points f_distanceCount f_bandFirst f_bandCount f_bandSize f_accepted f_blamed f_prefixLength f_tunedFresh f_rangeLow f_rangeHigh f_scanAt f_scanFirst f_scanCount f_scanSize f_scanPins a_limits a_ops a_factors a_given a_subs a_pointX a_numberAt a_cells a_seen a_distances a_matrix a_prefix a_prefixFrom a_prefixTo a_tunedOrder a_tunedKey a_toX a_toZ a_sysCoef a_sysBound a_sysCount a_cand a_hullLow a_hullHigh a_spanLow a_spanHigh a_cursor a_limit a_pin a_echelon a_pivot n (lN p) (lN q) (nI s) := by
  intro k
  induction k with
  | zero =>
    intro p q s n hqp hp hk hs hn hpost
    obtain ⟨n, rfl⟩ : ∃ m, n = m + 1 := ⟨n - 1, by omega⟩
    have hq : q = 0 := by
      rcases Nat.eq_zero_or_pos q with h | h
      · exact h
      · have : 0 < p * q := Nat.mul_pos (by omega) h
        omega
    subst hq
    have h128 : ¬ (128 : Int32) ≤ nI s := nI_ge (b := 128) (by omega) (by omega)
    rw [Nat.gcd_zero_right] at hpost
    exact br_f h128 (br_t rfl hpost)
  | succ k ih =>
    intro p q s n hqp hp hk hs hn hpost
    obtain ⟨n, rfl⟩ : ∃ m, n = m + 1 := ⟨n - 1, by omega⟩
    have h128 : ¬ (128 : Int32) ≤ nI s := nI_ge (b := 128) (by omega) (by omega)
    rcases Nat.eq_zero_or_pos q with h | h
    · subst h
      rw [Nat.gcd_zero_right] at hpost
      exact br_f h128 (br_t rfl hpost)
    · have hq0 : ¬ lN q = 0 := fun e => by
        have := (pk_lEQ (a := q) (b := 0) (by omega) (by omega)).mp e
        omega
      have hr := Nat.mod_lt p h
      have h1 : 1 ≤ p / q := Nat.div_pos hqp h
      have h2 := Nat.div_add_mod p q
      have h3 := Nat.mul_le_mul_left q h1
      have h4 : 2 * (p % q) < p := by omega
      have h5 := Nat.mul_lt_mul_of_pos_left h4 h
      have h6 : q * (2 * (p % q)) = 2 * (q * (p % q)) := Nat.mul_left_comm _ _ _
      have h7 : p * q = q * p := Nat.mul_comm _ _
      have h8 : 2 ^ (k + 1) = 2 ^ k * 2 := Nat.pow_succ _ _
      have hg : Nat.gcd p q = Nat.gcd q (p % q) := by
        rw [Nat.gcd_comm p q, Nat.gcd_rec q p, Nat.gcd_comm]
      refine br_f h128 (br_f hq0 ⟨hq0, nm_r (pk_lRem (by omega) h (by omega)) (nm_r (nI_1 s) ?_)⟩)
      exact ih q (p % q) (s + 1) n (by omega) (by omega) (by omega) (by omega) (by omega) (by rw [← hg]; exact hpost)
theorem xg_loop0 {post : Int64 → Prop} {p q : Nat} (hp : p < 2 ^ 60) (hq : q < 2 ^ 60) (hpost : post (lN (Nat.gcd p q))) : wX_gcd_31 post f_depth f_side f_arraySide f_statements f_sealed f_points f_distanceCount f_bandFirst f_bandCount f_bandSize f_accepted f_blamed f_prefixLength f_tunedFresh f_rangeLow f_rangeHigh f_scanAt f_scanFirst f_scanCount f_scanSize f_scanPins a_limits a_ops a_factors a_given a_subs a_pointX a_numberAt a_cells a_seen a_distances a_matrix a_prefix a_prefixFrom a_prefixTo a_tunedOrder a_tunedKey a_toX a_toZ a_sysCoef a_sysBound a_sysCount a_cand a_hullLow a_hullHigh a_spanLow a_spanHigh a_cursor a_limit a_pin a_echelon a_pivot 130 (lN p) (lN q) 0 := by
  rcases Nat.eq_zero_or_pos q with h | h
  · subst h
    rw [Nat.gcd_zero_right] at hpost
    exact br_f (by decide) (br_t rfl hpost)
  · have hq0 : ¬ lN q = 0 := fun e => by
      have := (pk_lEQ (a := q) (b := 0) (by omega) (by omega)).mp e
      omega
    have hr := Nat.mod_lt p h
    have hg : Nat.gcd p q = Nat.gcd q (p % q) := by
      rw [Nat.gcd_comm p q, Nat.gcd_rec q p, Nat.gcd_comm]
    refine br_f (by decide) (br_f hq0 ⟨hq0, nm_r (pk_lRem (by omega) h (by omega)) (nm_r (nI_1 0) ?_)⟩)
    have hm : q * (p % q) < 2 ^ 120 := by
      have h1 : q * (p % q) ≤ q * q := Nat.mul_le_mul_left q (by omega)
      have h2 : q * q < 2 ^ 60 * 2 ^ 60 := Nat.mul_lt_mul_of_lt_of_le hq (by omega) (by omega)
      have h3 : (2 : Nat) ^ 60 * 2 ^ 60 = 2 ^ 120 := by decide
      omega
    exact xg_loop 120 q (p % q) 1 129 (by omega) (by omega) hm (by omega) (by omega) (by rw [← hg]; exact hpost)
theorem xg_gcd {post : Int64 → Prop} {a b : Int} (ha : a.natAbs < 2 ^ 60) (hb : b.natAbs < 2 ^ 60) (hpost : post (lN (Nat.gcd a.natAbs b.natAbs))) : wpX_gcd post (f_depth, f_side, f_arraySide, f_statements, f_sealed, f_points, f_distanceCount, f_bandFirst, f_bandCount, f_bandSize, f_accepted, f_blamed, f_prefixLength, f_tunedFresh, f_rangeLow, f_rangeHigh, f_scanAt, f_scanFirst, f_scanCount, f_scanSize, f_scanPins, a_limits, a_ops, a_factors, a_given, a_subs, a_pointX, a_numberAt, a_cells, a_seen, a_distances, a_matrix, a_prefix, a_prefixFrom, a_prefixTo, a_tunedOrder, a_tunedKey, a_toX, a_toZ, a_sysCoef, a_sysBound, a_sysCount, a_cand, a_hullLow, a_hullHigh, a_spanLow, a_spanHigh, a_cursor, a_limit, a_pin, a_echelon, a_pivot) (zL a) (zL b) := by
  have hz : ∀ c : Int, c.natAbs < 2 ^ 60 → ((0 : Int64) ≤ zL c → zL c = lN c.natAbs) ∧ (¬ (0 : Int64) ≤ zL c → -zL c = lN c.natAbs) := by
    intro c hc
    have h0 : (0 : Int64) ≤ zL c ↔ 0 ≤ c := by rw [zL_0]; exact zL_le (by omega) (by omega) (by omega) (by omega)
    refine ⟨fun h => ?_, fun h => ?_⟩
    · rw [zL_n]; exact congrArg zL (by have := h0.mp h; omega)
    · rw [zL_n, zL_neg]; exact congrArg zL (by have : ¬ 0 ≤ c := fun x => h (h0.mpr x)
                                               omega)
  have hx : ∀ z0 : Int64, z0 = lN a.natAbs → wX_gcd_12 post (zL b) z0 f_depth f_side f_arraySide f_statements f_sealed f_points f_distanceCount f_bandFirst f_bandCount f_bandSize f_accepted f_blamed f_prefixLength f_tunedFresh f_rangeLow f_rangeHigh f_scanAt f_scanFirst f_scanCount f_scanSize f_scanPins a_limits a_ops a_factors a_given a_subs a_pointX a_numberAt a_cells a_seen a_distances a_matrix a_prefix a_prefixFrom a_prefixTo a_tunedOrder a_tunedKey a_toX a_toZ a_sysCoef a_sysBound a_sysCount a_cand a_hullLow a_hullHigh a_spanLow a_spanHigh a_cursor a_limit a_pin a_echelon a_pivot := by
    intro z0 e
    subst e
    refine br_c (fun h => ⟨130, ?_⟩) (fun h => nm_r ((hz b hb).2 h) ⟨130, xg_loop0 ha hb hpost⟩)
    have e := (hz b hb).1 h
    rw [e]
    exact xg_loop0 ha hb hpost
  exact br_c (fun h => hx _ ((hz a ha).1 h)) (fun h => hx _ ((hz a ha).2 h))
theorem xg_floor {post : Int64 → Prop} {a b : Int} (hb : 0 < b) (hb' : b < 9223372036854775808) (ha : -9223372036854775808 ≤ a) (ha' : a < 9223372036854775808) (hpost : post (zL (a / b))) : wpX_floorDiv post (f_depth, f_side, f_arraySide, f_statements, f_sealed, f_points, f_distanceCount, f_bandFirst, f_bandCount, f_bandSize, f_accepted, f_blamed, f_prefixLength, f_tunedFresh, f_rangeLow, f_rangeHigh, f_scanAt, f_scanFirst, f_scanCount, f_scanSize, f_scanPins, a_limits, a_ops, a_factors, a_given, a_subs, a_pointX, a_numberAt, a_cells, a_seen, a_distances, a_matrix, a_prefix, a_prefixFrom, a_prefixTo, a_tunedOrder, a_tunedKey, a_toX, a_toZ, a_sysCoef, a_sysBound, a_sysCount, a_cand, a_hullLow, a_hullHigh, a_spanLow, a_spanHigh, a_cursor, a_limit, a_pin, a_echelon, a_pivot) (zL a) (zL b) := by
  have h0 : (0 : Int64) < zL b := by rw [zL_0, zL_lt (by omega) (by omega) (by omega) (by omega)]; exact hb
  have hn : ¬ zL b = 0 := by rw [zL_0, zL_eq (by omega) (by omega) (by omega) (by omega)]; omega
  have hr : zL a - zL a / zL b * zL b = zL (a.tmod b) := zL_rem ha ha' (by omega) hb'
  have h1 := Int.tmod_lt_of_pos a hb
  have h2 := Int.lt_tmod_of_pos a hb
  have hc : (0 : Int64) ≤ zL a - zL a / zL b * zL b ↔ 0 ≤ a.tmod b := by
    rw [hr, zL_0, zL_le (by omega) (by omega) (by omega) (by omega)]
  rw [fl_t hb] at hpost
  refine br_t h0 ⟨hn, nm_r (zL_div ha ha' (by omega) hb') ⟨hn, br_c (fun h => ?_) (fun h => ?_)⟩⟩
  · rw [if_pos (hc.mp h)] at hpost; exact hpost
  · rw [if_neg (fun x => h (hc.mpr x))] at hpost
    refine nm_r (e' := zL (a.tdiv b - 1)) ?_ hpost
    rw [zL_1, zL_sub]
theorem xg_same {post : Int32 → Prop} {l r : Nat} (hl : l < 3) (hr : r < 40)
    (K1 : (∀ v, v ≤ l → a_sysCoef ((l * 40 + r) * 3 + v) = a_cand v) → post 1)
    (K0 : (¬ ∀ v, v ≤ l → a_sysCoef ((l * 40 + r) * 3 + v) = a_cand v) → post 0) : wpX_sameRow post (f_depth, f_side, f_arraySide, f_statements, f_sealed, f_points, f_distanceCount, f_bandFirst, f_bandCount, f_bandSize, f_accepted, f_blamed, f_prefixLength, f_tunedFresh, f_rangeLow, f_rangeHigh, f_scanAt, f_scanFirst, f_scanCount, f_scanSize, f_scanPins, a_limits, a_ops, a_factors, a_given, a_subs, a_pointX, a_numberAt, a_cells, a_seen, a_distances, a_matrix, a_prefix, a_prefixFrom, a_prefixTo, a_tunedOrder, a_tunedKey, a_toX, a_toZ, a_sysCoef, a_sysBound, a_sysCount, a_cand, a_hullLow, a_hullHigh, a_spanLow, a_spanHigh, a_cursor, a_limit, a_pin, a_echelon, a_pivot) (nI l) (nI r) := by
  refine ⟨l + 2, ?_⟩
  have go : ∀ (d v : Nat), v + d = l + 1 → (∀ w, w < v → a_sysCoef ((l * 40 + r) * 3 + w) = a_cand w) → wX_sameRow_2 post (nI l) (nI r) f_depth f_side f_arraySide f_statements f_sealed f_points f_distanceCount f_bandFirst f_bandCount f_bandSize f_accepted f_blamed f_prefixLength f_tunedFresh f_rangeLow f_rangeHigh f_scanAt f_scanFirst f_scanCount f_scanSize f_scanPins a_limits a_ops a_factors a_given a_subs a_pointX a_numberAt a_cells a_seen a_distances a_matrix a_prefix a_prefixFrom a_prefixTo a_tunedOrder a_tunedKey a_toX a_toZ a_sysCoef a_sysBound a_sysCount a_cand a_hullLow a_hullHigh a_spanLow a_spanHigh a_cursor a_limit a_pin a_echelon a_pivot (d + 1) (nI v) := by
    intro d
    induction d with
    | zero =>
      intro v hv hw
      exact br_t (nI_lt (by omega) (by omega)) (K1 (fun w hw' => hw w (by omega)))
    | succ d ih =>
      intro v hv hw
      have e : nI l * 40 + nI r = nI (l * 40 + r) := by rw [nx_m40, nI_add]
      have e2 : (nI l * 40 + nI r) * 3 + nI v = nI ((l * 40 + r) * 3 + v) := by rw [e, nx_m3, nI_add]
      have c2 : ((nI l * 40 + nI r) * 3 + nI v).toNatClampNeg = (l * 40 + r) * 3 + v := cx_n _ e2 (by omega)
      have c3 : (nI v).toNatClampNeg = v := nI_clamp (by omega)
      refine br_f (nI_nlt (by omega) (by omega)) ⟨vx_n _ e2 (by omega) (by omega), vp_in_nI (by omega) (by omega), br_c (fun h => nm_r (nI_1 v) ?_) (fun h => ?_)⟩
      · rw [c2, c3] at h
        exact ih (v + 1) (by omega) (fun w hw' => by
          by_cases x : w = v
          · subst x; exact h
          · exact hw w (by omega))
      · rw [c2, c3] at h
        exact K0 (fun hh => h (hh v (by omega)))
  exact go (l + 1) 0 (by omega) (fun w hw => by omega)
end
end
section
/-! storeConstraint: the walk -/
/-- the row (c <= t) has been put into system l, which had k rows -/
def xs_Step (l k : Nat) (c : Nat → Int) (t : Int) (sc sb : Nat → Int64) (sk : Nat → Int32) (sc' sb' : Nat → Int64) (sk' : Nat → Int32) : Prop :=
  (∃ r, r < k ∧ (∀ v, v ≤ l → sc ((l * 40 + r) * 3 + v) = zL (c v)) ∧ sc' = sc ∧ sk' = sk ∧
    ((sb (l * 40 + r) ≤ zL t ∧ sb' = sb) ∨ (¬ sb (l * 40 + r) ≤ zL t ∧ sb' = vp_updL sb (l * 40 + r) (zL t)))) ∨
  ((∀ r, r < k → ¬ ∀ v, v ≤ l → sc ((l * 40 + r) * 3 + v) = zL (c v)) ∧
    (∀ j, (∀ v, v ≤ l → j ≠ (l * 40 + k) * 3 + v) → sc' j = sc j) ∧ (∀ v, v ≤ l → sc' ((l * 40 + k) * 3 + v) = zL (c v)) ∧
    sb' = vp_updL sb (l * 40 + k) (zL t) ∧ sk' = upd sk l (nI (k + 1)))
section
variable {f_depth f_side f_arraySide f_statements f_sealed f_points f_distanceCount f_bandFirst f_bandCount f_bandSize f_accepted f_blamed f_prefixLength f_tunedFresh f_scanAt f_scanFirst f_scanCount f_scanSize f_scanPins : Int32} {f_rangeLow f_rangeHigh : Int64} {a_limits a_ops a_factors a_given a_subs a_pointX a_numberAt a_cells a_seen a_distances a_matrix a_prefix a_prefixFrom a_prefixTo a_tunedOrder a_tunedKey a_toX a_toZ a_sysCount a_hullLow a_hullHigh a_cursor a_limit a_pin a_echelon a_pivot : Nat → Int32} {a_sysCoef a_sysBound a_cand a_spanLow a_spanHigh : Nat → Int64}
theorem xs_159 {post : SX → Prop} {l k : Nat} {t : Int64} {sc : Nat → Int64} (hl : l < 3) (hk : k < 40)
    (K : ∀ sc' : Nat → Int64, (∀ j, (∀ v, v ≤ l → j ≠ (l * 40 + k) * 3 + v) → sc' j = sc j) → (∀ v, v ≤ l → sc' ((l * 40 + k) * 3 + v) = a_cand v) →
      post (f_depth, f_side, f_arraySide, f_statements, f_sealed, f_points, f_distanceCount, f_bandFirst, f_bandCount, f_bandSize, f_accepted, f_blamed, f_prefixLength, f_tunedFresh, f_rangeLow, f_rangeHigh, f_scanAt, f_scanFirst, f_scanCount, f_scanSize, f_scanPins, a_limits, a_ops, a_factors, a_given, a_subs, a_pointX, a_numberAt, a_cells, a_seen, a_distances, a_matrix, a_prefix, a_prefixFrom, a_prefixTo, a_tunedOrder, a_tunedKey, a_toX, a_toZ, sc', vp_updL a_sysBound (l * 40 + k) t, upd a_sysCount l (nI (k + 1)), a_cand, a_hullLow, a_hullHigh, a_spanLow, a_spanHigh, a_cursor, a_limit, a_pin, a_echelon, a_pivot)) :
    ∃ n159 : Nat, wX_storeConstraint_159 post (nI l) t (nI k) f_depth f_side f_arraySide f_statements f_sealed f_points f_distanceCount f_bandFirst f_bandCount f_bandSize f_accepted f_blamed f_prefixLength f_tunedFresh f_rangeLow f_rangeHigh f_scanAt f_scanFirst f_scanCount f_scanSize f_scanPins n159 0 a_limits a_ops a_factors a_given a_subs a_pointX a_numberAt a_cells a_seen a_distances a_matrix a_prefix a_prefixFrom a_prefixTo a_tunedOrder a_tunedKey a_toX a_toZ sc a_sysBound a_sysCount a_cand a_hullLow a_hullHigh a_spanLow a_spanHigh a_cursor a_limit a_pin a_echelon a_pivot := by
  have e : nI l * 40 + nI k = nI (l * 40 + k) := by rw [nx_m40, nI_add]
  have e1 : (nI l * 40 + nI k).toNatClampNeg = l * 40 + k := cx_n _ e (by omega)
  have e3 : (nI l).toNatClampNeg = l := nI_clamp (by omega)
  refine loop_0 (fun n i s => wX_storeConstraint_159 post (nI l) t (nI k) f_depth f_side f_arraySide f_statements f_sealed f_points f_distanceCount f_bandFirst f_bandCount f_bandSize f_accepted f_blamed f_prefixLength f_tunedFresh f_rangeLow f_rangeHigh f_scanAt f_scanFirst f_scanCount f_scanSize f_scanPins n (nI i) a_limits a_ops a_factors a_given a_subs a_pointX a_numberAt a_cells a_seen a_distances a_matrix a_prefix a_prefixFrom a_prefixTo a_tunedOrder a_tunedKey a_toX a_toZ s a_sysBound a_sysCount a_cand a_hullLow a_hullHigh a_spanLow a_spanHigh a_cursor a_limit a_pin a_echelon a_pivot)
    (fun i s => (∀ j, (∀ v, v ≤ l → j ≠ (l * 40 + k) * 3 + v) → s j = sc j) ∧ (∀ v, v < i → s ((l * 40 + k) * 3 + v) = a_cand v)) (l + 1) sc
    ⟨fun j _ => rfl, fun v hv => by omega⟩ ?_ ?_
  · intro n s hs
    refine br_t (nI_lt (by omega) (by omega)) ⟨vx_n _ e (by omega) (by omega), nm_r (by rw [e1]) ⟨vp_in_nI (by omega) (by omega), nm_r (by rw [e3, nI_1]) ?_⟩⟩
    exact K s hs.1 (fun v hv => hs.2 v (by omega))
  · intro n i s hi hs hK
    have e2 : (nI l * 40 + nI k) * 3 + nI i = nI ((l * 40 + k) * 3 + i) := by rw [e, nx_m3, nI_add]
    have c2 : ((nI l * 40 + nI k) * 3 + nI i).toNatClampNeg = (l * 40 + k) * 3 + i := cx_n _ e2 (by omega)
    have c3 : (nI i).toNatClampNeg = i := nI_clamp (by omega)
    refine br_f (nI_nlt (by omega) (by omega)) ⟨vp_in_nI (by omega) (by omega), vx_n _ e2 (by omega) (by omega), nm_r (by rw [c2, c3]) (nm_r (nI_1 i) ?_)⟩
    refine hK _ ⟨fun j hj => ?_, fun v hv => ?_⟩
    · rw [pk_uLn (hj i (by omega))]; exact hs.1 j hj
    · by_cases x : v = i
      · subst x; exact pk_uLs
      · rw [pk_uLn (by omega)]; exact hs.2 v (by omega)
theorem xs_93 {post : SX → Prop} {l k : Nat} {t : Int} (hl : l < 3) (hk : k < 40) {c : Nat → Int} (hc : ∀ v, v ≤ l → a_cand v = zL (c v))
    (K : ∀ (sc' sb' : Nat → Int64) (sk' : Nat → Int32), xs_Step l k c t a_sysCoef a_sysBound a_sysCount sc' sb' sk' → post (f_depth, f_side, f_arraySide, f_statements, f_sealed, f_points, f_distanceCount, f_bandFirst, f_bandCount, f_bandSize, f_accepted, f_blamed, f_prefixLength, f_tunedFresh, f_rangeLow, f_rangeHigh, f_scanAt, f_scanFirst, f_scanCount, f_scanSize, f_scanPins, a_limits, a_ops, a_factors, a_given, a_subs, a_pointX, a_numberAt, a_cells, a_seen, a_distances, a_matrix, a_prefix, a_prefixFrom, a_prefixTo, a_tunedOrder, a_tunedKey, a_toX, a_toZ, sc', sb', sk', a_cand, a_hullLow, a_hullHigh, a_spanLow, a_spanHigh, a_cursor, a_limit, a_pin, a_echelon, a_pivot)) :
    ∃ n93 : Nat, wX_storeConstraint_93 post (nI l) (zL t) (nI k) f_depth f_side f_arraySide f_statements f_sealed f_points f_distanceCount f_bandFirst f_bandCount f_bandSize f_accepted f_blamed f_prefixLength f_tunedFresh f_rangeLow f_rangeHigh f_scanAt f_scanFirst f_scanCount f_scanSize f_scanPins a_limits a_ops a_factors a_given a_subs a_pointX a_numberAt a_cells a_seen a_distances a_matrix a_prefix a_prefixFrom a_prefixTo a_tunedOrder a_tunedKey a_toX a_toZ a_sysCoef a_sysBound a_sysCount a_cand a_hullLow a_hullHigh a_spanLow a_spanHigh a_cursor a_limit a_pin a_echelon a_pivot n93 0 := by
  refine ⟨k + 1, ?_⟩
  have go : ∀ d r : Nat, r + d = k → (∀ r', r' < r → ¬ ∀ v, v ≤ l → a_sysCoef ((l * 40 + r') * 3 + v) = zL (c v)) → wX_storeConstraint_93 post (nI l) (zL t) (nI k) f_depth f_side f_arraySide f_statements f_sealed f_points f_distanceCount f_bandFirst f_bandCount f_bandSize f_accepted f_blamed f_prefixLength f_tunedFresh f_rangeLow f_rangeHigh f_scanAt f_scanFirst f_scanCount f_scanSize f_scanPins a_limits a_ops a_factors a_given a_subs a_pointX a_numberAt a_cells a_seen a_distances a_matrix a_prefix a_prefixFrom a_prefixTo a_tunedOrder a_tunedKey a_toX a_toZ a_sysCoef a_sysBound a_sysCount a_cand a_hullLow a_hullHigh a_spanLow a_spanHigh a_cursor a_limit a_pin a_echelon a_pivot (d + 1) (nI r) := by
    intro d
    induction d with
    | zero =>
      intro r hr hn
      refine br_t (nI_le (by omega) (by omega)) (br_f (nI_ge (b := 40) (by omega) (by omega)) ?_)
      refine xs_159 hl hk (fun sc' h1 h2 => K _ _ _ (Or.inr ⟨fun r' h => hn r' (by omega), h1, fun v hv => ?_, rfl, rfl⟩))
      rw [h2 v hv, hc v hv]
    | succ d ih =>
      intro r hr hn
      have e : nI l * 40 + nI r = nI (l * 40 + r) := by rw [nx_m40, nI_add]
      have e1 : (nI l * 40 + nI r).toNatClampNeg = l * 40 + r := cx_n _ e (by omega)
      refine br_f (nI_ge (by omega) (by omega)) ?_
      refine xg_same hl (by omega) (fun h => ?_) (fun h => ?_)
      · have h' : ∀ v, v ≤ l → a_sysCoef ((l * 40 + r) * 3 + v) = zL (c v) := fun v hv => by rw [h v hv, hc v hv]
        refine br_f (by decide) ⟨vx_n _ e (by omega) (by omega), br_c (fun hb => ?_) (fun hb => ⟨vx_n _ e (by omega) (by omega), nm_r (by rw [e1]) ?_⟩)⟩
        · rw [e1] at hb
          exact K _ _ _ (Or.inl ⟨r, by omega, h', rfl, rfl, Or.inl ⟨hb, rfl⟩⟩)
        · rw [e1] at hb
          exact K _ _ _ (Or.inl ⟨r, by omega, h', rfl, rfl, Or.inr ⟨hb, rfl⟩⟩)
      · refine br_t rfl (nm_r (nI_1 r) ?_)
        refine ih (r + 1) (by omega) (fun r' hr' => ?_)
        by_cases x : r' = r
        · subst x
          exact fun hh => h (fun v hv => by rw [hh v hv, hc v hv])
        · exact hn r' (by omega)
  exact go k 0 (by omega) (fun r' h => by omega)
theorem xs_store {post : SX → Prop} {l k : Nat} {m : Int} {c : Nat → Int} (hl : l < 3) (hk : k < 40) (hsk : a_sysCount l = nI k) (hc : ∀ v, v ≤ l → a_cand v = zL (c v))
    (hcb : ∀ v, v ≤ l → (c v).natAbs < 2 ^ 60) (hm : -4611686018427387904 ≤ m) (hm' : m ≤ 4611686018427387904)
    (K0 : (∀ v, v ≤ l → c v = 0) → post (f_depth, f_side, f_arraySide, f_statements, f_sealed, f_points, f_distanceCount, f_bandFirst, f_bandCount, f_bandSize, f_accepted, f_blamed, f_prefixLength, f_tunedFresh, f_rangeLow, f_rangeHigh, f_scanAt, f_scanFirst, f_scanCount, f_scanSize, f_scanPins, a_limits, a_ops, a_factors, a_given, a_subs, a_pointX, a_numberAt, a_cells, a_seen, a_distances, a_matrix, a_prefix, a_prefixFrom, a_prefixTo, a_tunedOrder, a_tunedKey, a_toX, a_toZ, a_sysCoef, a_sysBound, a_sysCount, a_cand, a_hullLow, a_hullHigh, a_spanLow, a_spanHigh, a_cursor, a_limit, a_pin, a_echelon, a_pivot))
    (K1 : ∀ (g : Int) (c' : Nat → Int) (cd' sc' sb' : Nat → Int64) (sk' : Nat → Int32), 0 < g → (∀ v, v ≤ l → c v = g * c' v) → xs_Step l k c' (m / g) a_sysCoef a_sysBound a_sysCount sc' sb' sk' →
      g = gcf c (l + 1) → post (f_depth, f_side, f_arraySide, f_statements, f_sealed, f_points, f_distanceCount, f_bandFirst, f_bandCount, f_bandSize, f_accepted, f_blamed, f_prefixLength, f_tunedFresh, f_rangeLow, f_rangeHigh, f_scanAt, f_scanFirst, f_scanCount, f_scanSize, f_scanPins, a_limits, a_ops, a_factors, a_given, a_subs, a_pointX, a_numberAt, a_cells, a_seen, a_distances, a_matrix, a_prefix, a_prefixFrom, a_prefixTo, a_tunedOrder, a_tunedKey, a_toX, a_toZ, sc', sb', sk', cd', a_hullLow, a_hullHigh, a_spanLow, a_spanHigh, a_cursor, a_limit, a_pin, a_echelon, a_pivot)) : wpX_storeConstraint post (f_depth, f_side, f_arraySide, f_statements, f_sealed, f_points, f_distanceCount, f_bandFirst, f_bandCount, f_bandSize, f_accepted, f_blamed, f_prefixLength, f_tunedFresh, f_rangeLow, f_rangeHigh, f_scanAt, f_scanFirst, f_scanCount, f_scanSize, f_scanPins, a_limits, a_ops, a_factors, a_given, a_subs, a_pointX, a_numberAt, a_cells, a_seen, a_distances, a_matrix, a_prefix, a_prefixFrom, a_prefixTo, a_tunedOrder, a_tunedKey, a_toX, a_toZ, a_sysCoef, a_sysBound, a_sysCount, a_cand, a_hullLow, a_hullHigh, a_spanLow, a_spanHigh, a_cursor, a_limit, a_pin, a_echelon, a_pivot) (nI l) (zL m) := by
  have c3 : (nI l).toNatClampNeg = l := nI_clamp (by omega)
  have hg := gcf_lt (c := c) (B := 2 ^ 60) (by omega) (n := l + 1) (fun v hv => hcb v (by omega))
  refine ⟨l + 2, ?_⟩
  have fin : ∀ n, wX_storeConstraint_6 post (nI l) (zL m) f_depth f_side f_arraySide f_statements f_sealed f_points f_distanceCount f_bandFirst f_bandCount f_bandSize f_accepted f_blamed f_prefixLength f_tunedFresh f_rangeLow f_rangeHigh f_scanAt f_scanFirst f_scanCount f_scanSize f_scanPins a_limits a_ops a_factors a_given a_subs a_pointX a_numberAt a_cells a_seen a_distances a_matrix a_prefix a_prefixFrom a_prefixTo a_tunedOrder a_tunedKey a_toX a_toZ a_sysCoef a_sysBound a_sysCount a_cand a_hullLow a_hullHigh a_spanLow a_spanHigh a_cursor a_limit a_pin a_echelon a_pivot (n + 1) (lN (gcf c (l + 1))) (nI (l + 1)) := by
    intro n
    refine br_t (nI_lt (by omega) (by omega)) (br_c (fun h => ?_) (fun h => ?_))
    · have hp : 0 < gcf c (l + 1) := (pk_lLT (a := 0) (by omega) (by omega)).mp h
      refine loop_0 (fun n i s => wX_storeConstraint_44 post (nI l) (zL m) (lN (gcf c (l + 1))) f_depth f_side f_arraySide f_statements f_sealed f_points f_distanceCount f_bandFirst f_bandCount f_bandSize f_accepted f_blamed f_prefixLength f_tunedFresh f_rangeLow f_rangeHigh f_scanAt f_scanFirst f_scanCount f_scanSize f_scanPins n (nI i) a_limits a_ops a_factors a_given a_subs a_pointX a_numberAt a_cells a_seen a_distances a_matrix a_prefix a_prefixFrom a_prefixTo a_tunedOrder a_tunedKey a_toX a_toZ a_sysCoef a_sysBound a_sysCount s a_hullLow a_hullHigh a_spanLow a_spanHigh a_cursor a_limit a_pin a_echelon a_pivot)
        (fun i s => ∀ v, v ≤ l → s v = if v < i then zL ((c v).tdiv (gcf c (l + 1))) else zL (c v)) (l + 1) a_cand ?_ ?_ ?_
      · intro v hv; rw [if_neg (by omega)]; exact hc v hv
      · intro n s hs
        refine br_t (nI_lt (by omega) (by omega)) ?_
        rw [zL_n]
        refine xg_floor (by omega) (by omega) (by omega) (by omega) ⟨vp_in_nI (by omega) (by omega), nm_r (by rw [c3, hsk]) ?_⟩
        refine xs_93 hl hk (c := fun v => (c v).tdiv (gcf c (l + 1))) (fun v hv => by rw [hs v hv, if_pos (by omega)]) (fun sc' sb' sk' hS => ?_)
        refine K1 (gcf c (l + 1)) _ _ _ _ _ (by omega) (fun v hv => ?_) hS rfl
        have hd : ((gcf c (l + 1) : Nat) : Int) ∣ c v := Int.ofNat_dvd_left.mpr (gcf_dvd (by omega))
        exact (Int.mul_tdiv_cancel' hd).symm
      · intro n i s hi hs hK
        have ci : (nI i).toNatClampNeg = i := nI_clamp (by omega)
        have hz : ¬ lN (gcf c (l + 1)) = 0 := fun e => by
          have := (pk_lEQ (a := gcf c (l + 1)) (b := 0) (by omega) (by omega)).mp e
          omega
        have hv := hs i (by omega)
        rw [if_neg (by omega)] at hv
        have hb := hcb i (by omega)
        have hq : s (nI i).toNatClampNeg / lN (gcf c (l + 1)) = zL ((c i).tdiv (gcf c (l + 1))) := by
          rw [ci, hv, zL_n]
          exact zL_div (by omega) (by omega) (by omega) (by omega)
        refine br_f (nI_nlt (by omega) (by omega)) ⟨vp_in_nI (by omega) (by omega), hz, vp_in_nI (by omega) (by omega), nm_r (by rw [hq, ci]) (nm_r (nI_1 i) (hK _ ?_))⟩
        intro v hv'
        by_cases x : v = i
        · subst x; rw [pk_uLs, if_pos (by omega)]
        · rw [pk_uLn x, hs v hv']
          by_cases y : v < i
          · rw [if_pos y, if_pos (by omega)]
          · rw [if_neg y, if_neg (by omega)]
    · have hp : gcf c (l + 1) = 0 := by
        by_cases z : 0 < gcf c (l + 1)
        · exact absurd ((pk_lLT (a := 0) (by omega) (by omega)).mpr z) h
        · omega
      exact K0 (fun v hv => gcf_zero hp (by omega))
  have go : ∀ d v : Nat, v + d = l + 1 → wX_storeConstraint_6 post (nI l) (zL m) f_depth f_side f_arraySide f_statements f_sealed f_points f_distanceCount f_bandFirst f_bandCount f_bandSize f_accepted f_blamed f_prefixLength f_tunedFresh f_rangeLow f_rangeHigh f_scanAt f_scanFirst f_scanCount f_scanSize f_scanPins a_limits a_ops a_factors a_given a_subs a_pointX a_numberAt a_cells a_seen a_distances a_matrix a_prefix a_prefixFrom a_prefixTo a_tunedOrder a_tunedKey a_toX a_toZ a_sysCoef a_sysBound a_sysCount a_cand a_hullLow a_hullHigh a_spanLow a_spanHigh a_cursor a_limit a_pin a_echelon a_pivot (d + 1) (lN (gcf c v)) (nI v) := by
    intro d
    induction d with
    | zero => intro v hv; cases (show v = l + 1 by omega); exact fin 0
    | succ d ih =>
      intro v hv
      have ci : (nI v).toNatClampNeg = v := nI_clamp (by omega)
      refine br_f (nI_nlt (by omega) (by omega)) ⟨vp_in_nI (by omega) (by omega), ?_⟩
      rw [ci, hc v (by omega), zL_n]
      have h1 := gcf_lt (c := c) (B := 2 ^ 60) (by omega) (n := v) (fun w hw => hcb w (by omega))
      refine xg_gcd (by rw [Int.natAbs_natCast]; exact h1) (hcb v (by omega)) (nm_r (nI_1 v) ?_)
      rw [Int.natAbs_natCast]
      exact ih (v + 1) (by omega)
  exact go (l + 1) 0 (by omega)
end
end
section
/-! what a system says -/
def xs_row (sc : Nat → Int64) (l r : Nat) : Nat → Int := fun v => (sc ((l * 40 + r) * 3 + v)).toInt
def xs_Sat (sc sb : Nat → Int64) (l k : Nat) (z : Nat → Int) : Prop := ∀ r, r < k → dtp (l + 1) (xs_row sc l r) z ≤ (sb (l * 40 + r)).toInt
def xs_Bnd (sc sb : Nat → Int64) (l k : Nat) (MC MB : Int) : Prop := ∀ r, r < k → (∀ v, v ≤ l → -MC ≤ xs_row sc l r v ∧ xs_row sc l r v ≤ MC) ∧ -MB ≤ (sb (l * 40 + r)).toInt ∧ (sb (l * 40 + r)).toInt ≤ MB
def xs_One (sc : Nat → Int64) (k : Nat) : Prop := (∀ r, r < k → xs_row sc 0 r 0 = 1 ∨ xs_row sc 0 r 0 = -1) ∧ ∀ r r', r < r' → r' < k → xs_row sc 0 r 0 ≠ xs_row sc 0 r' 0
def xs_Fr (l : Nat) (sc sb : Nat → Int64) (sk : Nat → Int32) (sc' sb' : Nat → Int64) (sk' : Nat → Int32) : Prop :=
  ∀ l', l' ≠ l → sk' l' = sk l' ∧ ∀ r, r < 40 → sb' (l' * 40 + r) = sb (l' * 40 + r) ∧ ∀ v, v < 3 → sc' ((l' * 40 + r) * 3 + v) = sc ((l' * 40 + r) * 3 + v)
/-- system l has k rows and says just P -/
def xs_OK (l k : Nat) (sc sb : Nat → Int64) (sk : Nat → Int32) (MC MB : Int) (P : (Nat → Int) → Prop) : Prop :=
  sk l = nI k ∧ xs_Bnd sc sb l k MC MB ∧ (l = 0 → xs_One sc k) ∧ ∀ z, xs_Sat sc sb l k z ↔ P z
theorem xs_Fr_refl {l : Nat} {sc sb : Nat → Int64} {sk : Nat → Int32} : xs_Fr l sc sb sk sc sb sk := fun _ _ => ⟨rfl, fun _ _ => ⟨rfl, fun _ _ => rfl⟩⟩
theorem xs_Fr_trans {l : Nat} {sc sb sc' sb' sc'' sb'' : Nat → Int64} {sk sk' sk'' : Nat → Int32} (h : xs_Fr l sc sb sk sc' sb' sk') (h' : xs_Fr l sc' sb' sk' sc'' sb'' sk'') : xs_Fr l sc sb sk sc'' sb'' sk'' :=
  fun l' hl => ⟨(h' l' hl).1.trans (h l' hl).1, fun r hr => ⟨((h' l' hl).2 r hr).1.trans ((h l' hl).2 r hr).1, fun v hv => (((h' l' hl).2 r hr).2 v hv).trans (((h l' hl).2 r hr).2 v hv)⟩⟩
theorem xs_Fr_OK {l l' k : Nat} {sc sb sc' sb' : Nat → Int64} {sk sk' : Nat → Int32} {MC MB : Int} {P : (Nat → Int) → Prop} (hl : l' ≠ l) (h3 : l' < 3) (hk : k ≤ 40) (h : xs_Fr l sc sb sk sc' sb' sk') (ok : xs_OK l' k sc sb sk MC MB P) : xs_OK l' k sc' sb' sk' MC MB P := by
  have hr : ∀ r v, r < k → v ≤ l' → xs_row sc' l' r v = xs_row sc l' r v := fun r v hr hv => by
    show (sc' _).toInt = (sc _).toInt
    rw [((h l' hl).2 r (by omega)).2 v (by omega)]
  have hb : ∀ r, r < k → sb' (l' * 40 + r) = sb (l' * 40 + r) := fun r hr => ((h l' hl).2 r (by omega)).1
  refine ⟨(h l' hl).1.trans ok.1, fun r hr' => ?_, fun h0 => ?_, fun z => ?_⟩
  · rw [hb r hr']
    exact ⟨fun v hv => by rw [hr r v hr' hv]; exact (ok.2.1 r hr').1 v hv, (ok.2.1 r hr').2⟩
  · have o := ok.2.2.1 h0
    subst h0
    exact ⟨fun r hr' => by rw [hr r 0 hr' (by omega)]; exact o.1 r hr', fun r r' h1 h2 => by rw [hr r 0 (by omega) (by omega), hr r' 0 h2 (by omega)]; exact o.2 r r' h1 h2⟩
  · rw [← ok.2.2.2 z]
    refine ⟨fun s r hr' => ?_, fun s r hr' => ?_⟩
    · have := s r hr'
      rw [hb r hr', dtp_congr (fun v hv => hr r v hr' (by omega)) (fun v _ => rfl)] at this
      exact this
    · rw [hb r hr', dtp_congr (fun v hv => hr r v hr' (by omega)) (fun v _ => rfl)]
      exact s r hr'
theorem xs_One2 {sc : Nat → Int64} {k : Nat} (h : xs_One sc k) : k ≤ 2 := by
  by_cases hk : k ≤ 2
  · exact hk
  · have a0 := h.1 0 (by omega)
    have a1 := h.1 1 (by omega)
    have a2 := h.1 2 (by omega)
    have b0 := h.2 0 1 (by omega) (by omega)
    have b1 := h.2 0 2 (by omega) (by omega)
    have b2 := h.2 1 2 (by omega) (by omega)
    omega
theorem fl_abs {m g B : Int} (hg : 0 < g) (h1 : -B ≤ m) (h2 : m ≤ B) : -B ≤ m / g ∧ m / g ≤ B := by
  have hB : 0 ≤ B := by omega
  have e : B * 1 ≤ B * g := Int.mul_le_mul_of_nonneg_left (by omega) hB
  refine ⟨(fl_le hg).mpr ?_, ?_⟩
  · rw [Int.neg_mul]; omega
  · have : m / g < B + 1 := (Int.ediv_lt_iff_lt_mul hg).mpr (by rw [Int.add_mul]; omega)
    omega
theorem xs_abs {c g d M : Int} (hg : 0 < g) (e : c = g * d) (h1 : -M ≤ c) (h2 : c ≤ M) : -M ≤ d ∧ d ≤ M := by
  have h : c.natAbs = g.natAbs * d.natAbs := by rw [e, Int.natAbs_mul]
  have : 1 * d.natAbs ≤ g.natAbs * d.natAbs := Nat.mul_le_mul_right _ (by omega)
  omega
theorem xs_cut {l : Nat} {c c' z : Nat → Int} {g m : Int} (hg : 0 < g) (h : ∀ v, v ≤ l → c v = g * c' v) : dtp (l + 1) c z ≤ m ↔ dtp (l + 1) c' z ≤ m / g := by
  rw [dtp_congr (c' := fun v => g * c' v) (z' := z) (fun v hv => h v (by omega)) (fun _ _ => rfl), dtp_scale, fl_le hg, Int.mul_comm]
theorem xs_sem {l k : Nat} {c : Nat → Int} {t : Int} {sc sb sc' sb' : Nat → Int64} {sk sk' : Nat → Int32} {MC MB : Int} {P : (Nat → Int) → Prop}
    (hS : xs_Step l k c t sc sb sk sc' sb' sk') (ok : xs_OK l k sc sb sk MC MB P) (hl : l < 3) (hk : k < 40)
    (hc : ∀ v, v ≤ l → -MC ≤ c v ∧ c v ≤ MC) (ht : -MB ≤ t ∧ t ≤ MB) (hMC : MC < 9223372036854775807) (hMB : MB < 9223372036854775807) (h0 : l = 0 → c 0 = 1 ∨ c 0 = -1) :
    ∃ k', k ≤ k' ∧ k' ≤ k + 1 ∧ xs_OK l k' sc' sb' sk' MC MB (fun z => P z ∧ dtp (l + 1) c z ≤ t) ∧ xs_Fr l sc sb sk sc' sb' sk' := by
  have hzc : ∀ v, v ≤ l → (zL (c v)).toInt = c v := fun v hv => by
    have := hc v hv
    exact zL_t (by omega) (by omega)
  have hzt : (zL t).toInt = t := zL_t (by omega) (by omega)
  rcases hS with ⟨r, hr, hrow, rfl, rfl, hb⟩ | ⟨hno, hfr, hrow, rfl, rfl⟩
  · have hrow' : ∀ v, v < l + 1 → xs_row sc' l r v = c v := fun v hv => by
      show (sc' _).toInt = _
      rw [hrow v (by omega), hzc v (by omega)]
    have hd : ∀ z, dtp (l + 1) (xs_row sc' l r) z = dtp (l + 1) c z := fun z => dtp_congr hrow' (fun _ _ => rfl)
    rcases hb with ⟨hle, rfl⟩ | ⟨hle, rfl⟩
    · rw [Int64.le_iff_toInt_le, hzt] at hle
      refine ⟨k, by omega, by omega, ⟨ok.1, ok.2.1, ok.2.2.1, fun z => ?_⟩, xs_Fr_refl⟩
      rw [ok.2.2.2 z]
      refine ⟨fun h => ⟨h, ?_⟩, fun h => h.1⟩
      have := (ok.2.2.2 z).mpr h r hr
      rw [hd] at this
      omega
    · rw [Int64.le_iff_toInt_le, hzt] at hle
      have hbk : ∀ r', (vp_updL sb (l * 40 + r) (zL t) (l * 40 + r')).toInt = if r' = r then t else (sb (l * 40 + r')).toInt := fun r' => by
        by_cases x : r' = r
        · subst x; rw [pk_uLs, if_pos rfl]; exact hzt
        · rw [pk_uLn (by omega), if_neg x]
      refine ⟨k, by omega, by omega, ⟨ok.1, fun r' hr' => ?_, ok.2.2.1, fun z => ?_⟩, fun l' hl' => ⟨rfl, fun r' hr' => ⟨pk_uLn (by omega), fun _ _ => rfl⟩⟩⟩
      · rw [hbk]
        have := ok.2.1 r' hr'
        refine ⟨this.1, ?_⟩
        split
        · exact ht
        · exact this.2
      · dsimp only
        rw [← ok.2.2.2 z]
        refine ⟨fun h => ⟨fun r' hr' => ?_, ?_⟩, fun h r' hr' => ?_⟩
        · have := h r' hr'
          rw [hbk] at this
          by_cases x : r' = r
          · subst x; rw [if_pos rfl] at this; omega
          · rw [if_neg x] at this; exact this
        · have := h r hr
          rw [hbk, if_pos rfl, hd] at this
          exact this
        · rw [hbk]
          by_cases x : r' = r
          · subst x; rw [if_pos rfl, hd]; exact h.2
          · rw [if_neg x]; exact h.1 r' hr'
  · have hold : ∀ r v, r < k → v ≤ l → xs_row sc' l r v = xs_row sc l r v := fun r v hr hv => by
      show (sc' _).toInt = (sc _).toInt
      rw [hfr _ (fun w hw => by omega)]
    have hnew : ∀ v, v ≤ l → xs_row sc' l k v = c v := fun v hv => by
      show (sc' _).toInt = _
      rw [hrow v hv, hzc v hv]
    have hbk : ∀ r', (vp_updL sb (l * 40 + k) (zL t) (l * 40 + r')).toInt = if r' = k then t else (sb (l * 40 + r')).toInt := fun r' => by
      by_cases x : r' = k
      · subst x; rw [pk_uLs, if_pos rfl]; exact hzt
      · rw [pk_uLn (by omega), if_neg x]
    refine ⟨k + 1, by omega, by omega, ⟨pk_us, fun r hr => ?_, fun h => ?_, fun z => ?_⟩, fun l' hl' => ⟨pk_un hl', fun r' hr' => ⟨pk_uLn (by omega), fun v hv => hfr _ (fun w hw => by omega)⟩⟩⟩
    · rw [hbk]
      by_cases x : r = k
      · subst x; rw [if_pos rfl]
        exact ⟨fun v hv => by rw [hnew v hv]; exact hc v hv, ht⟩
      · rw [if_neg x]
        have := ok.2.1 r (by omega)
        exact ⟨fun v hv => by rw [hold r v (by omega) hv]; exact this.1 v hv, this.2⟩
    · have o := ok.2.2.1 h
      subst h
      refine ⟨fun r hr => ?_, fun r r' h1 h2 => ?_⟩
      · by_cases x : r = k
        · subst x; rw [hnew 0 (by omega)]; exact h0 rfl
        · rw [hold r 0 (by omega) (by omega)]; exact o.1 r (by omega)
      · by_cases x : r' = k
        · subst x
          rw [hnew 0 (by omega), hold r 0 (by omega) (by omega)]
          intro e
          refine hno r (by omega) (fun v hv => ?_)
          cases (show v = 0 by omega)
          rw [← e]
          exact zL_of _
        · rw [hold r 0 (by omega) (by omega), hold r' 0 (by omega) (by omega)]; exact o.2 r r' h1 (by omega)
    · dsimp only
      rw [← ok.2.2.2 z]
      refine ⟨fun h => ⟨fun r hr => ?_, ?_⟩, fun h r hr => ?_⟩
      · have := h r (by omega)
        rw [hbk, if_neg (by omega), dtp_congr (fun v hv => hold r v hr (by omega)) (fun _ _ => rfl)] at this
        exact this
      · have := h k (by omega)
        rw [hbk, if_pos rfl, dtp_congr (fun v hv => hnew v (by omega)) (fun _ _ => rfl)] at this
        exact this
      · rw [hbk]
        by_cases x : r = k
        · subst x; rw [if_pos rfl, dtp_congr (fun v hv => hnew v (by omega)) (fun _ _ => rfl)]; exact h.2
        · rw [if_neg x, dtp_congr (fun v hv => hold r v (by omega) (by omega)) (fun _ _ => rfl)]; exact h.1 r (by omega)
section
variable {f_depth f_side f_arraySide f_statements f_sealed f_points f_distanceCount f_bandFirst f_bandCount f_bandSize f_accepted f_blamed f_prefixLength f_tunedFresh f_scanAt f_scanFirst f_scanCount f_scanSize f_scanPins : Int32} {f_rangeLow f_rangeHigh : Int64} {a_limits a_ops a_factors a_given a_subs a_pointX a_numberAt a_cells a_seen a_distances a_matrix a_prefix a_prefixFrom a_prefixTo a_tunedOrder a_tunedKey a_toX a_toZ a_sysCount a_hullLow a_hullHigh a_cursor a_limit a_pin a_echelon a_pivot : Nat → Int32} {a_sysCoef a_sysBound a_cand a_spanLow a_spanHigh : Nat → Int64}
/-- storeConstraint adds its constraint to what the system says -/
theorem xs_add {post : SX → Prop} {l k : Nat} {m : Int} {c : Nat → Int} {MC MB : Int} {P : (Nat → Int) → Prop} {z0 : Nat → Int} (hl : l < 3) (hk : k < 40)
    (ok : xs_OK l k a_sysCoef a_sysBound a_sysCount MC MB P) (hc : ∀ v, v ≤ l → a_cand v = zL (c v))
    (hcb : ∀ v, v ≤ l → -MC ≤ c v ∧ c v ≤ MC) (hm : -MB ≤ m ∧ m ≤ MB) (hMC : MC < 1152921504606846976) (hMB : MB ≤ 4611686018427387904)
    (hz : dtp (l + 1) c z0 ≤ m)
    (K : ∀ (cd' sc' sb' : Nat → Int64) (sk' : Nat → Int32) (k' : Nat), k ≤ k' → k' ≤ k + 1 → (l = 0 → k' ≤ 2) →
      xs_OK l k' sc' sb' sk' MC MB (fun z => P z ∧ dtp (l + 1) c z ≤ m) → xs_Fr l a_sysCoef a_sysBound a_sysCount sc' sb' sk' →
      post (f_depth, f_side, f_arraySide, f_statements, f_sealed, f_points, f_distanceCount, f_bandFirst, f_bandCount, f_bandSize, f_accepted, f_blamed, f_prefixLength, f_tunedFresh, f_rangeLow, f_rangeHigh, f_scanAt, f_scanFirst, f_scanCount, f_scanSize, f_scanPins, a_limits, a_ops, a_factors, a_given, a_subs, a_pointX, a_numberAt, a_cells, a_seen, a_distances, a_matrix, a_prefix, a_prefixFrom, a_prefixTo, a_tunedOrder, a_tunedKey, a_toX, a_toZ, sc', sb', sk', cd', a_hullLow, a_hullHigh, a_spanLow, a_spanHigh, a_cursor, a_limit, a_pin, a_echelon, a_pivot)) : wpX_storeConstraint post (f_depth, f_side, f_arraySide, f_statements, f_sealed, f_points, f_distanceCount, f_bandFirst, f_bandCount, f_bandSize, f_accepted, f_blamed, f_prefixLength, f_tunedFresh, f_rangeLow, f_rangeHigh, f_scanAt, f_scanFirst, f_scanCount, f_scanSize, f_scanPins, a_limits, a_ops, a_factors, a_given, a_subs, a_pointX, a_numberAt, a_cells, a_seen, a_distances, a_matrix, a_prefix, a_prefixFrom, a_prefixTo, a_tunedOrder, a_tunedKey, a_toX, a_toZ, a_sysCoef, a_sysBound, a_sysCount, a_cand, a_hullLow, a_hullHigh, a_spanLow, a_spanHigh, a_cursor, a_limit, a_pin, a_echelon, a_pivot) (nI l) (zL m) := by
  refine xs_store (c := c) hl hk ok.1 hc (fun v hv => ?_) (by omega) (by omega) (fun h0 => ?_) (fun g c' cd' sc' sb' sk' hg he hS hgc => ?_)
  · have := hcb v hv
    have : (2 : Nat) ^ 60 = 1152921504606846976 := by decide
    omega
  · have hd : ∀ z, dtp (l + 1) c z = 0 := fun z => dtp_zero (fun v hv => h0 v (by omega))
    refine K _ _ _ _ k (by omega) (by omega) (fun h => xs_One2 (ok.2.2.1 h)) ⟨ok.1, ok.2.1, ok.2.2.1, fun z => ?_⟩ xs_Fr_refl
    rw [ok.2.2.2 z]
    rw [hd] at hz
    exact ⟨fun h => ⟨h, by rw [hd]; exact hz⟩, fun h => h.1⟩
  · have hb : ∀ v, v ≤ l → -MC ≤ c' v ∧ c' v ≤ MC := fun v hv => xs_abs hg (he v hv) (hcb v hv).1 (hcb v hv).2
    have h1 : l = 0 → c' 0 = 1 ∨ c' 0 = -1 := fun h => by
      subst h
      have e := he 0 (by omega)
      have e2 : gcf c 1 = (c 0).natAbs := by show Nat.gcd 0 _ = _; rw [Nat.gcd_zero_left]
      have e3 : g.natAbs = (c 0).natAbs := by rw [hgc, e2]; omega
      have e4 : (c 0).natAbs = g.natAbs * (c' 0).natAbs := by rw [e, Int.natAbs_mul]
      have e5 : (c' 0).natAbs = 1 := by
        have : g.natAbs * (c' 0).natAbs = g.natAbs * 1 := by omega
        exact Nat.eq_of_mul_eq_mul_left (by omega) this
      omega
    obtain ⟨k', h2, h3, h4, h5⟩ := xs_sem hS ok hl hk hb (fl_abs hg hm.1 hm.2) (by omega) (by omega) h1
    refine K _ _ _ _ k' h2 h3 (fun h => xs_One2 (h4.2.2.1 h)) ⟨h4.1, h4.2.1, h4.2.2.1, fun z => ?_⟩ h5
    refine Iff.trans (h4.2.2.2 z) ?_
    dsimp only
    rw [xs_cut hg he]
end
end
section
/-! constrain, combine, eliminate -/
theorem ab_mul {a b A B : Int} (a1 : -A ≤ a) (a2 : a ≤ A) (b1 : -B ≤ b) (b2 : b ≤ B) : -(A * B) ≤ a * b ∧ a * b ≤ A * B := by
  have h : (a * b).natAbs ≤ A.natAbs * B.natAbs := by
    rw [Int.natAbs_mul]; exact Nat.mul_le_mul (by omega) (by omega)
  have h2 : A * B = ((A.natAbs * B.natAbs : Nat) : Int) := by
    rw [Int.natCast_mul, Int.natAbs_of_nonneg (by omega), Int.natAbs_of_nonneg (by omega)]
  rw [h2]
  omega
def xr (X : Nat → Int) (D : Nat) (z : Nat → Int) (r : Nat) : Int := dtp D (fun v => X (r * 3 + v)) z
def ctb (f : Nat → Bool) : Nat → Nat
  | 0 => 0
  | n + 1 => ctb f n + (if f n then 1 else 0)
theorem ctb_t {f : Nat → Bool} {n : Nat} (h : f n = true) : ctb f (n + 1) = ctb f n + 1 := by show ctb f n + _ = _; rw [h]; rfl
theorem ctb_f {f : Nat → Bool} {n : Nat} (h : f n = false) : ctb f (n + 1) = ctb f n := by show ctb f n + _ = _; rw [h]; rfl
theorem ctb_le {f : Nat → Bool} : ∀ {n m : Nat}, n ≤ m → ctb f n ≤ ctb f m := by
  intro n m h
  induction m with
  | zero => cases (show n = 0 by omega); exact Nat.le_refl _
  | succ m ih =>
    by_cases x : n = m + 1
    · subst x; exact Nat.le_refl _
    · have := ih (by omega)
      have : ctb f (m + 1) = ctb f m + (if f m then 1 else 0) := rfl
      omega
section
variable {D : Nat} {f_side f_arraySide f_statements f_sealed f_points f_distanceCount f_bandFirst f_bandCount f_bandSize f_accepted f_blamed f_prefixLength f_tunedFresh f_scanAt f_scanFirst f_scanCount f_scanSize f_scanPins : Int32} {f_rangeLow f_rangeHigh : Int64} {a_limits a_ops a_factors a_given a_subs a_pointX a_numberAt a_cells a_seen a_distances a_matrix a_prefix a_prefixFrom a_prefixTo a_tunedOrder a_tunedKey a_toX a_toZ a_sysCount a_hullLow a_hullHigh a_cursor a_limit a_pin a_echelon a_pivot : Nat → Int32} {a_sysCoef a_sysBound a_cand a_spanLow a_spanHigh : Nat → Int64}
theorem xs_constrain {post : SX → Prop} {lv k : Nat} {ci cj ow m : Int} {X : Nat → Int} {P : (Nat → Int) → Prop} {z0 : Nat → Int} (hD : D = 2 ∨ D = 3)
    (hX : ∀ j, j < 9 → a_toX j = zI (X j)) (hXb : ∀ j, j < 9 → -128 ≤ X j ∧ X j ≤ 128) (h1 : -2 ≤ ci ∧ ci ≤ 2) (h2 : -2 ≤ cj ∧ cj ≤ 2) (h3 : -1 ≤ ow ∧ ow ≤ 1) (h4 : -15 ≤ m ∧ m ≤ 15)
    (hlv : lv < 3) (hk : k < 40) (ok : xs_OK (D - 1) k a_sysCoef a_sysBound a_sysCount 640 15 P)
    (hz : ci * xr X D z0 0 + cj * xr X D z0 1 + ow * xr X D z0 lv ≤ m)
    (K : ∀ (cd' sc' sb' : Nat → Int64) (sk' : Nat → Int32) (k' : Nat), k ≤ k' → k' ≤ k + 1 →
      xs_OK (D - 1) k' sc' sb' sk' 640 15 (fun z => P z ∧ ci * xr X D z 0 + cj * xr X D z 1 + ow * xr X D z lv ≤ m) → xs_Fr (D - 1) a_sysCoef a_sysBound a_sysCount sc' sb' sk' →
      post ((nI D), f_side, f_arraySide, f_statements, f_sealed, f_points, f_distanceCount, f_bandFirst, f_bandCount, f_bandSize, f_accepted, f_blamed, f_prefixLength, f_tunedFresh, f_rangeLow, f_rangeHigh, f_scanAt, f_scanFirst, f_scanCount, f_scanSize, f_scanPins, a_limits, a_ops, a_factors, a_given, a_subs, a_pointX, a_numberAt, a_cells, a_seen, a_distances, a_matrix, a_prefix, a_prefixFrom, a_prefixTo, a_tunedOrder, a_tunedKey, a_toX, a_toZ, sc', sb', sk', cd', a_hullLow, a_hullHigh, a_spanLow, a_spanHigh, a_cursor, a_limit, a_pin, a_echelon, a_pivot)) : wpX_constrain post ((nI D), f_side, f_arraySide, f_statements, f_sealed, f_points, f_distanceCount, f_bandFirst, f_bandCount, f_bandSize, f_accepted, f_blamed, f_prefixLength, f_tunedFresh, f_rangeLow, f_rangeHigh, f_scanAt, f_scanFirst, f_scanCount, f_scanSize, f_scanPins, a_limits, a_ops, a_factors, a_given, a_subs, a_pointX, a_numberAt, a_cells, a_seen, a_distances, a_matrix, a_prefix, a_prefixFrom, a_prefixTo, a_tunedOrder, a_tunedKey, a_toX, a_toZ, a_sysCoef, a_sysBound, a_sysCount, a_cand, a_hullLow, a_hullHigh, a_spanLow, a_spanHigh, a_cursor, a_limit, a_pin, a_echelon, a_pivot) (nI lv) (zI ci) (zI cj) (zI ow) (zI m) := by
  have hdt : ∀ z, dtp (D - 1 + 1) (fun v => ci * X v + cj * X (3 + v) + ow * X (lv * 3 + v)) z = ci * xr X D z 0 + cj * xr X D z 1 + ow * xr X D z lv := fun z => by
    rw [show D - 1 + 1 = D by omega]
    have e := dtp_comb3 (n := D) (c := fun v => X (0 * 3 + v)) (d := fun v => X (1 * 3 + v)) (e := fun v => X (lv * 3 + v)) (z := z) ci cj ow
    refine Eq.trans (dtp_congr (fun v _ => ?_) (fun _ _ => rfl)) e
    rw [show 0 * 3 + v = v by omega, show 1 * 3 + v = 3 + v by omega]
  refine loop_0 (fun n i s => wX_constrain_3 post (nI lv) (zI ci) (zI cj) (zI ow) (zI m) (nI D) f_side f_arraySide f_statements f_sealed f_points f_distanceCount f_bandFirst f_bandCount f_bandSize f_accepted f_blamed f_prefixLength f_tunedFresh f_rangeLow f_rangeHigh f_scanAt f_scanFirst f_scanCount f_scanSize f_scanPins n (nI i) a_limits a_ops a_factors a_given a_subs a_pointX a_numberAt a_cells a_seen a_distances a_matrix a_prefix a_prefixFrom a_prefixTo a_tunedOrder a_tunedKey a_toX a_toZ a_sysCoef a_sysBound a_sysCount s a_hullLow a_hullHigh a_spanLow a_spanHigh a_cursor a_limit a_pin a_echelon a_pivot)
    (fun i s => ∀ v, v < i → s v = zL (ci * X v + cj * X (3 + v) + ow * X (lv * 3 + v))) 3 a_cand (fun v hv => by omega) ?_ ?_
  · intro n s hs
    refine br_t (by decide) ?_
    rw [zI_l (by omega) (by omega), show nI D - 1 = nI (D - 1) from nx_s1 (by omega)]
    refine xs_add (c := fun v => ci * X v + cj * X (3 + v) + ow * X (lv * 3 + v)) (z0 := z0) (by omega) hk ok (fun v hv => hs v (by omega)) (fun v hv => ?_) h4 (by omega) (by omega) (by rw [hdt]; exact hz) ?_
    · have b1 := ab_mul h1.1 h1.2 (hXb v (by omega)).1 (hXb v (by omega)).2
      have b2 := ab_mul h2.1 h2.2 (hXb (3 + v) (by omega)).1 (hXb (3 + v) (by omega)).2
      have b3 := ab_mul h3.1 h3.2 (hXb (lv * 3 + v) (by omega)).1 (hXb (lv * 3 + v) (by omega)).2
      omega
    · intro cd' sc' sb' sk' k' h5 h6 _ h7 h8
      refine K cd' sc' sb' sk' k' h5 h6 ⟨h7.1, h7.2.1, h7.2.2.1, fun z => ?_⟩ h8
      refine Iff.trans (h7.2.2.2 z) ?_
      dsimp only
      rw [hdt]
  · intro n i s hi hs hK
    have ci' : (nI i).toNatClampNeg = i := nI_clamp (by omega)
    have e3 : (3 + nI i).toNatClampNeg = 3 + i := cx_n _ (nx_3a i) (by omega)
    have e4 : nI lv * 3 + nI i = nI (lv * 3 + i) := by rw [nx_m3, nI_add]
    have e5 : (nI lv * 3 + nI i).toNatClampNeg = lv * 3 + i := cx_n _ e4 (by omega)
    have r1 := hXb i (by omega)
    have r2 := hXb (3 + i) (by omega)
    have r3 := hXb (lv * 3 + i) (by omega)
    refine br_f (nI_ge (b := 3) hi (by omega)) ⟨vp_in_nI (by omega) (by omega), vx_n _ (nx_3a i) (by omega) (by omega), vx_n _ e4 (by omega) (by omega), vp_in_nI (by omega) (by omega), nm_r (e' := vp_updL s i (zL (ci * X i + cj * X (3 + i) + ow * X (lv * 3 + i)))) ?_ (nm_r (nI_1 i) (hK _ ?_))⟩
    · rw [ci', e3, e5, hX i (by omega), hX (3 + i) (by omega), hX (lv * 3 + i) (by omega), zI_l (by omega) (by omega), zI_l (by omega) (by omega), zI_l (by omega) (by omega), zI_l (by omega) (by omega), zI_l (by omega) (by omega), zI_l (by omega) (by omega), zL_mul, zL_mul, zL_mul, zL_add, zL_add]
    · intro v hv
      by_cases x : v = i
      · subst x; exact pk_uLs
      · rw [pk_uLn x]; exact hs v (by omega)
end
section
variable {f_depth f_side f_arraySide f_statements f_sealed f_points f_distanceCount f_bandFirst f_bandCount f_bandSize f_accepted f_blamed f_prefixLength f_tunedFresh f_scanAt f_scanFirst f_scanCount f_scanSize f_scanPins : Int32} {f_rangeLow f_rangeHigh : Int64} {a_limits a_ops a_factors a_given a_subs a_pointX a_numberAt a_cells a_seen a_distances a_matrix a_prefix a_prefixFrom a_prefixTo a_tunedOrder a_tunedKey a_toX a_toZ a_sysCount a_hullLow a_hullHigh a_cursor a_limit a_pin a_echelon a_pivot : Nat → Int32} {a_sysCoef a_sysBound a_cand a_spanLow a_spanHigh : Nat → Int64}
theorem xe_comb {post : SX → Prop} {L n m k : Nat} {tN tM : Int} {MC MB MC' MB' : Int} {P : (Nat → Int) → Prop} {z0 : Nat → Int} (hL1 : 1 ≤ L) (hL : L < 3) (hn : n < 40) (hm : m < 40)
    (hN : -MC ≤ tN ∧ tN ≤ MC) (hM : -MC ≤ tM ∧ tM ≤ MC)
    (bn : (∀ v, v ≤ L → -MC ≤ xs_row a_sysCoef L n v ∧ xs_row a_sysCoef L n v ≤ MC) ∧ -MB ≤ (a_sysBound (L * 40 + n)).toInt ∧ (a_sysBound (L * 40 + n)).toInt ≤ MB)
    (bm : (∀ v, v ≤ L → -MC ≤ xs_row a_sysCoef L m v ∧ xs_row a_sysCoef L m v ≤ MC) ∧ -MB ≤ (a_sysBound (L * 40 + m)).toInt ∧ (a_sysBound (L * 40 + m)).toInt ≤ MB)
    (h1 : MC * MC + MC * MC ≤ MC') (h2 : MB * MC + MB * MC ≤ MB') (hMC : MC' < 1152921504606846976) (hMB : MB' ≤ 4611686018427387904)
    (hk : k < 40) (ok : xs_OK (L - 1) k a_sysCoef a_sysBound a_sysCount MC' MB' P)
    (hz : dtp L (xs_row a_sysCoef L n) z0 * tN + dtp L (xs_row a_sysCoef L m) z0 * tM ≤ (a_sysBound (L * 40 + n)).toInt * tN + (a_sysBound (L * 40 + m)).toInt * tM)
    (K : ∀ (cd' sc' sb' : Nat → Int64) (sk' : Nat → Int32) (k' : Nat), k ≤ k' → k' ≤ k + 1 → (L = 1 → k' ≤ 2) →
      xs_OK (L - 1) k' sc' sb' sk' MC' MB' (fun z => P z ∧ dtp L (xs_row a_sysCoef L n) z * tN + dtp L (xs_row a_sysCoef L m) z * tM ≤ (a_sysBound (L * 40 + n)).toInt * tN + (a_sysBound (L * 40 + m)).toInt * tM) →
      xs_Fr (L - 1) a_sysCoef a_sysBound a_sysCount sc' sb' sk' → post (f_depth, f_side, f_arraySide, f_statements, f_sealed, f_points, f_distanceCount, f_bandFirst, f_bandCount, f_bandSize, f_accepted, f_blamed, f_prefixLength, f_tunedFresh, f_rangeLow, f_rangeHigh, f_scanAt, f_scanFirst, f_scanCount, f_scanSize, f_scanPins, a_limits, a_ops, a_factors, a_given, a_subs, a_pointX, a_numberAt, a_cells, a_seen, a_distances, a_matrix, a_prefix, a_prefixFrom, a_prefixTo, a_tunedOrder, a_tunedKey, a_toX, a_toZ, sc', sb', sk', cd', a_hullLow, a_hullHigh, a_spanLow, a_spanHigh, a_cursor, a_limit, a_pin, a_echelon, a_pivot)) :
    wpX_combine post (f_depth, f_side, f_arraySide, f_statements, f_sealed, f_points, f_distanceCount, f_bandFirst, f_bandCount, f_bandSize, f_accepted, f_blamed, f_prefixLength, f_tunedFresh, f_rangeLow, f_rangeHigh, f_scanAt, f_scanFirst, f_scanCount, f_scanSize, f_scanPins, a_limits, a_ops, a_factors, a_given, a_subs, a_pointX, a_numberAt, a_cells, a_seen, a_distances, a_matrix, a_prefix, a_prefixFrom, a_prefixTo, a_tunedOrder, a_tunedKey, a_toX, a_toZ, a_sysCoef, a_sysBound, a_sysCount, a_cand, a_hullLow, a_hullHigh, a_spanLow, a_spanHigh, a_cursor, a_limit, a_pin, a_echelon, a_pivot) (nI L) (nI n) (zL tN) (nI m) (zL tM) := by
  have en : nI L * 40 + nI n = nI (L * 40 + n) := by rw [nx_m40, nI_add]
  have em : nI L * 40 + nI m = nI (L * 40 + m) := by rw [nx_m40, nI_add]
  have cn : (nI (L * 40 + n)).toNatClampNeg = L * 40 + n := nI_clamp (by omega)
  have cm : (nI (L * 40 + m)).toNatClampNeg = L * 40 + m := nI_clamp (by omega)
  have hdt : ∀ z, dtp (L - 1 + 1) (fun v => xs_row a_sysCoef L n v * tN + xs_row a_sysCoef L m v * tM) z = dtp L (xs_row a_sysCoef L n) z * tN + dtp L (xs_row a_sysCoef L m) z * tM := fun z => by
    rw [show L - 1 + 1 = L by omega]; exact dtp_comb tN tM
  refine nm_r en (nm_r em ?_)
  refine loop_0 (fun i' i s => wX_combine_20 post (nI L) (zL tN) (zL tM) (nI (L * 40 + n)) (nI (L * 40 + m)) f_depth f_side f_arraySide f_statements f_sealed f_points f_distanceCount f_bandFirst f_bandCount f_bandSize f_accepted f_blamed f_prefixLength f_tunedFresh f_rangeLow f_rangeHigh f_scanAt f_scanFirst f_scanCount f_scanSize f_scanPins i' (nI i) a_limits a_ops a_factors a_given a_subs a_pointX a_numberAt a_cells a_seen a_distances a_matrix a_prefix a_prefixFrom a_prefixTo a_tunedOrder a_tunedKey a_toX a_toZ a_sysCoef a_sysBound a_sysCount s a_hullLow a_hullHigh a_spanLow a_spanHigh a_cursor a_limit a_pin a_echelon a_pivot)
    (fun i s => ∀ v, v < i → s v = zL (xs_row a_sysCoef L n v * tN + xs_row a_sysCoef L m v * tM)) L a_cand (fun v hv => by omega) ?_ ?_
  · intro i' s hs
    refine br_t (nI_le (by omega) (by omega)) ⟨vp_in_nI (by omega) (by omega), vp_in_nI (by omega) (by omega), nm_r (e' := zL ((a_sysBound (L * 40 + n)).toInt * tN + (a_sysBound (L * 40 + m)).toInt * tM)) ?_ ?_⟩
    · rw [cn, cm]
      conv => lhs; rw [zL_of (a_sysBound (L * 40 + n)), zL_of (a_sysBound (L * 40 + m))]
      rw [zL_mul, zL_mul, zL_add]
    rw [show nI L - 1 = nI (L - 1) from nx_s1 hL1]
    have q1 := ab_mul bn.2.1 bn.2.2 hN.1 hN.2
    have q2 := ab_mul bm.2.1 bm.2.2 hM.1 hM.2
    refine xs_add (c := fun v => xs_row a_sysCoef L n v * tN + xs_row a_sysCoef L m v * tM) (z0 := z0) (by omega) hk ok (fun v hv => hs v (by omega)) (fun v hv => ?_) ⟨by omega, by omega⟩ hMC hMB (by rw [hdt]; exact hz) ?_
    · have b1 := ab_mul (bn.1 v (by omega)).1 (bn.1 v (by omega)).2 hN.1 hN.2
      have b2 := ab_mul (bm.1 v (by omega)).1 (bm.1 v (by omega)).2 hM.1 hM.2
      omega
    · intro cd' sc' sb' sk' k' h5 h6 h9 h7 h8
      refine K cd' sc' sb' sk' k' h5 h6 (fun h => h9 (by omega)) ⟨h7.1, h7.2.1, h7.2.2.1, fun z => ?_⟩ h8
      refine Iff.trans (h7.2.2.2 z) ?_
      dsimp only
      rw [hdt]
  · intro i' i s hi hs hK
    have e1 : nI (L * 40 + n) * 3 + nI i = nI ((L * 40 + n) * 3 + i) := by rw [nx_m3, nI_add]
    have e2 : nI (L * 40 + m) * 3 + nI i = nI ((L * 40 + m) * 3 + i) := by rw [nx_m3, nI_add]
    have c1 : (nI (L * 40 + n) * 3 + nI i).toNatClampNeg = (L * 40 + n) * 3 + i := cx_n _ e1 (by omega)
    have c2 : (nI (L * 40 + m) * 3 + nI i).toNatClampNeg = (L * 40 + m) * 3 + i := cx_n _ e2 (by omega)
    have c3 : (nI i).toNatClampNeg = i := nI_clamp (by omega)
    refine br_f (nI_ge hi (by omega)) ⟨vx_n _ e1 (by omega) (by omega), vx_n _ e2 (by omega) (by omega), vp_in_nI (by omega) (by omega), nm_r (e' := vp_updL s i (zL (xs_row a_sysCoef L n i * tN + xs_row a_sysCoef L m i * tM))) ?_ (nm_r (nI_1 i) (hK _ ?_))⟩
    · rw [c1, c2, c3]
      conv => lhs; rw [zL_of (a_sysCoef ((L * 40 + n) * 3 + i)), zL_of (a_sysCoef ((L * 40 + m) * 3 + i))]
      rw [zL_mul, zL_mul, zL_add]; rfl
    · intro v hv
      by_cases x : v = i
      · subst x; exact pk_uLs
      · rw [pk_uLn x]; exact hs v (by omega)
end
/-- the state of an elimination of level L: rows below n are done; cap bounds the rows of the new system -/
def xe_I (L n : Nat) (MC' MB' : Int) (PL : (Nat → Int) → Prop) (sc0 sb0 : Nat → Int64) (sk0 : Nat → Int32) (cap : Nat) (sc sb : Nat → Int64) (sk : Nat → Int32) : Prop :=
  ∃ (k : Nat) (P : (Nat → Int) → Prop), xs_OK (L - 1) k sc sb sk MC' MB' P ∧ xs_Fr (L - 1) sc0 sb0 sk0 sc sb sk ∧ (∀ z, PL z → P z) ∧
    (∀ z, P z → ∀ r, r < n → xs_row sc0 L r L = 0 → dtp (L + 1) (xs_row sc0 L r) z ≤ (sb0 (L * 40 + r)).toInt) ∧ (L = 1 → k ≤ 2) ∧ (L = 2 → k ≤ cap)
theorem xe_nl {A B u d zl bn bm : Int} (h1 : A + u * zl ≤ bn) (h2 : B + d * zl ≤ bm) (hu : 0 ≤ u) (hd : d ≤ 0) : A * (-d) + B * u ≤ bn * (-d) + bm * u := by
  have a1 := Int.mul_le_mul_of_nonneg_right h1 (show 0 ≤ -d by omega)
  have a2 := Int.mul_le_mul_of_nonneg_right h2 hu
  have e : (A + u * zl) * (-d) + (B + d * zl) * u = A * (-d) + B * u := by grind
  omega
theorem xe_36 {p q z : Nat} (h : p + q + z ≤ 12) : z + p * q ≤ 36 := by
  rcases (show p = 0 ∨ p = 1 ∨ p = 2 ∨ p = 3 ∨ p = 4 ∨ p = 5 ∨ p = 6 ∨ p = 7 ∨ p = 8 ∨ p = 9 ∨ p = 10 ∨ p = 11 ∨ p = 12 by omega) with h' | h' | h' | h' | h' | h' | h' | h' | h' | h' | h' | h' | h' <;> subst h' <;> omega
theorem xe_cnt (f g h : Nat → Bool) (hx : ∀ n, (f n = true ∧ g n = false ∧ h n = false) ∨ (f n = false ∧ g n = true ∧ h n = false) ∨ (f n = false ∧ g n = false ∧ h n = true)) : ∀ n, ctb f n + ctb g n + ctb h n = n := by
  intro n
  induction n with
  | zero => rfl
  | succ n ih =>
    rcases hx n with ⟨a, b, c⟩ | ⟨a, b, c⟩ | ⟨a, b, c⟩
    · rw [ctb_t a, ctb_f b, ctb_f c]; omega
    · rw [ctb_f a, ctb_t b, ctb_f c]; omega
    · rw [ctb_f a, ctb_f b, ctb_t c]; omega
theorem xe_up (f : Nat → Bool) {n : Nat} : ∀ m, n ≤ m → ctb f m ≤ ctb f n + (m - n) := by
  intro m h
  induction m with
  | zero => cases (show n = 0 by omega); omega
  | succ m ih =>
    by_cases x : n = m + 1
    · subst x; omega
    · have := ih (by omega)
      have : ctb f (m + 1) = ctb f m + (if f m then 1 else 0) := rfl
      split at this <;> omega
def xe_z (sc : Nat → Int64) (L : Nat) : Nat → Bool := fun r => decide (xs_row sc L r L = 0)
def xe_p (sc : Nat → Int64) (L : Nat) : Nat → Bool := fun r => decide (0 < xs_row sc L r L)
def xe_q (sc : Nat → Int64) (L : Nat) : Nat → Bool := fun r => decide (xs_row sc L r L < 0)
theorem xe_cap {sc : Nat → Int64} {L n K : Nat} (hn : n ≤ K) (hK : K ≤ 12) : ctb (xe_z sc L) n + ctb (xe_p sc L) n * ctb (xe_q sc L) K ≤ 36 := by
  have h := xe_cnt (xe_z sc L) (xe_p sc L) (xe_q sc L) (fun r => by
    unfold xe_z xe_p xe_q
    rcases (show xs_row sc L r L = 0 ∨ 0 < xs_row sc L r L ∨ xs_row sc L r L < 0 by omega) with h | h | h
    · left; exact ⟨decide_eq_true h, decide_eq_false (by omega), decide_eq_false (by omega)⟩
    · right; left; exact ⟨decide_eq_false (by omega), decide_eq_true h, decide_eq_false (by omega)⟩
    · right; right; exact ⟨decide_eq_false (by omega), decide_eq_false (by omega), decide_eq_true h⟩) n
  have h2 := xe_up (xe_q sc L) K hn
  exact xe_36 (by omega)
end
section
/-! eliminate: the walk -/
section
variable {f_depth f_side f_arraySide f_statements f_sealed f_points f_distanceCount f_bandFirst f_bandCount f_bandSize f_accepted f_blamed f_prefixLength f_tunedFresh f_scanAt f_scanFirst f_scanCount f_scanSize f_scanPins : Int32} {f_rangeLow f_rangeHigh : Int64} {a_limits a_ops a_factors a_given a_subs a_pointX a_numberAt a_cells a_seen a_distances a_matrix a_prefix a_prefixFrom a_prefixTo a_tunedOrder a_tunedKey a_toX a_toZ a_sysCount a_hullLow a_hullHigh a_cursor a_limit a_pin a_echelon a_pivot : Nat → Int32} {a_sysCoef a_sysBound a_cand a_spanLow a_spanHigh : Nat → Int64}
theorem xe_elim {post : SX → Prop} {L kL : Nat} {MC MB MC' MB' : Int} {PL : (Nat → Int) → Prop} {z0 : Nat → Int} (hL1 : 1 ≤ L) (hL : L < 3) (hkL : kL ≤ 40) (hcap : L = 2 → kL ≤ 12)
    (okL : xs_OK L kL a_sysCoef a_sysBound a_sysCount MC MB PL) (ok0 : xs_OK (L - 1) 0 a_sysCoef a_sysBound a_sysCount MC' MB' (fun _ => True))
    (h1 : MC * MC + MC * MC ≤ MC') (h2 : MB * MC + MB * MC ≤ MB') (hMC1 : 1 ≤ MC) (hMC : MC' < 1152921504606846976) (hMB : MB' ≤ 4611686018427387904) (hz : PL z0)
    (K : ∀ (cd' sc' sb' : Nat → Int64) (sk' : Nat → Int32), xe_I L kL MC' MB' PL a_sysCoef a_sysBound a_sysCount 36 sc' sb' sk' → post (f_depth, f_side, f_arraySide, f_statements, f_sealed, f_points, f_distanceCount, f_bandFirst, f_bandCount, f_bandSize, f_accepted, f_blamed, f_prefixLength, f_tunedFresh, f_rangeLow, f_rangeHigh, f_scanAt, f_scanFirst, f_scanCount, f_scanSize, f_scanPins, a_limits, a_ops, a_factors, a_given, a_subs, a_pointX, a_numberAt, a_cells, a_seen, a_distances, a_matrix, a_prefix, a_prefixFrom, a_prefixTo, a_tunedOrder, a_tunedKey, a_toX, a_toZ, sc', sb', sk', cd', a_hullLow, a_hullHigh, a_spanLow, a_spanHigh, a_cursor, a_limit, a_pin, a_echelon, a_pivot)) :
    wpX_eliminate post (f_depth, f_side, f_arraySide, f_statements, f_sealed, f_points, f_distanceCount, f_bandFirst, f_bandCount, f_bandSize, f_accepted, f_blamed, f_prefixLength, f_tunedFresh, f_rangeLow, f_rangeHigh, f_scanAt, f_scanFirst, f_scanCount, f_scanSize, f_scanPins, a_limits, a_ops, a_factors, a_given, a_subs, a_pointX, a_numberAt, a_cells, a_seen, a_distances, a_matrix, a_prefix, a_prefixFrom, a_prefixTo, a_tunedOrder, a_tunedKey, a_toX, a_toZ, a_sysCoef, a_sysBound, a_sysCount, a_cand, a_hullLow, a_hullHigh, a_spanLow, a_spanHigh, a_cursor, a_limit, a_pin, a_echelon, a_pivot) (nI L) := by
  have cL : (nI L).toNatClampNeg = L := nI_clamp (by omega)
  have hMCs : MC ≤ MC' := by
    have := Int.mul_le_mul_of_nonneg_left hMC1 (show 0 ≤ MC by omega)
    omega
  refine ⟨vp_in_nI (by omega) (by omega), nm_r (e' := nI kL) (by rw [cL, okL.1]) ?_⟩
  refine loop_0 (fun n i (s : (Nat → Int64) × (Nat → Int64) × (Nat → Int64) × (Nat → Int32)) => wX_eliminate_9 post (nI L) (nI kL) n (nI i) f_depth f_side f_arraySide f_statements f_sealed f_points f_distanceCount f_bandFirst f_bandCount f_bandSize f_accepted f_blamed f_prefixLength f_tunedFresh f_rangeLow f_rangeHigh f_scanAt f_scanFirst f_scanCount f_scanSize f_scanPins a_limits a_ops a_factors a_given a_subs a_pointX a_numberAt a_cells a_seen a_distances a_matrix a_prefix a_prefixFrom a_prefixTo a_tunedOrder a_tunedKey a_toX a_toZ s.2.1 s.2.2.1 s.2.2.2 s.1 a_hullLow a_hullHigh a_spanLow a_spanHigh a_cursor a_limit a_pin a_echelon a_pivot)
    (fun i s => xe_I L i MC' MB' PL a_sysCoef a_sysBound a_sysCount (ctb (xe_z a_sysCoef L) i + ctb (xe_p a_sysCoef L) i * ctb (xe_q a_sysCoef L) kL) s.2.1 s.2.2.1 s.2.2.2) kL (a_cand, a_sysCoef, a_sysBound, a_sysCount) ?_ ?_ ?_
  · exact ⟨0, fun _ => True, ok0, xs_Fr_refl, fun _ _ => trivial, fun _ _ r hr => by omega, fun _ => by omega, fun _ => by omega⟩
  · intro n s hs
    obtain ⟨k, P, ok, fr, hc, hzr, hk1, hk2⟩ := hs
    refine br_t (nI_le (by omega) (by omega)) (K _ _ _ _ ⟨k, P, ok, fr, hc, hzr, hk1, fun h => ?_⟩)
    have := hk2 h
    have := xe_cap (sc := a_sysCoef) (L := L) (Nat.le_refl kL) (hcap h)
    omega
  · intro n i s hi hs hK
    obtain ⟨cd, sc, sb, sk⟩ := s
    obtain ⟨k, P, ok, fr, hc, hzr, hk1, hk2⟩ := hs
    dsimp only at ok fr
    have hk : k < 40 := by
      rcases (show L = 1 ∨ L = 2 by omega) with h | h
      · have := hk1 h; omega
      · have := hk2 h
        have := xe_cap (sc := a_sysCoef) (L := L) (show i ≤ kL by omega) (hcap h)
        omega
    have hrow : ∀ r v, r < 40 → v < 3 → xs_row sc L r v = xs_row a_sysCoef L r v := fun r v hr hv => by
      show (sc _).toInt = (a_sysCoef _).toInt
      rw [((fr L (by omega)).2 r hr).2 v hv]
    have hb : ∀ r, r < 40 → sb (L * 40 + r) = a_sysBound (L * 40 + r) := fun r hr => ((fr L (by omega)).2 r hr).1
    have hd : ∀ r z, r < 40 → dtp L (xs_row sc L r) z = dtp L (xs_row a_sysCoef L r) z := fun r z hr => dtp_congr (fun v hv => hrow r v hr (by omega)) (fun _ _ => rfl)
    have okc : xs_OK L kL sc sb sk MC MB PL := xs_Fr_OK (by omega) hL hkL fr okL
    have e : (nI L * 40 + nI i) * 3 + nI L = nI ((L * 40 + i) * 3 + L) := by rw [nx_m40, nI_add, nx_m3, nI_add]
    have c : ((nI L * 40 + nI i) * 3 + nI L).toNatClampNeg = (L * 40 + i) * 3 + L := cx_n _ e (by omega)
    have bi := okc.2.1 i hi
    have bu := bi.1 L (by omega)
    have satz : ∀ z, PL z → ∀ r, r < kL → dtp L (xs_row a_sysCoef L r) z + xs_row a_sysCoef L r L * z L ≤ (a_sysBound (L * 40 + r)).toInt := fun z hz r hr => (okL.2.2.2 z).mpr hz r hr
    have u0 : ∀ {w : Int}, xs_row sc L i L = w → xs_row a_sysCoef L i L = w := fun h => by rw [← hrow i L (by omega) hL]; exact h
    show wX_eliminate_9 post (nI L) (nI kL) (n + 1) (nI i) f_depth f_side f_arraySide f_statements f_sealed f_points f_distanceCount f_bandFirst f_bandCount f_bandSize f_accepted f_blamed f_prefixLength f_tunedFresh f_rangeLow f_rangeHigh f_scanAt f_scanFirst f_scanCount f_scanSize f_scanPins a_limits a_ops a_factors a_given a_subs a_pointX a_numberAt a_cells a_seen a_distances a_matrix a_prefix a_prefixFrom a_prefixTo a_tunedOrder a_tunedKey a_toX a_toZ sc sb sk cd a_hullLow a_hullHigh a_spanLow a_spanHigh a_cursor a_limit a_pin a_echelon a_pivot
    refine br_f (nI_ge hi (by omega)) ⟨vx_n _ e (by omega) (by omega), nm_r (e' := zL (xs_row sc L i L)) (by rw [c]; exact zL_of _) (br_c (fun h0 => ?_) (fun h0 => br_c (fun hle => ?_) (fun hle => ?_)))⟩
    · have hu : xs_row sc L i L = 0 := by
        rw [zL_0, zL_eq (by omega) (by omega) (by omega) (by omega)] at h0; exact h0
      have hu0 := u0 hu
      have hone : ∀ z, PL z → dtp L (xs_row sc L i) z * 1 + dtp L (xs_row sc L i) z * 0 ≤ (sb (L * 40 + i)).toInt * 1 + (sb (L * 40 + i)).toInt * 0 := fun z hz => by
        have := satz z hz i hi
        rw [hu0] at this
        rw [hd i z (by omega), hb i (by omega)]
        omega
      rw [zL_1, zL_0]
      refine xe_comb (z0 := z0) (MC := MC) (MB := MB) (P := P) hL1 hL (by omega) (by omega) ⟨by omega, by omega⟩ ⟨by omega, by omega⟩ bi bi h1 h2 hMC hMB hk ok (hone z0 hz) ?_
      intro cd' sc' sb' sk' k' q1 q2 q3 ok' fr'
      refine nm_r (nI_1 i) (hK (cd', sc', sb', sk') ⟨k', _, ok', xs_Fr_trans fr fr', fun z hz => ⟨hc z hz, hone z hz⟩, fun z hP r hr h => ?_, q3, fun h => ?_⟩)
      · by_cases x : r = i
        · subst x
          have := hP.2
          rw [hd r z (by omega), hb r (by omega)] at this
          show dtp L (xs_row a_sysCoef L r) z + xs_row a_sysCoef L r L * z L ≤ _
          rw [hu0]
          omega
        · exact hzr z hP.1 r (by omega) h
      · have := hk2 h
        rw [ctb_t (f := xe_z a_sysCoef L) (n := i) (decide_eq_true hu0), ctb_f (f := xe_p a_sysCoef L) (n := i) (decide_eq_false (by omega))]
        omega
    · have hu : xs_row sc L i L < 0 := by
        rw [zL_0, zL_eq (by omega) (by omega) (by omega) (by omega)] at h0
        rw [zL_0, zL_le (by omega) (by omega) (by omega) (by omega)] at hle
        omega
      have hu0 : xs_row a_sysCoef L i L < 0 := by rw [← hrow i L (by omega) hL]; exact hu
      refine nm_r (nI_1 i) (hK (cd, sc, sb, sk) ⟨k, P, ok, fr, hc, fun z hP r hr h => ?_, hk1, fun h => ?_⟩)
      · by_cases x : r = i
        · subst x; omega
        · exact hzr z hP r (by omega) h
      · have := hk2 h
        rw [ctb_f (f := xe_z a_sysCoef L) (n := i) (decide_eq_false (by omega)), ctb_f (f := xe_p a_sysCoef L) (n := i) (decide_eq_false (by omega))]
        omega
    · have hu : 0 < xs_row sc L i L := by
        rw [zL_0, zL_le (by omega) (by omega) (by omega) (by omega)] at hle
        omega
      have hu0 : 0 < xs_row a_sysCoef L i L := by rw [← hrow i L (by omega) hL]; exact hu
      have hup : xs_row sc L i L = xs_row a_sysCoef L i L := hrow i L (by omega) hL
      rw [hup]
      rw [hup] at bu hu
      have hcap1 : L = 2 → ctb (xe_z a_sysCoef L) i + ctb (xe_p a_sysCoef L) i * ctb (xe_q a_sysCoef L) kL + ctb (xe_q a_sysCoef L) kL ≤ 36 := fun h => by
        have := xe_cap (sc := a_sysCoef) (L := L) (show i + 1 ≤ kL by omega) (hcap h)
        rw [ctb_f (f := xe_z a_sysCoef L) (n := i) (decide_eq_false (by omega)), ctb_t (f := xe_p a_sysCoef L) (n := i) (decide_eq_true hu0), Nat.add_mul] at this
        omega
      refine loop_0 (fun n' m (s : (Nat → Int64) × (Nat → Int64) × (Nat → Int64) × (Nat → Int32)) => wX_eliminate_60 post (wX_eliminate_9 post (nI L) (nI kL) n) (nI L) (nI kL) (nI i) (zL (xs_row a_sysCoef L i L)) n' (nI m) f_depth f_side f_arraySide f_statements f_sealed f_points f_distanceCount f_bandFirst f_bandCount f_bandSize f_accepted f_blamed f_prefixLength f_tunedFresh f_rangeLow f_rangeHigh f_scanAt f_scanFirst f_scanCount f_scanSize f_scanPins a_limits a_ops a_factors a_given a_subs a_pointX a_numberAt a_cells a_seen a_distances a_matrix a_prefix a_prefixFrom a_prefixTo a_tunedOrder a_tunedKey a_toX a_toZ s.2.1 s.2.2.1 s.2.2.2 s.1 a_hullLow a_hullHigh a_spanLow a_spanHigh a_cursor a_limit a_pin a_echelon a_pivot)
        (fun m s => xe_I L i MC' MB' PL a_sysCoef a_sysBound a_sysCount (ctb (xe_z a_sysCoef L) i + ctb (xe_p a_sysCoef L) i * ctb (xe_q a_sysCoef L) kL + ctb (xe_q a_sysCoef L) m) s.2.1 s.2.2.1 s.2.2.2) kL (cd, sc, sb, sk) ?_ ?_ ?_
      · exact ⟨k, P, ok, fr, hc, hzr, hk1, fun h => by have := hk2 h; omega⟩
      · intro n' s hs
        obtain ⟨k, P, ok, fr, hc, hzr, hk1, hk2⟩ := hs
        refine br_t (nI_le (by omega) (by omega)) (nm_r (nI_1 i) (hK s ⟨k, P, ok, fr, hc, fun z hP r hr h => ?_, hk1, fun h => ?_⟩))
        · by_cases x : r = i
          · subst x; omega
          · exact hzr z hP r (by omega) h
        · have := hk2 h
          rw [ctb_f (f := xe_z a_sysCoef L) (n := i) (decide_eq_false (by omega)), ctb_t (f := xe_p a_sysCoef L) (n := i) (decide_eq_true hu0), Nat.add_mul]
          omega
      · clear ok fr hc hzr hk1 hk2 hk hrow hb hd okc bi hup u0 e c hle h0
        intro n' m s hm hs hK'
        obtain ⟨cd, sc, sb, sk⟩ := s
        obtain ⟨k, P, ok, fr, hc, hzr, hk1, hk2⟩ := hs
        dsimp only at ok fr
        have hk : k < 40 := by
          rcases (show L = 1 ∨ L = 2 by omega) with h | h
          · have := hk1 h; omega
          · have := hk2 h
            have := hcap1 h
            have := ctb_le (f := xe_q a_sysCoef L) (show m ≤ kL by omega)
            omega
        have hrow : ∀ r v, r < 40 → v < 3 → xs_row sc L r v = xs_row a_sysCoef L r v := fun r v hr hv => by
          show (sc _).toInt = (a_sysCoef _).toInt
          rw [((fr L (by omega)).2 r hr).2 v hv]
        have hb : ∀ r, r < 40 → sb (L * 40 + r) = a_sysBound (L * 40 + r) := fun r hr => ((fr L (by omega)).2 r hr).1
        have hd : ∀ r z, r < 40 → dtp L (xs_row sc L r) z = dtp L (xs_row a_sysCoef L r) z := fun r z hr => dtp_congr (fun v hv => hrow r v hr (by omega)) (fun _ _ => rfl)
        have okc : xs_OK L kL sc sb sk MC MB PL := xs_Fr_OK (by omega) hL hkL fr okL
        have e : (nI L * 40 + nI m) * 3 + nI L = nI ((L * 40 + m) * 3 + L) := by rw [nx_m40, nI_add, nx_m3, nI_add]
        have c : ((nI L * 40 + nI m) * 3 + nI L).toNatClampNeg = (L * 40 + m) * 3 + L := cx_n _ e (by omega)
        have bi := okc.2.1 i hi
        have bm := okc.2.1 m hm
        have bd := bm.1 L (by omega)
        have hdn : xs_row sc L m L = xs_row a_sysCoef L m L := hrow m L (by omega) hL
        show wX_eliminate_60 post (wX_eliminate_9 post (nI L) (nI kL) n) (nI L) (nI kL) (nI i) (zL (xs_row a_sysCoef L i L)) (n' + 1) (nI m) f_depth f_side f_arraySide f_statements f_sealed f_points f_distanceCount f_bandFirst f_bandCount f_bandSize f_accepted f_blamed f_prefixLength f_tunedFresh f_rangeLow f_rangeHigh f_scanAt f_scanFirst f_scanCount f_scanSize f_scanPins a_limits a_ops a_factors a_given a_subs a_pointX a_numberAt a_cells a_seen a_distances a_matrix a_prefix a_prefixFrom a_prefixTo a_tunedOrder a_tunedKey a_toX a_toZ sc sb sk cd a_hullLow a_hullHigh a_spanLow a_spanHigh a_cursor a_limit a_pin a_echelon a_pivot
        refine br_f (nI_ge hm (by omega)) ⟨vx_n _ e (by omega) (by omega), nm_r (e' := zL (xs_row sc L m L)) (by rw [c]; exact zL_of _) (br_c (fun h0 => ?_) (fun h0 => ?_))⟩
        · have hn : 0 ≤ xs_row sc L m L := by
            rw [zL_0, zL_le (by omega) (by omega) (by omega) (by omega)] at h0; exact h0
          refine nm_r (nI_1 m) (hK' (cd, sc, sb, sk) ⟨k, P, ok, fr, hc, hzr, hk1, fun h => ?_⟩)
          have := hk2 h
          rw [ctb_f (f := xe_q a_sysCoef L) (n := m) (decide_eq_false (by omega))]
          exact this
        · have hn : xs_row sc L m L < 0 := by
            rw [zL_0, zL_le (by omega) (by omega) (by omega) (by omega)] at h0; omega
          rw [zL_neg]
          have hone : ∀ z, PL z → dtp L (xs_row sc L i) z * (-xs_row sc L m L) + dtp L (xs_row sc L m) z * (xs_row a_sysCoef L i L) ≤ (sb (L * 40 + i)).toInt * (-xs_row sc L m L) + (sb (L * 40 + m)).toInt * (xs_row a_sysCoef L i L) := fun z hz => by
            have s1 := satz z hz i hi
            have s2 := satz z hz m hm
            rw [hd i z (by omega), hb i (by omega), hd m z (by omega), hb m (by omega), hdn]
            exact xe_nl s1 s2 (by omega) (by omega)
          refine xe_comb (z0 := z0) (MC := MC) (MB := MB) (P := P) hL1 hL (by omega) (by omega) ⟨by omega, by omega⟩ bu bi bm h1 h2 hMC hMB hk ok (hone z0 hz) ?_
          intro cd' sc' sb' sk' k' q1 q2 q3 ok' fr'
          refine nm_r (nI_1 m) (hK' (cd', sc', sb', sk') ⟨k', _, ok', xs_Fr_trans fr fr', fun z hz => ⟨hc z hz, hone z hz⟩, fun z hP r hr h => hzr z hP.1 r hr h, q3, fun h => ?_⟩)
          have := hk2 h
          rw [ctb_t (f := xe_q a_sysCoef L) (n := m) (decide_eq_true (by omega))]
          omega
end
end
section
/-! buildHull, buildSystem -/
def hlo (Z : Nat → Int) (S : Int) (l : Nat) : Nat → Int
  | 0 => 0
  | c + 1 => hlo Z S l c + (if 0 ≤ Z (l * 3 + c) * (S - 1) then 0 else Z (l * 3 + c) * (S - 1))
def hhi (Z : Nat → Int) (S : Int) (l : Nat) : Nat → Int
  | 0 => 0
  | c + 1 => hhi Z S l c + (if 0 ≤ Z (l * 3 + c) * (S - 1) then Z (l * 3 + c) * (S - 1) else 0)
theorem hl_b {Z : Nat → Int} {S M : Int} {l n : Nat} (hS : 1 ≤ S ∧ S ≤ 8) (hZ : ∀ c, c < n → -M ≤ Z (l * 3 + c) ∧ Z (l * 3 + c) ≤ M) :
    hlo Z S l n ≤ 0 ∧ 0 ≤ hhi Z S l n ∧ hhi Z S l n - hlo Z S l n ≤ M * 7 * n := by
  induction n with
  | zero => exact ⟨Int.le_refl _, Int.le_refl _, by show (0 : Int) - 0 ≤ _; omega⟩
  | succ n ih =>
    have h := ih (fun c hc => hZ c (by omega))
    have b := ab_mul (hZ n (by omega)).1 (hZ n (by omega)).2 (b := S - 1) (B := 7) (by omega) (by omega)
    have e1 : hlo Z S l (n + 1) = hlo Z S l n + (if 0 ≤ Z (l * 3 + n) * (S - 1) then 0 else Z (l * 3 + n) * (S - 1)) := rfl
    have e2 : hhi Z S l (n + 1) = hhi Z S l n + (if 0 ≤ Z (l * 3 + n) * (S - 1) then Z (l * 3 + n) * (S - 1) else 0) := rfl
    have e3 : M * 7 * ((n + 1 : Nat) : Int) = M * 7 * n + M * 7 := by rw [Int.natCast_add, Int.mul_add]; omega
    rw [e1, e2, e3]
    split <;> omega
theorem hl_in {Z x : Nat → Int} {S : Int} {l n : Nat} (hx : ∀ c, c < n → 0 ≤ x c ∧ x c ≤ S - 1) :
    hlo Z S l n ≤ dtp n (fun c => Z (l * 3 + c)) x ∧ dtp n (fun c => Z (l * 3 + c)) x ≤ hhi Z S l n := by
  induction n with
  | zero => exact ⟨Int.le_refl _, Int.le_refl _⟩
  | succ n ih =>
    have h := ih (fun c hc => hx c (by omega))
    have b := hx n (by omega)
    have e1 : hlo Z S l (n + 1) = hlo Z S l n + (if 0 ≤ Z (l * 3 + n) * (S - 1) then 0 else Z (l * 3 + n) * (S - 1)) := rfl
    have e2 : hhi Z S l (n + 1) = hhi Z S l n + (if 0 ≤ Z (l * 3 + n) * (S - 1) then Z (l * 3 + n) * (S - 1) else 0) := rfl
    have e3 : dtp (n + 1) (fun c => Z (l * 3 + c)) x = dtp n (fun c => Z (l * 3 + c)) x + Z (l * 3 + n) * x n := rfl
    rw [e1, e2, e3]
    generalize Z (l * 3 + n) = a at *
    by_cases ha : 0 ≤ a
    · have p1 : 0 ≤ a * (S - 1) := Int.mul_nonneg ha (by omega)
      have p2 : a * x n ≤ a * (S - 1) := Int.mul_le_mul_of_nonneg_left b.2 ha
      have p3 : 0 ≤ a * x n := Int.mul_nonneg ha b.1
      rw [if_pos p1, if_pos p1]; omega
    · have p2 : (-a) * x n ≤ (-a) * (S - 1) := Int.mul_le_mul_of_nonneg_left b.2 (by omega)
      have p3 : 0 ≤ (-a) * x n := Int.mul_nonneg (by omega) b.1
      rw [Int.neg_mul, Int.neg_mul] at p2
      rw [Int.neg_mul] at p3
      split <;> omega
/-- the nest's constraints at level l -/
def nst (S : Int) (B x : Nat → Int) (l : Nat) : Prop :=
  0 ≤ x l ∧ x l ≤ S - 1 ∧ B (6 * l) * x 0 + B (6 * l + 1) * x 1 + B (6 * l + 2) ≤ x l ∧ x l ≤ B (6 * l + 3) * x 0 + B (6 * l + 4) * x 1 + B (6 * l + 5)
def nest (D : Nat) (S : Int) (B x : Nat → Int) : Prop := ∀ l, l < D → nst S B x l
def lim_ok (B : Nat → Int) : Prop := ∀ l, l < 3 → (-2 ≤ B (6 * l) ∧ B (6 * l) ≤ 2) ∧ (-2 ≤ B (6 * l + 1) ∧ B (6 * l + 1) ≤ 2) ∧ (-15 ≤ B (6 * l + 2) ∧ B (6 * l + 2) ≤ 15) ∧
  (-2 ≤ B (6 * l + 3) ∧ B (6 * l + 3) ≤ 2) ∧ (-2 ≤ B (6 * l + 4) ∧ B (6 * l + 4) ≤ 2) ∧ (-15 ≤ B (6 * l + 5) ∧ B (6 * l + 5) ≤ 15)
/-- the systems of a scan: complete for N, and sound by the rows with their own variable -/
def xs_Sys (D : Nat) (sc sb : Nat → Int64) (sk : Nat → Int32) (N : (Nat → Int) → Prop) : Prop :=
  ∃ k : Nat → Nat, (∀ l, l < D → sk l = nI (k l) ∧ k l ≤ 40 ∧ xs_Bnd sc sb l (k l) 1342177280000 31457280000) ∧
    (∀ z, N z → ∀ l, l < D → xs_Sat sc sb l (k l) z) ∧
    (∀ z, (∀ l, l < D → ∀ r, r < k l → xs_row sc l r l ≠ 0 → dtp (l + 1) (xs_row sc l r) z ≤ (sb (l * 40 + r)).toInt) → N z)
theorem xs_Bnd_mono {sc sb : Nat → Int64} {l k : Nat} {MC MB MC' MB' : Int} (h : xs_Bnd sc sb l k MC MB) (h1 : MC ≤ MC') (h2 : MB ≤ MB') : xs_Bnd sc sb l k MC' MB' := fun r hr => by
  have := h r hr
  refine ⟨fun v hv => ?_, by omega, by omega⟩
  have := this.1 v hv
  omega
theorem xs_lift {l l' k : Nat} {sc sb sc' sb' : Nat → Int64} {sk sk' : Nat → Int32} {z : Nat → Int} (hl : l' ≠ l) (h3 : l' < 3) (hk : k ≤ 40) (fr : xs_Fr l sc sb sk sc' sb' sk')
    (h1 : ∀ r, r < k → xs_row sc' l' r l' ≠ 0 → dtp (l' + 1) (xs_row sc' l' r) z ≤ (sb' (l' * 40 + r)).toInt)
    (h2 : ∀ r, r < k → xs_row sc l' r l' = 0 → dtp (l' + 1) (xs_row sc l' r) z ≤ (sb (l' * 40 + r)).toInt) : xs_Sat sc sb l' k z := by
  intro r hr
  have hrow : ∀ v, v < 3 → xs_row sc' l' r v = xs_row sc l' r v := fun v hv => by
    show (sc' _).toInt = (sc _).toInt
    rw [((fr l' hl).2 r (by omega)).2 v hv]
  by_cases x : xs_row sc l' r l' = 0
  · exact h2 r hr x
  · have := h1 r hr (by rw [hrow l' h3]; exact x)
    rw [dtp_congr (fun v hv => hrow v (by omega)) (fun _ _ => rfl), ((fr l' hl).2 r (by omega)).1] at this
    exact this
theorem xs_own0 {sc sb : Nat → Int64} {k : Nat} {z : Nat → Int} (o : xs_One sc k) (h : ∀ r, r < k → xs_row sc 0 r 0 ≠ 0 → dtp (0 + 1) (xs_row sc 0 r) z ≤ (sb (0 * 40 + r)).toInt) : xs_Sat sc sb 0 k z := by
  intro r hr
  refine h r hr ?_
  have := o.1 r hr
  omega
theorem xs_nst {S : Int} {B x : Nat → Int} {l : Nat} : nst S B x l ↔ (((0 * x 0 + 0 * x 1 + (-1) * x l ≤ 0) ∧ 0 * x 0 + 0 * x 1 + 1 * x l ≤ S - 1) ∧ B (6 * l) * x 0 + B (6 * l + 1) * x 1 + (-1) * x l ≤ -B (6 * l + 2)) ∧
    (-B (6 * l + 3)) * x 0 + (-B (6 * l + 4)) * x 1 + 1 * x l ≤ B (6 * l + 5) := by
  unfold nst
  rw [Int.neg_mul (B (6 * l + 3)), Int.neg_mul (B (6 * l + 4))]
  omega
section
variable {D S : Nat} {f_arraySide f_statements f_sealed f_points f_distanceCount f_bandFirst f_bandCount f_bandSize f_accepted f_blamed f_prefixLength f_tunedFresh f_scanAt f_scanFirst f_scanCount f_scanSize f_scanPins : Int32} {f_rangeLow f_rangeHigh : Int64} {a_limits a_ops a_factors a_given a_subs a_pointX a_numberAt a_cells a_seen a_distances a_matrix a_prefix a_prefixFrom a_prefixTo a_tunedOrder a_tunedKey a_toX a_toZ a_sysCount a_hullLow a_hullHigh a_cursor a_limit a_pin a_echelon a_pivot : Nat → Int32} {a_sysCoef a_sysBound a_cand a_spanLow a_spanHigh : Nat → Int64}
theorem xh_hull {post : SX → Prop} {Z : Nat → Int} (hD : D = 2 ∨ D = 3) (hS : 2 ≤ S ∧ S ≤ 8) (hZ : ∀ j, j < 9 → a_toZ j = zI (Z j)) (hZb : ∀ j, j < 9 → -24 ≤ Z j ∧ Z j ≤ 24)
    (K : ∀ (hL hH : Nat → Int32), (∀ l, l < D → hL l = zI (hlo Z S l D) ∧ hH l = zI (hhi Z S l D)) → post ((nI D), (nI S), f_arraySide, f_statements, f_sealed, f_points, f_distanceCount, f_bandFirst, f_bandCount, f_bandSize, f_accepted, f_blamed, f_prefixLength, f_tunedFresh, f_rangeLow, f_rangeHigh, f_scanAt, f_scanFirst, f_scanCount, f_scanSize, f_scanPins, a_limits, a_ops, a_factors, a_given, a_subs, a_pointX, a_numberAt, a_cells, a_seen, a_distances, a_matrix, a_prefix, a_prefixFrom, a_prefixTo, a_tunedOrder, a_tunedKey, a_toX, a_toZ, a_sysCoef, a_sysBound, a_sysCount, a_cand, hL, hH, a_spanLow, a_spanHigh, a_cursor, a_limit, a_pin, a_echelon, a_pivot)) : wpX_buildHull post ((nI D), (nI S), f_arraySide, f_statements, f_sealed, f_points, f_distanceCount, f_bandFirst, f_bandCount, f_bandSize, f_accepted, f_blamed, f_prefixLength, f_tunedFresh, f_rangeLow, f_rangeHigh, f_scanAt, f_scanFirst, f_scanCount, f_scanSize, f_scanPins, a_limits, a_ops, a_factors, a_given, a_subs, a_pointX, a_numberAt, a_cells, a_seen, a_distances, a_matrix, a_prefix, a_prefixFrom, a_prefixTo, a_tunedOrder, a_tunedKey, a_toX, a_toZ, a_sysCoef, a_sysBound, a_sysCount, a_cand, a_hullLow, a_hullHigh, a_spanLow, a_spanHigh, a_cursor, a_limit, a_pin, a_echelon, a_pivot) := by
  refine loop_0 (fun n i (s : (Nat → Int32) × (Nat → Int32)) => wX_buildHull_2 post (nI D) (nI S) f_arraySide f_statements f_sealed f_points f_distanceCount f_bandFirst f_bandCount f_bandSize f_accepted f_blamed f_prefixLength f_tunedFresh f_rangeLow f_rangeHigh f_scanAt f_scanFirst f_scanCount f_scanSize f_scanPins n (nI i) a_limits a_ops a_factors a_given a_subs a_pointX a_numberAt a_cells a_seen a_distances a_matrix a_prefix a_prefixFrom a_prefixTo a_tunedOrder a_tunedKey a_toX a_toZ a_sysCoef a_sysBound a_sysCount a_cand s.1 s.2 a_spanLow a_spanHigh a_cursor a_limit a_pin a_echelon a_pivot)
    (fun i s => ∀ l, l < i → s.1 l = zI (hlo Z S l D) ∧ s.2 l = zI (hhi Z S l D)) D (a_hullLow, a_hullHigh) (fun l hl => by omega) ?_ ?_
  · intro n s hs
    exact br_t (nI_le (by omega) (by omega)) (K s.1 s.2 hs)
  · intro n i s hi hs hK
    obtain ⟨hL, hH⟩ := s
    refine br_f (nI_ge hi (by omega)) ⟨D + 1, ?_⟩
    have ci : (nI i).toNatClampNeg = i := nI_clamp (by omega)
    have go : ∀ d c : Nat, c + d = D → wX_buildHull_17 post (wX_buildHull_2 post (nI D) (nI S) f_arraySide f_statements f_sealed f_points f_distanceCount f_bandFirst f_bandCount f_bandSize f_accepted f_blamed f_prefixLength f_tunedFresh f_rangeLow f_rangeHigh f_scanAt f_scanFirst f_scanCount f_scanSize f_scanPins n) (nI i) (nI D) (nI S) f_arraySide f_statements f_sealed f_points f_distanceCount f_bandFirst f_bandCount f_bandSize f_accepted f_blamed f_prefixLength f_tunedFresh f_rangeLow f_rangeHigh f_scanAt f_scanFirst f_scanCount f_scanSize f_scanPins a_limits a_ops a_factors a_given a_subs a_pointX a_numberAt a_cells a_seen a_distances a_matrix a_prefix a_prefixFrom a_prefixTo a_tunedOrder a_tunedKey a_toX a_toZ a_sysCoef a_sysBound a_sysCount a_cand hL hH a_spanLow a_spanHigh a_cursor a_limit a_pin a_echelon a_pivot (d + 1) (zI (hlo Z S i c)) (zI (hhi Z S i c)) (nI c) := by
      intro d
      induction d with
      | zero =>
        intro c hc
        cases (show c = D by omega)
        refine br_t (nI_le (by omega) (by omega)) ⟨vp_in_nI (by omega) (by omega), nm_r (by rw [ci]) ⟨vp_in_nI (by omega) (by omega), nm_r (by rw [ci]) (nm_r (nI_1 i) (hK (_, _) ?_))⟩⟩
        intro l hl
        by_cases x : l = i
        · subst x; exact ⟨pk_us, pk_us⟩
        · exact ⟨(pk_un x).trans (hs l (by omega)).1, (pk_un x).trans (hs l (by omega)).2⟩
      | succ d ih =>
        intro c hc
        have e : nI i * 3 + nI c = nI (i * 3 + c) := by rw [nx_m3, nI_add]
        have cc : (nI i * 3 + nI c).toNatClampNeg = i * 3 + c := cx_n _ e (by omega)
        have b := ab_mul (hZb (i * 3 + c) (by omega)).1 (hZb (i * 3 + c) (by omega)).2 (b := (S : Int) - 1) (B := 7) (by omega) (by omega)
        have e0 : ∀ w, (0 : Int32) ≤ zI w ↔ zI 0 ≤ zI w := fun w => by rw [← zI_0]
        refine br_f (nI_ge (by omega) (by omega)) ⟨vx_n _ e (by omega) (by omega), nm_r (e' := zI (Z (i * 3 + c) * ((S : Int) - 1))) ?_ (br_c (fun h => ?_) (fun h => ?_))⟩
        · rw [cc, hZ _ (by omega), show nI S - 1 = zI ((S : Int) - 1) from by rw [zI_n, zI_1, zI_sub], zI_mul]
        · rw [e0, zI_le (by omega) (by omega) (by omega) (by omega)] at h
          refine nm_r (zI_add _ _) (nm_r (nI_1 c) ?_)
          have := ih (c + 1) (by omega)
          have e1 : hlo Z S i (c + 1) = hlo Z S i c := by show hlo Z S i c + _ = _; rw [if_pos h]; omega
          have e2 : hhi Z S i (c + 1) = hhi Z S i c + Z (i * 3 + c) * ((S : Int) - 1) := by show hhi Z S i c + _ = _; rw [if_pos h]
          rw [e1, e2] at this
          exact this
        · rw [e0, zI_le (by omega) (by omega) (by omega) (by omega)] at h
          refine nm_r (zI_add _ _) (nm_r (nI_1 c) ?_)
          have := ih (c + 1) (by omega)
          have e1 : hlo Z S i (c + 1) = hlo Z S i c + Z (i * 3 + c) * ((S : Int) - 1) := by show hlo Z S i c + _ = _; rw [if_neg h]
          have e2 : hhi Z S i (c + 1) = hhi Z S i c := by show hhi Z S i c + _ = _; rw [if_neg h]; omega
          rw [e1, e2] at this
          exact this
    exact go D 0 (by omega)
end
end
section
section
variable {D S : Nat} {f_arraySide f_statements f_sealed f_points f_distanceCount f_bandFirst f_bandCount f_bandSize f_accepted f_blamed f_prefixLength f_tunedFresh f_scanAt f_scanFirst f_scanCount f_scanSize f_scanPins : Int32} {f_rangeLow f_rangeHigh : Int64} {a_limits a_ops a_factors a_given a_subs a_pointX a_numberAt a_cells a_seen a_distances a_matrix a_prefix a_prefixFrom a_prefixTo a_tunedOrder a_tunedKey a_toX a_toZ a_sysCount a_hullLow a_hullHigh a_cursor a_limit a_pin a_echelon a_pivot : Nat → Int32} {a_sysCoef a_sysBound a_cand a_spanLow a_spanHigh : Nat → Int64}
theorem xs_constr {post : SX → Prop} {lv k : Nat} {p1 p2 p3 p4 : Int32} (ci cj ow m : Int) {X : Nat → Int} {P : (Nat → Int) → Prop} {z0 : Nat → Int}
    (e1 : p1 = zI ci) (e2 : p2 = zI cj) (e3 : p3 = zI ow) (e4 : p4 = zI m) (hD : D = 2 ∨ D = 3)
    (hX : ∀ j, j < 9 → a_toX j = zI (X j)) (hXb : ∀ j, j < 9 → -128 ≤ X j ∧ X j ≤ 128) (h1 : -2 ≤ ci ∧ ci ≤ 2) (h2 : -2 ≤ cj ∧ cj ≤ 2) (h3 : -1 ≤ ow ∧ ow ≤ 1) (h4 : -15 ≤ m ∧ m ≤ 15)
    (hlv : lv < 3) (hk : k < 40) (ok : xs_OK (D - 1) k a_sysCoef a_sysBound a_sysCount 640 15 P)
    (hz : ci * xr X D z0 0 + cj * xr X D z0 1 + ow * xr X D z0 lv ≤ m)
    (K : ∀ (cd' sc' sb' : Nat → Int64) (sk' : Nat → Int32) (k' : Nat), k ≤ k' → k' ≤ k + 1 →
      xs_OK (D - 1) k' sc' sb' sk' 640 15 (fun z => P z ∧ ci * xr X D z 0 + cj * xr X D z 1 + ow * xr X D z lv ≤ m) → xs_Fr (D - 1) a_sysCoef a_sysBound a_sysCount sc' sb' sk' →
      post ((nI D), (nI S), f_arraySide, f_statements, f_sealed, f_points, f_distanceCount, f_bandFirst, f_bandCount, f_bandSize, f_accepted, f_blamed, f_prefixLength, f_tunedFresh, f_rangeLow, f_rangeHigh, f_scanAt, f_scanFirst, f_scanCount, f_scanSize, f_scanPins, a_limits, a_ops, a_factors, a_given, a_subs, a_pointX, a_numberAt, a_cells, a_seen, a_distances, a_matrix, a_prefix, a_prefixFrom, a_prefixTo, a_tunedOrder, a_tunedKey, a_toX, a_toZ, sc', sb', sk', cd', a_hullLow, a_hullHigh, a_spanLow, a_spanHigh, a_cursor, a_limit, a_pin, a_echelon, a_pivot)) : wpX_constrain post ((nI D), (nI S), f_arraySide, f_statements, f_sealed, f_points, f_distanceCount, f_bandFirst, f_bandCount, f_bandSize, f_accepted, f_blamed, f_prefixLength, f_tunedFresh, f_rangeLow, f_rangeHigh, f_scanAt, f_scanFirst, f_scanCount, f_scanSize, f_scanPins, a_limits, a_ops, a_factors, a_given, a_subs, a_pointX, a_numberAt, a_cells, a_seen, a_distances, a_matrix, a_prefix, a_prefixFrom, a_prefixTo, a_tunedOrder, a_tunedKey, a_toX, a_toZ, a_sysCoef, a_sysBound, a_sysCount, a_cand, a_hullLow, a_hullHigh, a_spanLow, a_spanHigh, a_cursor, a_limit, a_pin, a_echelon, a_pivot) (nI lv) p1 p2 p3 p4 := by
  subst e1; subst e2; subst e3; subst e4
  exact xs_constrain hD hX hXb h1 h2 h3 h4 hlv hk ok hz K
/-- the loop over the levels: all constraints of the nest go into system D - 1 -/
theorem xb_22 {post : SX → Prop} {X B : Nat → Int} {z0 : Nat → Int} (hD : D = 2 ∨ D = 3) (hS : 2 ≤ S ∧ S ≤ 8) (hX : ∀ j, j < 9 → a_toX j = zI (X j)) (hXb : ∀ j, j < 9 → -128 ≤ X j ∧ X j ≤ 128)
    (hB : ∀ j, j < 18 → a_limits j = zI (B j)) (hBb : lim_ok B) (hz0 : nest D S B (xr X D z0)) (hk0 : ∀ l, l < 3 → a_sysCount l = nI 0)
    (K : ∀ (n : Nat) (cd' sc' sb' : Nat → Int64) (sk' : Nat → Int32) (k : Nat), k ≤ 4 * D → xs_OK (D - 1) k sc' sb' sk' 640 15 (fun z => nest D S B (xr X D z)) → (∀ l, l < 3 → l ≠ D - 1 → sk' l = nI 0) →
      wX_buildSystem_22 post (n + 1) (nI D) (nI D) (nI S) f_arraySide f_statements f_sealed f_points f_distanceCount f_bandFirst f_bandCount f_bandSize f_accepted f_blamed f_prefixLength f_tunedFresh f_rangeLow f_rangeHigh f_scanAt f_scanFirst f_scanCount f_scanSize f_scanPins a_limits a_ops a_factors a_given a_subs a_pointX a_numberAt a_cells a_seen a_distances a_matrix a_prefix a_prefixFrom a_prefixTo a_tunedOrder a_tunedKey a_toX a_toZ sc' sb' sk' cd' a_hullLow a_hullHigh a_spanLow a_spanHigh a_cursor a_limit a_pin a_echelon a_pivot) :
    ∃ n22 : Nat, wX_buildSystem_22 post n22 0 (nI D) (nI S) f_arraySide f_statements f_sealed f_points f_distanceCount f_bandFirst f_bandCount f_bandSize f_accepted f_blamed f_prefixLength f_tunedFresh f_rangeLow f_rangeHigh f_scanAt f_scanFirst f_scanCount f_scanSize f_scanPins a_limits a_ops a_factors a_given a_subs a_pointX a_numberAt a_cells a_seen a_distances a_matrix a_prefix a_prefixFrom a_prefixTo a_tunedOrder a_tunedKey a_toX a_toZ a_sysCoef a_sysBound a_sysCount a_cand a_hullLow a_hullHigh a_spanLow a_spanHigh a_cursor a_limit a_pin a_echelon a_pivot := by
  refine loop_0 (fun n i (s : (Nat → Int64) × (Nat → Int64) × (Nat → Int64) × (Nat → Int32)) => wX_buildSystem_22 post n (nI i) (nI D) (nI S) f_arraySide f_statements f_sealed f_points f_distanceCount f_bandFirst f_bandCount f_bandSize f_accepted f_blamed f_prefixLength f_tunedFresh f_rangeLow f_rangeHigh f_scanAt f_scanFirst f_scanCount f_scanSize f_scanPins a_limits a_ops a_factors a_given a_subs a_pointX a_numberAt a_cells a_seen a_distances a_matrix a_prefix a_prefixFrom a_prefixTo a_tunedOrder a_tunedKey a_toX a_toZ s.2.1 s.2.2.1 s.2.2.2 s.1 a_hullLow a_hullHigh a_spanLow a_spanHigh a_cursor a_limit a_pin a_echelon a_pivot)
    (fun i s => ∃ k : Nat, k ≤ 4 * i ∧ xs_OK (D - 1) k s.2.1 s.2.2.1 s.2.2.2 640 15 (fun z => ∀ l, l < i → nst S B (xr X D z) l) ∧ (∀ l, l < 3 → l ≠ D - 1 → s.2.2.2 l = nI 0)) D (a_cand, a_sysCoef, a_sysBound, a_sysCount) ?_ ?_ ?_
  · exact ⟨0, by omega, ⟨hk0 _ (by omega), fun r hr => by omega, fun _ => ⟨fun r hr => by omega, fun r r' _ hr => by omega⟩, fun z => ⟨fun _ l hl => by omega, fun _ r hr => by omega⟩⟩, fun l hl _ => hk0 l hl⟩
  · intro n s hs
    obtain ⟨k, hk, ok, h0⟩ := hs
    exact K n s.1 s.2.1 s.2.2.1 s.2.2.2 k hk ok h0
  · intro n i s hi hs hK
    obtain ⟨cd, sc, sb, sk⟩ := s
    obtain ⟨k, hk, ok, h0⟩ := hs
    dsimp only at ok h0
    have hb := hBb i (by omega)
    have hz := xs_nst.mp (hz0 i hi)
    have c0 : (nI (6 * i)).toNatClampNeg = 6 * i := nI_clamp (by omega)
    have c1 : (nI (6 * i) + 1).toNatClampNeg = 6 * i + 1 := cx_n _ (nI_1 _) (by omega)
    have c2 : (nI (6 * i) + 2).toNatClampNeg = 6 * i + 2 := cx_n _ (nx_a2 _) (by omega)
    have c3 : (nI (6 * i + 3)).toNatClampNeg = 6 * i + 3 := nI_clamp (by omega)
    have c4 : (nI (6 * i + 3) + 1).toNatClampNeg = 6 * i + 4 := cx_n _ (nI_1 _) (by omega)
    have c5 : (nI (6 * i + 3) + 2).toNatClampNeg = 6 * i + 5 := cx_n _ (nx_a2 _) (by omega)
    refine br_f (nI_ge hi (by omega)) (nm_r (nx_6m i) (nm_r (e' := nI (6 * i + 3)) (by rw [nx_6m, nx_a3]) ?_))
    refine xs_constr 0 0 (-1) 0 (z0 := z0) (X := X) zI_0 zI_0 (by decide) zI_0 hD hX hXb (by omega) (by omega) (by omega) (by omega) (by omega) (by omega) ok hz.1.1.1 ?_
    intro cd1 sc1 sb1 sk1 k1 p1 q1 ok1 fr1
    refine xs_constr 0 0 1 ((S : Int) - 1) (z0 := z0) (X := X) zI_0 zI_0 zI_1 (by rw [zI_n, zI_1, zI_sub]) hD hX hXb (by omega) (by omega) (by omega) (by omega) (by omega) (by omega) ok1 hz.1.1.2 ?_
    intro cd2 sc2 sb2 sk2 k2 p2 q2 ok2 fr2
    refine ⟨vp_in_nI (by omega) (by omega), vx_n _ (nI_1 _) (by omega) (by omega), vx_n _ (nx_a2 _) (by omega) (by omega), ?_⟩
    refine xs_constr (B (6 * i)) (B (6 * i + 1)) (-1) (-B (6 * i + 2)) (z0 := z0) (X := X) (by rw [c0]; exact hB _ (by omega)) (by rw [c1]; exact hB _ (by omega)) (by decide) (by rw [c2, hB _ (by omega), zI_neg]) hD hX hXb (by omega) (by omega) (by omega) (by omega) (by omega) (by omega) ok2 hz.1.2 ?_
    intro cd3 sc3 sb3 sk3 k3 p3 q3 ok3 fr3
    refine ⟨vp_in_nI (by omega) (by omega), vx_n _ (nI_1 _) (by omega) (by omega), vx_n _ (nx_a2 _) (by omega) (by omega), ?_⟩
    refine xs_constr (-B (6 * i + 3)) (-B (6 * i + 4)) 1 (B (6 * i + 5)) (z0 := z0) (X := X) (by rw [c3, hB _ (by omega), zI_neg]) (by rw [c4, hB _ (by omega), zI_neg]) zI_1 (by rw [c5]; exact hB _ (by omega)) hD hX hXb (by omega) (by omega) (by omega) (by omega) (by omega) (by omega) ok3 hz.2 ?_
    intro cd4 sc4 sb4 sk4 k4 p4 q4 ok4 fr4
    refine nm_r (nI_1 i) (hK (cd4, sc4, sb4, sk4) ⟨k4, by omega, ⟨ok4.1, ok4.2.1, ok4.2.2.1, fun z => ?_⟩, fun l hl hne => ?_⟩)
    · rw [ok4.2.2.2 z]
      refine ⟨fun h l hl => ?_, fun h => ?_⟩
      · by_cases x : l = i
        · subst x; exact xs_nst.mpr ⟨⟨⟨h.1.1.1.2, h.1.1.2⟩, h.1.2⟩, h.2⟩
        · exact h.1.1.1.1 l (by omega)
      · have hn := xs_nst.mp (h i (by omega))
        exact ⟨⟨⟨⟨fun l hl => h l (by omega), hn.1.1.1⟩, hn.1.1.2⟩, hn.1.2⟩, hn.2⟩
    · exact (fr4 l hne).1.trans ((fr3 l hne).1.trans ((fr2 l hne).1.trans ((fr1 l hne).1.trans (h0 l hl hne))))
/-- buildSystem: the systems say the nest, the hull holds it -/
theorem xb_build {post : SX → Prop} {X Z B : Nat → Int} {z0 : Nat → Int} (hD : D = 2 ∨ D = 3) (hS : 2 ≤ S ∧ S ≤ 8) (hX : ∀ j, j < 9 → a_toX j = zI (X j)) (hXb : ∀ j, j < 9 → -128 ≤ X j ∧ X j ≤ 128)
    (hZ : ∀ j, j < 9 → a_toZ j = zI (Z j)) (hZb : ∀ j, j < 9 → -24 ≤ Z j ∧ Z j ≤ 24)
    (hB : ∀ j, j < 18 → a_limits j = zI (B j)) (hBb : lim_ok B) (hz0 : nest D S B (xr X D z0))
    (K : ∀ (cd' sc' sb' : Nat → Int64) (sk' hL hH : Nat → Int32), xs_Sys D sc' sb' sk' (fun z => nest D S B (xr X D z)) → (∀ l, l < D → hL l = zI (hlo Z S l D) ∧ hH l = zI (hhi Z S l D)) →
      post ((nI D), (nI S), f_arraySide, f_statements, f_sealed, f_points, f_distanceCount, f_bandFirst, f_bandCount, f_bandSize, f_accepted, f_blamed, f_prefixLength, f_tunedFresh, f_rangeLow, f_rangeHigh, f_scanAt, f_scanFirst, f_scanCount, f_scanSize, f_scanPins, a_limits, a_ops, a_factors, a_given, a_subs, a_pointX, a_numberAt, a_cells, a_seen, a_distances, a_matrix, a_prefix, a_prefixFrom, a_prefixTo, a_tunedOrder, a_tunedKey, a_toX, a_toZ, sc', sb', sk', cd', hL, hH, a_spanLow, a_spanHigh, a_cursor, a_limit, a_pin, a_echelon, a_pivot)) : wpX_buildSystem post ((nI D), (nI S), f_arraySide, f_statements, f_sealed, f_points, f_distanceCount, f_bandFirst, f_bandCount, f_bandSize, f_accepted, f_blamed, f_prefixLength, f_tunedFresh, f_rangeLow, f_rangeHigh, f_scanAt, f_scanFirst, f_scanCount, f_scanSize, f_scanPins, a_limits, a_ops, a_factors, a_given, a_subs, a_pointX, a_numberAt, a_cells, a_seen, a_distances, a_matrix, a_prefix, a_prefixFrom, a_prefixTo, a_tunedOrder, a_tunedKey, a_toX, a_toZ, a_sysCoef, a_sysBound, a_sysCount, a_cand, a_hullLow, a_hullHigh, a_spanLow, a_spanHigh, a_cursor, a_limit, a_pin, a_echelon, a_pivot) := by
  refine loop_0 (fun n i s => wX_buildSystem_2 post (nI D) (nI S) f_arraySide f_statements f_sealed f_points f_distanceCount f_bandFirst f_bandCount f_bandSize f_accepted f_blamed f_prefixLength f_tunedFresh f_rangeLow f_rangeHigh f_scanAt f_scanFirst f_scanCount f_scanSize f_scanPins n (nI i) a_limits a_ops a_factors a_given a_subs a_pointX a_numberAt a_cells a_seen a_distances a_matrix a_prefix a_prefixFrom a_prefixTo a_tunedOrder a_tunedKey a_toX a_toZ a_sysCoef a_sysBound s a_cand a_hullLow a_hullHigh a_spanLow a_spanHigh a_cursor a_limit a_pin a_echelon a_pivot) (fun i s => ∀ l, l < i → s l = nI 0) 3 a_sysCount (fun l hl => by omega) ?_ ?_
  · intro n s hs
    refine br_t (by decide) (xb_22 hD hS hX hXb hB hBb hz0 hs ?_)
    intro n cd' sc sb sk k hk ok h0
    refine br_t (nI_le (by omega) (by omega)) (nm_r (nx_s1 (by omega)) ?_)
    rcases hD with rfl | rfl
    · refine ⟨2, br_f (by decide) ?_⟩
      refine xe_elim (L := 1) (kL := k) (MC := 640) (MB := 15) (MC' := 819200) (MB' := 19200) (z0 := z0) (by omega) (by omega) (by omega) (by omega) ok
        ⟨h0 0 (by omega) (by omega), fun r hr => by omega, fun _ => ⟨fun r hr => by omega, fun r r' _ hr => by omega⟩, fun z => ⟨fun _ => trivial, fun _ r hr => by omega⟩⟩ (by decide) (by decide) (by decide) (by decide) (by decide) hz0 ?_
      rintro cd1 sc1 sb1 sk1 ⟨k0, P0, ok0, fr, hc, hzr, hk1, _⟩
      refine nm_r (e' := nI 0) (by decide) (br_t (by decide) (xh_hull (Or.inl rfl) hS hZ hZb ?_))
      intro hL hH hh
      refine K _ _ _ _ _ _ ⟨fun l => if l = 0 then k0 else k, fun l hl => ?_, fun z hN l hl => ?_, fun z hE => ?_⟩ hh
      all_goals have ok1 := xs_Fr_OK (l := 0) (l' := 1) (by omega) (by omega) (by omega) fr ok
      · rcases (show l = 0 ∨ l = 1 by omega) with rfl | rfl
        · exact ⟨ok0.1, by have := hk1 rfl; show k0 ≤ 40; omega, xs_Bnd_mono ok0.2.1 (by decide) (by decide)⟩
        · exact ⟨ok1.1, by show k ≤ 40; omega, xs_Bnd_mono ok1.2.1 (by decide) (by decide)⟩
      · rcases (show l = 0 ∨ l = 1 by omega) with rfl | rfl
        · exact (ok0.2.2.2 z).mpr (hc z hN)
        · exact (ok1.2.2.2 z).mpr hN
      · have s0 : xs_Sat sc1 sb1 0 k0 z := xs_own0 (ok0.2.2.1 rfl) (hE 0 (by omega))
        have p0 := (ok0.2.2.2 z).mp s0
        exact (ok.2.2.2 z).mp (xs_lift (by omega) (by omega) (by omega) fr (hE 1 (by omega)) (hzr z p0))
    · refine ⟨3, br_f (by decide) ?_⟩
      refine xe_elim (L := 2) (kL := k) (MC := 640) (MB := 15) (MC' := 819200) (MB' := 19200) (z0 := z0) (by omega) (by omega) (by omega) (by omega) ok
        ⟨h0 1 (by omega) (by omega), fun r hr => by omega, fun h => by omega, fun z => ⟨fun _ => trivial, fun _ r hr => by omega⟩⟩ (by decide) (by decide) (by decide) (by decide) (by decide) hz0 ?_
      rintro cd1 sc1 sb1 sk1 ⟨k1, P1, ok1, fr, hc, hzr, _, hk1⟩
      have hk1' := hk1 rfl
      refine nm_r (e' := nI 1) (by decide) (br_f (by decide) ?_)
      refine xe_elim (L := 1) (kL := k1) (MC := 819200) (MB := 19200) (MC' := 1342177280000) (MB' := 31457280000) (z0 := z0) (by omega) (by omega) (by omega) (by omega) ok1
        ⟨(fr 0 (by omega)).1.trans (h0 0 (by omega) (by omega)), fun r hr => by omega, fun _ => ⟨fun r hr => by omega, fun r r' _ hr => by omega⟩, fun z => ⟨fun _ => trivial, fun _ r hr => by omega⟩⟩ (by decide) (by decide) (by decide) (by decide) (by decide) (hc z0 hz0) ?_
      rintro cd2 sc2 sb2 sk2 ⟨k0, P0, ok0, fr', hc', hzr', hk0, _⟩
      refine nm_r (e' := nI 0) (by decide) (br_t (by decide) (xh_hull (Or.inr rfl) hS hZ hZb ?_))
      intro hL hH hh
      refine K _ _ _ _ _ _ ⟨fun l => if l = 0 then k0 else if l = 1 then k1 else k, fun l hl => ?_, fun z hN l hl => ?_, fun z hE => ?_⟩ hh
      all_goals have ok1' := xs_Fr_OK (l := 0) (l' := 1) (by omega) (by omega) (by omega) fr' ok1
      all_goals have ok2' := xs_Fr_OK (l := 1) (l' := 2) (by omega) (by omega) (by omega) fr ok
      all_goals have ok2 := xs_Fr_OK (l := 0) (l' := 2) (by omega) (by omega) (by omega) fr' ok2'
      · rcases (show l = 0 ∨ l = 1 ∨ l = 2 by omega) with rfl | rfl | rfl
        · exact ⟨ok0.1, by have := hk0 rfl; show k0 ≤ 40; omega, xs_Bnd_mono ok0.2.1 (by decide) (by decide)⟩
        · exact ⟨ok1'.1, by show k1 ≤ 40; omega, xs_Bnd_mono ok1'.2.1 (by decide) (by decide)⟩
        · exact ⟨ok2.1, by show k ≤ 40; omega, xs_Bnd_mono ok2.2.1 (by decide) (by decide)⟩
      · rcases (show l = 0 ∨ l = 1 ∨ l = 2 by omega) with rfl | rfl | rfl
        · exact (ok0.2.2.2 z).mpr (hc' z (hc z hN))
        · exact (ok1'.2.2.2 z).mpr (hc z hN)
        · exact (ok2.2.2.2 z).mpr hN
      · have s0 : xs_Sat sc2 sb2 0 k0 z := xs_own0 (ok0.2.2.1 rfl) (hE 0 (by omega))
        have p0 := (ok0.2.2.2 z).mp s0
        have s1 : xs_Sat sc1 sb1 1 k1 z := xs_lift (by omega) (by omega) (by omega) fr' (hE 1 (by omega)) (hzr' z p0)
        have p1 := (ok1.2.2.2 z).mp s1
        have fr2 : xs_Fr 1 sc sb sk sc1 sb1 sk1 := fr
        refine (ok.2.2.2 z).mp (xs_lift (sc' := sc1) (sb' := sb1) (by omega) (by omega) (by omega) fr (fun r hr hne => ?_) (hzr z p1))
        have hrow : ∀ v, v < 3 → xs_row sc2 2 r v = xs_row sc1 2 r v := fun v hv => by
          show (sc2 _).toInt = (sc1 _).toInt
          rw [((fr' 2 (by omega)).2 r (by omega)).2 v hv]
        have := hE 2 (by omega) r hr (by rw [hrow 2 (by omega)]; exact hne)
        rw [dtp_congr (fun v hv => hrow v (by omega)) (fun _ _ => rfl), ((fr' 2 (by omega)).2 r (by omega)).1] at this
        exact this
  · intro n i s hi hs hK
    have ci : (nI i).toNatClampNeg = i := nI_clamp (by omega)
    refine br_f (nI_ge (b := 3) hi (by omega)) ⟨vp_in_nI (by omega) (by omega), nm_r (by rw [ci]) (nm_r (nI_1 i) (hK _ ?_))⟩
    intro l hl
    by_cases x : l = i
    · subst x; exact pk_us
    · exact (pk_un x).trans (hs l (by omega))
end
end
section
/-! openLoop: loadSpans, restrict, applySystem -/
def pl (F Cn v : Nat) : Nat := if v < F then v else v + Cn
def splo (F Cn Sz tl : Nat) (c : Nat → Int) (v : Nat) : Int := if tl = 1 ∧ F ≤ v then c v * Sz else c (pl F Cn v)
def sphi (F Cn Sz tl : Nat) (c : Nat → Int) (v : Nat) : Int := if tl = 1 ∧ F ≤ v then c v * Sz + Sz - 1 else c (pl F Cn v)
def rsum (w lo hi : Nat → Int) : Nat → Int
  | 0 => 0
  | v + 1 => rsum w lo hi v + (if w v ≤ 0 then w v * hi v else w v * lo v)
theorem rsum_eq {w c : Nat → Int} : ∀ n, rsum w c c n = dtp n w c := by
  intro n
  induction n with
  | zero => rfl
  | succ n ih =>
    show rsum w c c n + (if w n ≤ 0 then w n * c n else w n * c n) = dtp n w c + w n * c n
    rw [ih]; split <;> rfl
theorem rsum_le {w lo hi c : Nat → Int} : ∀ n, (∀ v, v < n → lo v ≤ c v ∧ c v ≤ hi v) → rsum w lo hi n ≤ dtp n w c := by
  intro n
  induction n with
  | zero => intro _; exact Int.le_refl _
  | succ n ih =>
    intro h
    have h1 := ih (fun v hv => h v (by omega))
    have h2 := h n (by omega)
    show rsum w lo hi n + (if w n ≤ 0 then w n * hi n else w n * lo n) ≤ dtp n w c + w n * c n
    by_cases x : w n ≤ 0
    · rw [if_pos x]
      have p : (-w n) * c n ≤ (-w n) * hi n := Int.mul_le_mul_of_nonneg_left h2.2 (by omega)
      rw [Int.neg_mul, Int.neg_mul] at p
      omega
    · rw [if_neg x]
      have p : w n * lo n ≤ w n * c n := Int.mul_le_mul_of_nonneg_left h2.1 (by omega)
      omega
theorem rsum_b {w lo hi : Nat → Int} {M : Int} : ∀ n : Nat, (∀ v, v < n → -M ≤ w v ∧ w v ≤ M) → (∀ v, v < n → (-10000 ≤ lo v ∧ lo v ≤ 10000) ∧ -10000 ≤ hi v ∧ hi v ≤ 10000) → -(M * 10000) * n ≤ rsum w lo hi n ∧ rsum w lo hi n ≤ M * 10000 * n := by
  intro n
  induction n with
  | zero => intro _ _; show _ ≤ (0 : Int) ∧ (0 : Int) ≤ _; omega
  | succ n ih =>
    intro h1 h2
    have h := ih (fun v hv => h1 v (by omega)) (fun v hv => h2 v (by omega))
    have b1 := h1 n (by omega)
    have b2 := h2 n (by omega)
    have p1 := ab_mul b1.1 b1.2 b2.1.1 b2.1.2
    have p2 := ab_mul b1.1 b1.2 b2.2.1 b2.2.2
    have e1 : -(M * 10000) * ((n + 1 : Nat) : Int) = -(M * 10000) * n - M * 10000 := by
      rw [Int.natCast_add, Int.mul_add]; omega
    have e2 : M * 10000 * ((n + 1 : Nat) : Int) = M * 10000 * n + M * 10000 := by
      rw [Int.natCast_add, Int.mul_add]; omega
    rw [e1, e2]
    show _ ≤ rsum w lo hi n + (if w n ≤ 0 then w n * hi n else w n * lo n) ∧ rsum w lo hi n + (if w n ≤ 0 then w n * hi n else w n * lo n) ≤ _
    split <;> omega
section
variable {F Cn Sz : Nat} {f_depth f_side f_arraySide f_statements f_sealed f_points f_distanceCount f_bandFirst f_bandCount f_bandSize f_accepted f_blamed f_prefixLength f_tunedFresh f_scanAt f_scanPins : Int32} {f_rangeLow f_rangeHigh : Int64} {a_limits a_ops a_factors a_given a_subs a_pointX a_numberAt a_cells a_seen a_distances a_matrix a_prefix a_prefixFrom a_prefixTo a_tunedOrder a_tunedKey a_toX a_toZ a_sysCount a_hullLow a_hullHigh a_cursor a_limit a_pin a_echelon a_pivot : Nat → Int32} {a_sysCoef a_sysBound a_cand a_spanLow a_spanHigh : Nat → Int64}
theorem xo_spans {post : SX → Prop} {l tl : Nat} {c : Nat → Int} (hl : l < 3) (htl : tl = 0 ∨ tl = 1) (hF : F ≤ 3) (hC : Cn ≤ 3) (hlC : ∀ v, v < l → pl F Cn v < 6) (hSz : Sz ≤ 8)
    (hc : ∀ j, j < 6 → a_cursor j = zI (c j)) (hcb : ∀ v, v < l → (-1000 ≤ c v ∧ c v ≤ 1000) ∧ (¬ (tl = 1 ∧ F ≤ v) → -1000 ≤ c (pl F Cn v) ∧ c (pl F Cn v) ≤ 1000))
    (K : ∀ sl sh : Nat → Int64, (∀ v, v < l → sl v = zL (splo F Cn Sz tl c v) ∧ sh v = zL (sphi F Cn Sz tl c v)) → post (f_depth, f_side, f_arraySide, f_statements, f_sealed, f_points, f_distanceCount, f_bandFirst, f_bandCount, f_bandSize, f_accepted, f_blamed, f_prefixLength, f_tunedFresh, f_rangeLow, f_rangeHigh, f_scanAt, (nI F), (nI Cn), (nI Sz), f_scanPins, a_limits, a_ops, a_factors, a_given, a_subs, a_pointX, a_numberAt, a_cells, a_seen, a_distances, a_matrix, a_prefix, a_prefixFrom, a_prefixTo, a_tunedOrder, a_tunedKey, a_toX, a_toZ, a_sysCoef, a_sysBound, a_sysCount, a_cand, a_hullLow, a_hullHigh, sl, sh, a_cursor, a_limit, a_pin, a_echelon, a_pivot)) : wpX_loadSpans post (f_depth, f_side, f_arraySide, f_statements, f_sealed, f_points, f_distanceCount, f_bandFirst, f_bandCount, f_bandSize, f_accepted, f_blamed, f_prefixLength, f_tunedFresh, f_rangeLow, f_rangeHigh, f_scanAt, (nI F), (nI Cn), (nI Sz), f_scanPins, a_limits, a_ops, a_factors, a_given, a_subs, a_pointX, a_numberAt, a_cells, a_seen, a_distances, a_matrix, a_prefix, a_prefixFrom, a_prefixTo, a_tunedOrder, a_tunedKey, a_toX, a_toZ, a_sysCoef, a_sysBound, a_sysCount, a_cand, a_hullLow, a_hullHigh, a_spanLow, a_spanHigh, a_cursor, a_limit, a_pin, a_echelon, a_pivot) (nI l) (nI tl) := by
  refine loop_0 (fun n i (s : (Nat → Int64) × (Nat → Int64)) => wX_loadSpans_2 post (nI l) (nI tl) f_depth f_side f_arraySide f_statements f_sealed f_points f_distanceCount f_bandFirst f_bandCount f_bandSize f_accepted f_blamed f_prefixLength f_tunedFresh f_rangeLow f_rangeHigh f_scanAt (nI F) (nI Cn) (nI Sz) f_scanPins n (nI i) a_limits a_ops a_factors a_given a_subs a_pointX a_numberAt a_cells a_seen a_distances a_matrix a_prefix a_prefixFrom a_prefixTo a_tunedOrder a_tunedKey a_toX a_toZ a_sysCoef a_sysBound a_sysCount a_cand a_hullLow a_hullHigh s.1 s.2 a_cursor a_limit a_pin a_echelon a_pivot)
    (fun i s => ∀ v, v < i → s.1 v = zL (splo F Cn Sz tl c v) ∧ s.2 v = zL (sphi F Cn Sz tl c v)) l (a_spanLow, a_spanHigh) (fun v hv => by omega) ?_ ?_
  · intro n s hs
    exact br_t (nI_le (by omega) (by omega)) (K s.1 s.2 hs)
  · intro n i s hi hs hK
    obtain ⟨sl, sh⟩ := s
    have ci : (nI i).toNatClampNeg = i := nI_clamp (by omega)
    have hb := hcb i hi
    have up : ∀ (a b : Int) (x : Nat → Int64) (y : Nat → Int64), x = vp_updL sl i (zL a) → y = vp_updL sh i (zL b) → a = splo F Cn Sz tl c i → b = sphi F Cn Sz tl c i → wX_loadSpans_2 post (nI l) (nI tl) f_depth f_side f_arraySide f_statements f_sealed f_points f_distanceCount f_bandFirst f_bandCount f_bandSize f_accepted f_blamed f_prefixLength f_tunedFresh f_rangeLow f_rangeHigh f_scanAt (nI F) (nI Cn) (nI Sz) f_scanPins n (nI (i + 1)) a_limits a_ops a_factors a_given a_subs a_pointX a_numberAt a_cells a_seen a_distances a_matrix a_prefix a_prefixFrom a_prefixTo a_tunedOrder a_tunedKey a_toX a_toZ a_sysCoef a_sysBound a_sysCount a_cand a_hullLow a_hullHigh x y a_cursor a_limit a_pin a_echelon a_pivot := by
      intro a b x y hx hy ha hb
      subst hx hy ha hb
      refine hK (_, _) (fun v hv => ?_)
      by_cases x : v = i
      · subst x; exact ⟨pk_uLs, pk_uLs⟩
      · exact ⟨(pk_uLn x).trans (hs v (by omega)).1, (pk_uLn x).trans (hs v (by omega)).2⟩
    have h79 : ¬ (tl = 1 ∧ F ≤ i) → ∀ z0 : Int32, z0 = nI (pl F Cn i) → wX_loadSpans_79 post (wX_loadSpans_2 post (nI l) (nI tl) f_depth f_side f_arraySide f_statements f_sealed f_points f_distanceCount f_bandFirst f_bandCount f_bandSize f_accepted f_blamed f_prefixLength f_tunedFresh f_rangeLow f_rangeHigh f_scanAt (nI F) (nI Cn) (nI Sz) f_scanPins n) (nI l) (nI tl) (nI i) z0 f_depth f_side f_arraySide f_statements f_sealed f_points f_distanceCount f_bandFirst f_bandCount f_bandSize f_accepted f_blamed f_prefixLength f_tunedFresh f_rangeLow f_rangeHigh f_scanAt (nI F) (nI Cn) (nI Sz) f_scanPins a_limits a_ops a_factors a_given a_subs a_pointX a_numberAt a_cells a_seen a_distances a_matrix a_prefix a_prefixFrom a_prefixTo a_tunedOrder a_tunedKey a_toX a_toZ a_sysCoef a_sysBound a_sysCount a_cand a_hullLow a_hullHigh sl sh a_cursor a_limit a_pin a_echelon a_pivot := by
      intro hno z0 hz
      subst hz
      have hp := hlC i hi
      have hb2 := hb.2 hno
      have cp : (nI (pl F Cn i)).toNatClampNeg = pl F Cn i := nI_clamp (by omega)
      have e : (a_cursor (nI (pl F Cn i)).toNatClampNeg).toInt64 = zL (c (pl F Cn i)) := by rw [cp, hc _ hp, zI_l (by omega) (by omega)]
      refine ⟨vp_in_nI (by omega) (by omega), vp_in_nI (by omega) (by omega), nm_r (by rw [ci, e]) ⟨vp_in_nI (by omega) (by omega), vp_in_nI (by omega) (by omega), nm_r (by rw [ci, e]) (nm_r (nI_1 i) (up _ _ _ _ rfl rfl ?_ ?_))⟩⟩
      · show _ = if _ then _ else _; rw [if_neg hno]
      · show _ = if _ then _ else _; rw [if_neg hno]
    have h61 : ¬ (tl = 1 ∧ F ≤ i) → wX_loadSpans_61 post (wX_loadSpans_2 post (nI l) (nI tl) f_depth f_side f_arraySide f_statements f_sealed f_points f_distanceCount f_bandFirst f_bandCount f_bandSize f_accepted f_blamed f_prefixLength f_tunedFresh f_rangeLow f_rangeHigh f_scanAt (nI F) (nI Cn) (nI Sz) f_scanPins n) (nI l) (nI tl) (nI i) f_depth f_side f_arraySide f_statements f_sealed f_points f_distanceCount f_bandFirst f_bandCount f_bandSize f_accepted f_blamed f_prefixLength f_tunedFresh f_rangeLow f_rangeHigh f_scanAt (nI F) (nI Cn) (nI Sz) f_scanPins a_limits a_ops a_factors a_given a_subs a_pointX a_numberAt a_cells a_seen a_distances a_matrix a_prefix a_prefixFrom a_prefixTo a_tunedOrder a_tunedKey a_toX a_toZ a_sysCoef a_sysBound a_sysCount a_cand a_hullLow a_hullHigh sl sh a_cursor a_limit a_pin a_echelon a_pivot := by
      intro hno
      refine pk_le F i (fun h => h79 hno _ ?_) (fun h => h79 hno _ ?_)
      · rw [nI_add]; exact congrArg nI (by unfold pl; rw [if_neg (by omega)])
      · exact congrArg nI (by unfold pl; rw [if_pos h])
    refine br_f (nI_ge hi (by omega)) ?_
    refine pk_eq tl 0 (fun h => h61 (by omega)) (fun h => pk_lt i F (fun h' => h61 (by omega)) (fun h' => ?_))
    have e1 : (a_cursor (nI i).toNatClampNeg).toInt64 * (nI Sz).toInt64 = zL (c i * Sz) := by
      rw [ci, hc i (by omega), zI_l (by omega) (by omega), zI_n, zI_l (by omega) (by omega), zL_mul]
    refine ⟨vp_in_nI (by omega) (by omega), vp_in_nI (by omega) (by omega), nm_r (e' := vp_updL sl i (zL (c i * Sz))) (by rw [e1, ci]) ⟨vp_in_nI (by omega) (by omega), vp_in_nI (by omega) (by omega), nm_r (e' := vp_updL sh i (zL (c i * Sz + Sz - 1))) ?_ (nm_r (nI_1 i) (up _ _ _ _ rfl rfl ?_ ?_))⟩⟩
    · rw [ci, pk_uLs, zI_n, zI_l (by omega) (by omega), zL_add, zL_1, zL_sub]
    · show _ = if _ then _ else _; rw [if_pos ⟨by omega, h'⟩]
    · show _ = if _ then _ else _; rw [if_pos ⟨by omega, h'⟩]
end
section
variable {ra rb : Int} {f_depth f_side f_arraySide f_statements f_sealed f_points f_distanceCount f_bandFirst f_bandCount f_bandSize f_accepted f_blamed f_prefixLength f_tunedFresh f_scanAt f_scanFirst f_scanCount f_scanSize f_scanPins : Int32} {a_limits a_ops a_factors a_given a_subs a_pointX a_numberAt a_cells a_seen a_distances a_matrix a_prefix a_prefixFrom a_prefixTo a_tunedOrder a_tunedKey a_toX a_toZ a_sysCount a_hullLow a_hullHigh a_cursor a_limit a_pin a_echelon a_pivot : Nat → Int32} {a_sysCoef a_sysBound a_cand a_spanLow a_spanHigh : Nat → Int64}
theorem xo_restrict {post : SX → Prop} {p q : Int} (ha : -4611686018427387904 ≤ ra ∧ ra ≤ 4611686018427387904) (hb : -4611686018427387904 ≤ rb ∧ rb ≤ 4611686018427387904)
    (hp : -4611686018427387904 ≤ p ∧ p ≤ 4611686018427387904) (hq : -4611686018427387904 ≤ q ∧ q ≤ 4611686018427387904)
    (K : ∀ a' b' : Int, ra ≤ a' → b' ≤ rb → (a' = ra ∨ a' = p) → (b' = rb ∨ b' = q) → (∀ t, (a' ≤ t ∧ t ≤ b') ↔ (ra ≤ t ∧ t ≤ rb) ∧ p ≤ t ∧ t ≤ q) → post (f_depth, f_side, f_arraySide, f_statements, f_sealed, f_points, f_distanceCount, f_bandFirst, f_bandCount, f_bandSize, f_accepted, f_blamed, f_prefixLength, f_tunedFresh, zL a', zL b', f_scanAt, f_scanFirst, f_scanCount, f_scanSize, f_scanPins, a_limits, a_ops, a_factors, a_given, a_subs, a_pointX, a_numberAt, a_cells, a_seen, a_distances, a_matrix, a_prefix, a_prefixFrom, a_prefixTo, a_tunedOrder, a_tunedKey, a_toX, a_toZ, a_sysCoef, a_sysBound, a_sysCount, a_cand, a_hullLow, a_hullHigh, a_spanLow, a_spanHigh, a_cursor, a_limit, a_pin, a_echelon, a_pivot)) : wpX_restrict post (f_depth, f_side, f_arraySide, f_statements, f_sealed, f_points, f_distanceCount, f_bandFirst, f_bandCount, f_bandSize, f_accepted, f_blamed, f_prefixLength, f_tunedFresh, (zL ra), (zL rb), f_scanAt, f_scanFirst, f_scanCount, f_scanSize, f_scanPins, a_limits, a_ops, a_factors, a_given, a_subs, a_pointX, a_numberAt, a_cells, a_seen, a_distances, a_matrix, a_prefix, a_prefixFrom, a_prefixTo, a_tunedOrder, a_tunedKey, a_toX, a_toZ, a_sysCoef, a_sysBound, a_sysCount, a_cand, a_hullLow, a_hullHigh, a_spanLow, a_spanHigh, a_cursor, a_limit, a_pin, a_echelon, a_pivot) (zL p) (zL q) := by
  refine br_c (fun h => br_c (fun h' => ?_) (fun h' => ?_)) (fun h => br_c (fun h' => ?_) (fun h' => ?_)) <;>
    rw [zL_le (by omega) (by omega) (by omega) (by omega)] at h <;> rw [zL_le (by omega) (by omega) (by omega) (by omega)] at h'
  · exact K ra rb (by omega) (by omega) (Or.inl rfl) (Or.inl rfl) (fun t => by omega)
  · exact K ra q (by omega) (by omega) (Or.inl rfl) (Or.inr rfl) (fun t => by omega)
  · exact K p rb (by omega) (by omega) (Or.inr rfl) (Or.inl rfl) (fun t => by omega)
  · exact K p q (by omega) (by omega) (Or.inr rfl) (Or.inr rfl) (fun t => by omega)
theorem xo_58 {post : SX → Prop} {J : Int32 → Int32 → Int32 → Int32 → Int32 → Int32 → Int32 → Int32 → Int32 → Int32 → Int32 → Int32 → Int32 → Int32 → Int32 → Int64 → Int64 → Int32 → Int32 → Int32 → Int32 → Int32 → (Nat → Int32) → (Nat → Int32) → (Nat → Int32) → (Nat → Int32) → (Nat → Int32) → (Nat → Int32) → (Nat → Int32) → (Nat → Int32) → (Nat → Int32) → (Nat → Int32) → (Nat → Int32) → (Nat → Int32) → (Nat → Int32) → (Nat → Int32) → (Nat → Int32) → (Nat → Int32) → (Nat → Int32) → (Nat → Int32) → (Nat → Int64) → (Nat → Int64) → (Nat → Int32) → (Nat → Int64) → (Nat → Int32) → (Nat → Int32) → (Nat → Int64) → (Nat → Int64) → (Nat → Int32) → (Nat → Int32) → (Nat → Int32) → (Nat → Int32) → (Nat → Int32) → Prop}
    {l r : Nat} {x2 : Int32} {lo hi : Nat → Int} (hl : l < 3) (hr : r < 40)
    (hbd : (∀ v, v ≤ l → -1342177280000 ≤ xs_row a_sysCoef l r v ∧ xs_row a_sysCoef l r v ≤ 1342177280000) ∧ -31457280000 ≤ (a_sysBound (l * 40 + r)).toInt ∧ (a_sysBound (l * 40 + r)).toInt ≤ 31457280000)
    (hs : ∀ v, v < l → a_spanLow v = zL (lo v) ∧ a_spanHigh v = zL (hi v)) (hsb : ∀ v, v < l → (-10000 ≤ lo v ∧ lo v ≤ 10000) ∧ -10000 ≤ hi v ∧ hi v ≤ 10000)
    (ha : -2305843009213693952 ≤ ra ∧ ra ≤ 2305843009213693952) (hb : -2305843009213693952 ≤ rb ∧ rb ≤ 2305843009213693952) (hown : xs_row a_sysCoef l r l ≠ 0)
    (K : ∀ a' b' : Int, ra ≤ a' → b' ≤ rb → (-2305843009213693952 ≤ a' ∧ a' ≤ 2305843009213693952) → (-2305843009213693952 ≤ b' ∧ b' ≤ 2305843009213693952) →
      (∀ t, (a' ≤ t ∧ t ≤ b') ↔ (ra ≤ t ∧ t ≤ rb) ∧ xs_row a_sysCoef l r l * t + rsum (xs_row a_sysCoef l r) lo hi l ≤ (a_sysBound (l * 40 + r)).toInt) →
      J (nI (r + 1)) f_depth f_side f_arraySide f_statements f_sealed f_points f_distanceCount f_bandFirst f_bandCount f_bandSize f_accepted f_blamed f_prefixLength f_tunedFresh (zL a') (zL b') f_scanAt f_scanFirst f_scanCount f_scanSize f_scanPins a_limits a_ops a_factors a_given a_subs a_pointX a_numberAt a_cells a_seen a_distances a_matrix a_prefix a_prefixFrom a_prefixTo a_tunedOrder a_tunedKey a_toX a_toZ a_sysCoef a_sysBound a_sysCount a_cand a_hullLow a_hullHigh a_spanLow a_spanHigh a_cursor a_limit a_pin a_echelon a_pivot) :
    ∃ n58 : Nat, wX_applySystem_58 post J (nI l) x2 (nI r) (nI ((l * 40 + r) * 3)) (zL (xs_row a_sysCoef l r l)) f_depth f_side f_arraySide f_statements f_sealed f_points f_distanceCount f_bandFirst f_bandCount f_bandSize f_accepted f_blamed f_prefixLength f_tunedFresh (zL ra) (zL rb) f_scanAt f_scanFirst f_scanCount f_scanSize f_scanPins a_limits a_ops a_factors a_given a_subs a_pointX a_numberAt a_cells a_seen a_distances a_matrix a_prefix a_prefixFrom a_prefixTo a_tunedOrder a_tunedKey a_toX a_toZ a_sysCoef a_sysBound a_sysCount a_cand a_hullLow a_hullHigh a_spanLow a_spanHigh a_cursor a_limit a_pin a_echelon a_pivot n58 (zL (a_sysBound (l * 40 + r)).toInt) 0 := by
  refine ⟨l + 1, ?_⟩
  have hrs := rsum_b (w := xs_row a_sysCoef l r) (lo := lo) (hi := hi) (M := 1342177280000) l (fun v hv => hbd.1 v (by omega)) hsb
  have hown' := hbd.1 l (by omega)
  have go : ∀ d v : Nat, v + d = l → wX_applySystem_58 post J (nI l) x2 (nI r) (nI ((l * 40 + r) * 3)) (zL (xs_row a_sysCoef l r l)) f_depth f_side f_arraySide f_statements f_sealed f_points f_distanceCount f_bandFirst f_bandCount f_bandSize f_accepted f_blamed f_prefixLength f_tunedFresh (zL ra) (zL rb) f_scanAt f_scanFirst f_scanCount f_scanSize f_scanPins a_limits a_ops a_factors a_given a_subs a_pointX a_numberAt a_cells a_seen a_distances a_matrix a_prefix a_prefixFrom a_prefixTo a_tunedOrder a_tunedKey a_toX a_toZ a_sysCoef a_sysBound a_sysCount a_cand a_hullLow a_hullHigh a_spanLow a_spanHigh a_cursor a_limit a_pin a_echelon a_pivot (d + 1) (zL ((a_sysBound (l * 40 + r)).toInt - rsum (xs_row a_sysCoef l r) lo hi v)) (nI v) := by
    intro d
    induction d with
    | zero =>
      intro v hv
      cases (show v = l by omega)
      generalize hrest : (a_sysBound (l * 40 + r)).toInt - rsum (xs_row a_sysCoef l r) lo hi l = rest at *
      have hrb : -80000000000000000 ≤ rest ∧ rest ≤ 80000000000000000 := by
        rcases (show l = 0 ∨ l = 1 ∨ l = 2 by omega) with rfl | rfl | rfl <;> omega
      generalize hw : xs_row a_sysCoef l r l = own at *
      refine br_t (nI_le (by omega) (by omega)) (br_c (fun h => ?_) (fun h => ?_))
      · rw [zL_0, zL_le (by omega) (by omega) (by omega) (by omega)] at h
        have hf := fl_abs (m := rest) (g := -own) (B := 80000000000000000) (by omega) (by omega) (by omega)
        rw [zL_neg]
        refine xg_floor (by omega) (by omega) (by omega) (by omega) (nm_r (zL_neg _) ?_)
        refine xo_restrict (by omega) (by omega) (by omega) (by omega) (fun a' b' h1 h2 ha' hb' hiff => nm_r (nI_1 r) (K a' b' h1 h2 (by omega) (by omega) (fun t => ?_)))
        have key := fl_le (a := rest) (b := -own) (t := -t) (by omega)
        rw [Int.neg_mul_neg, Int.mul_comm] at key
        rw [hiff t]
        omega
      · rw [zL_0, zL_le (by omega) (by omega) (by omega) (by omega)] at h
        have hf := fl_abs (m := rest) (g := own) (B := 80000000000000000) (by omega) (by omega) (by omega)
        refine xg_floor (by omega) (by omega) (by omega) (by omega) ?_
        refine xo_restrict (by omega) (by omega) (by omega) (by omega) (fun a' b' h1 h2 ha' hb' hiff => nm_r (nI_1 r) (K a' b' h1 h2 (by omega) (by omega) (fun t => ?_)))
        have key := fl_le (a := rest) (b := own) (t := t) (by omega)
        rw [Int.mul_comm] at key
        rw [hiff t]
        omega
    | succ d ih =>
      intro v hv
      have e : nI ((l * 40 + r) * 3) + nI v = nI ((l * 40 + r) * 3 + v) := nI_add _ _
      have c : (nI ((l * 40 + r) * 3) + nI v).toNatClampNeg = (l * 40 + r) * 3 + v := cx_n _ e (by omega)
      have cv : (nI v).toNatClampNeg = v := nI_clamp (by omega)
      have hw := hbd.1 v (by omega)
      have ih' := ih (v + 1) (by omega)
      refine br_f (nI_ge (by omega) (by omega)) ⟨vx_n _ e (by omega) (by omega), nm_r (e' := zL (xs_row a_sysCoef l r v)) (by rw [c]; exact zL_of _) (br_c (fun h => ?_) (fun h => ?_))⟩
      · rw [zL_0, zL_le (by omega) (by omega) (by omega) (by omega)] at h
        refine ⟨vp_in_nI (by omega) (by omega), nm_r (e' := zL ((a_sysBound (l * 40 + r)).toInt - rsum (xs_row a_sysCoef l r) lo hi (v + 1))) ?_ (nm_r (nI_1 v) ih')⟩
        rw [cv, (hs v (by omega)).2, zL_mul, zL_sub]
        refine congrArg zL ?_
        show _ = _ - (rsum _ lo hi v + (if _ then _ else _))
        rw [if_pos h]; omega
      · rw [zL_0, zL_le (by omega) (by omega) (by omega) (by omega)] at h
        refine ⟨vp_in_nI (by omega) (by omega), nm_r (e' := zL ((a_sysBound (l * 40 + r)).toInt - rsum (xs_row a_sysCoef l r) lo hi (v + 1))) ?_ (nm_r (nI_1 v) ih')⟩
        rw [cv, (hs v (by omega)).1, zL_mul, zL_sub]
        refine congrArg zL ?_
        show _ = _ - (rsum _ lo hi v + (if _ then _ else _))
        rw [if_neg h]; omega
  have := go l 0 (by omega)
  rw [show rsum (xs_row a_sysCoef l r) lo hi 0 = 0 from rfl, Int.sub_zero] at this
  exact this
theorem xo_apply {post : SX → Prop} {l k : Nat} {lo hi : Nat → Int} (hl : l < 3) (hk : a_sysCount l = nI k) (hk40 : k ≤ 40)
    (hbd : xs_Bnd a_sysCoef a_sysBound l k 1342177280000 31457280000)
    (hs : ∀ v, v < l → a_spanLow v = zL (lo v) ∧ a_spanHigh v = zL (hi v)) (hsb : ∀ v, v < l → (-10000 ≤ lo v ∧ lo v ≤ 10000) ∧ -10000 ≤ hi v ∧ hi v ≤ 10000)
    (ha : -2305843009213693952 ≤ ra ∧ ra ≤ 2305843009213693952) (hb : -2305843009213693952 ≤ rb ∧ rb ≤ 2305843009213693952)
    (K : ∀ a' b' : Int, ra ≤ a' → b' ≤ rb → (-2305843009213693952 ≤ a' ∧ a' ≤ 2305843009213693952) → (-2305843009213693952 ≤ b' ∧ b' ≤ 2305843009213693952) →
      (∀ t, (a' ≤ t ∧ t ≤ b') ↔ (ra ≤ t ∧ t ≤ rb) ∧ ∀ r, r < k → xs_row a_sysCoef l r l ≠ 0 → xs_row a_sysCoef l r l * t + rsum (xs_row a_sysCoef l r) lo hi l ≤ (a_sysBound (l * 40 + r)).toInt) →
      post (f_depth, f_side, f_arraySide, f_statements, f_sealed, f_points, f_distanceCount, f_bandFirst, f_bandCount, f_bandSize, f_accepted, f_blamed, f_prefixLength, f_tunedFresh, zL a', zL b', f_scanAt, f_scanFirst, f_scanCount, f_scanSize, f_scanPins, a_limits, a_ops, a_factors, a_given, a_subs, a_pointX, a_numberAt, a_cells, a_seen, a_distances, a_matrix, a_prefix, a_prefixFrom, a_prefixTo, a_tunedOrder, a_tunedKey, a_toX, a_toZ, a_sysCoef, a_sysBound, a_sysCount, a_cand, a_hullLow, a_hullHigh, a_spanLow, a_spanHigh, a_cursor, a_limit, a_pin, a_echelon, a_pivot)) : wpX_applySystem post (f_depth, f_side, f_arraySide, f_statements, f_sealed, f_points, f_distanceCount, f_bandFirst, f_bandCount, f_bandSize, f_accepted, f_blamed, f_prefixLength, f_tunedFresh, (zL ra), (zL rb), f_scanAt, f_scanFirst, f_scanCount, f_scanSize, f_scanPins, a_limits, a_ops, a_factors, a_given, a_subs, a_pointX, a_numberAt, a_cells, a_seen, a_distances, a_matrix, a_prefix, a_prefixFrom, a_prefixTo, a_tunedOrder, a_tunedKey, a_toX, a_toZ, a_sysCoef, a_sysBound, a_sysCount, a_cand, a_hullLow, a_hullHigh, a_spanLow, a_spanHigh, a_cursor, a_limit, a_pin, a_echelon, a_pivot) (nI l) := by
  have cl : (nI l).toNatClampNeg = l := nI_clamp (by omega)
  refine ⟨vp_in_nI (by omega) (by omega), nm_r (e' := nI k) (by rw [cl, hk]) ?_⟩
  refine loop_0 (fun n i (s : Int × Int) => wX_applySystem_9 post (nI l) (nI k) n (nI i) f_depth f_side f_arraySide f_statements f_sealed f_points f_distanceCount f_bandFirst f_bandCount f_bandSize f_accepted f_blamed f_prefixLength f_tunedFresh (zL s.1) (zL s.2) f_scanAt f_scanFirst f_scanCount f_scanSize f_scanPins a_limits a_ops a_factors a_given a_subs a_pointX a_numberAt a_cells a_seen a_distances a_matrix a_prefix a_prefixFrom a_prefixTo a_tunedOrder a_tunedKey a_toX a_toZ a_sysCoef a_sysBound a_sysCount a_cand a_hullLow a_hullHigh a_spanLow a_spanHigh a_cursor a_limit a_pin a_echelon a_pivot)
    (fun i s => ra ≤ s.1 ∧ s.2 ≤ rb ∧ (-2305843009213693952 ≤ s.1 ∧ s.1 ≤ 2305843009213693952) ∧ (-2305843009213693952 ≤ s.2 ∧ s.2 ≤ 2305843009213693952) ∧
      ∀ t, (s.1 ≤ t ∧ t ≤ s.2) ↔ (ra ≤ t ∧ t ≤ rb) ∧ ∀ r, r < i → xs_row a_sysCoef l r l ≠ 0 → xs_row a_sysCoef l r l * t + rsum (xs_row a_sysCoef l r) lo hi l ≤ (a_sysBound (l * 40 + r)).toInt) k (ra, rb) ?_ ?_ ?_
  · exact ⟨Int.le_refl _, Int.le_refl _, ha, hb, fun t => ⟨fun h => ⟨h, fun r hr => by omega⟩, fun h => h.1⟩⟩
  · intro n s hs'
    exact br_t (nI_le (by omega) (by omega)) (K s.1 s.2 hs'.1 hs'.2.1 hs'.2.2.1 hs'.2.2.2.1 hs'.2.2.2.2)
  · intro n i s hi' hs' hK
    obtain ⟨a, b⟩ := s
    obtain ⟨q1, q2, q3, q4, q5⟩ := hs'
    dsimp only at q1 q2 q3 q4 q5
    have e0 : (nI l * 40 + nI i) * 3 = nI ((l * 40 + i) * 3) := by rw [nx_m40, nI_add, nx_m3]
    have e1 : nI ((l * 40 + i) * 3) + nI l = nI ((l * 40 + i) * 3 + l) := nI_add _ _
    have c1 : (nI ((l * 40 + i) * 3) + nI l).toNatClampNeg = (l * 40 + i) * 3 + l := cx_n _ e1 (by omega)
    have e2 : nI l * 40 + nI i = nI (l * 40 + i) := by rw [nx_m40, nI_add]
    have c2 : (nI l * 40 + nI i).toNatClampNeg = l * 40 + i := cx_n _ e2 (by omega)
    have hw := (hbd i hi').1 l (by omega)
    refine br_f (nI_ge hi' (by omega)) (nm_r e0 ⟨vx_n _ e1 (by omega) (by omega), nm_r (e' := zL (xs_row a_sysCoef l i l)) (by rw [c1]; exact zL_of _) (br_c (fun h => ?_) (fun h => ?_))⟩)
    · rw [zL_0, zL_eq (by omega) (by omega) (by omega) (by omega)] at h
      refine nm_r (nI_1 i) (hK (a, b) ⟨q1, q2, q3, q4, fun t => ?_⟩)
      rw [q5 t]
      refine ⟨fun g => ⟨g.1, fun r hr hne => ?_⟩, fun g => ⟨g.1, fun r hr hne => g.2 r (by omega) hne⟩⟩
      by_cases x : r = i
      · subst x; exact absurd h hne
      · exact g.2 r (by omega) hne
    · rw [zL_0, zL_eq (by omega) (by omega) (by omega) (by omega)] at h
      refine ⟨vx_n _ e2 (by omega) (by omega), nm_r (e' := zL (a_sysBound (l * 40 + i)).toInt) (by rw [c2]; exact zL_of _) ?_⟩
      refine xo_58 hl (by omega) (hbd i hi') hs hsb q3 q4 h (fun a' b' p1 p2 p3 p4 p5 => hK (a', b') ⟨by dsimp only; omega, by dsimp only; omega, p3, p4, fun t => ?_⟩)
      dsimp only
      rw [p5 t, q5 t]
      refine ⟨fun g => ⟨g.1.1, fun r hr hne => ?_⟩, fun g => ⟨⟨g.1, fun r hr hne => g.2 r (by omega) hne⟩, g.2 i (by omega) h⟩⟩
      by_cases x : r = i
      · subst x; exact g.2
      · exact g.1.2 r (by omega) hne
end
end
section
/-! openLoop -/
def sInP (F Cn Sz Pn : Nat) (sc sb : Nat → Int64) (kl : Nat → Nat) (hL hH pn : Nat → Int) (l : Nat) (c : Nat → Int) (t : Int) : Prop :=
  (hL l ≤ t ∧ t ≤ hH l) ∧ (l < Pn → t = pn l) ∧ (F ≤ l → l < F + Cn → c l * Sz ≤ t ∧ t ≤ c l * Sz + Sz - 1) ∧
  ∀ r, r < kl l → xs_row sc l r l ≠ 0 → xs_row sc l r l * t + dtp l (xs_row sc l r) (fun v => c (pl F Cn v)) ≤ (sb (l * 40 + r)).toInt
def sInT (F Cn Sz Pn : Nat) (sc sb : Nat → Int64) (kl : Nat → Nat) (hL hH pn : Nat → Int) (l : Nat) (c : Nat → Int) (T : Int) : Prop :=
  ∃ t : Int, t / (Sz : Int) = T ∧ (hL l ≤ t ∧ t ≤ hH l) ∧ (l < Pn → t = pn l) ∧
  ∀ r, r < kl l → xs_row sc l r l ≠ 0 → xs_row sc l r l * t + rsum (xs_row sc l r) (splo F Cn Sz 1 c) (sphi F Cn Sz 1 c) l ≤ (sb (l * 40 + r)).toInt
/-- loop m of the scan may stand at t, the outer loops standing at c -/
def sIn (F Cn Sz Pn : Nat) (sc sb : Nat → Int64) (kl : Nat → Nat) (hL hH pn : Nat → Int) (m : Nat) (c : Nat → Int) (t : Int) : Prop :=
  if m < F + Cn then (if F ≤ m then sInT F Cn Sz Pn sc sb kl hL hH pn m c t else sInP F Cn Sz Pn sc sb kl hL hH pn m c t) else sInP F Cn Sz Pn sc sb kl hL hH pn (m - Cn) c t
/-- what the arrays of a scan hold -/
def sc_ok (D F Cn Sz Pn : Nat) (sc sb : Nat → Int64) (sk hullLow hullHigh pin : Nat → Int32) (kl : Nat → Nat) (hL hH pn : Nat → Int) : Prop :=
  (D = 2 ∨ D = 3) ∧ F + Cn ≤ D ∧ (1 ≤ Sz ∧ Sz ≤ 8) ∧ Pn ≤ 2 ∧ F < D ∧
  (∀ l, l < D → sk l = nI (kl l) ∧ kl l ≤ 40 ∧ xs_Bnd sc sb l (kl l) 1342177280000 31457280000) ∧
  (∀ l, l < D → (hullLow l = zI (hL l) ∧ hullHigh l = zI (hH l)) ∧ (-504 ≤ hL l ∧ hL l ≤ 0) ∧ (0 ≤ hH l ∧ hH l ≤ 504) ∧ hH l - hL l ≤ 504 ∧ (hH l - hL l ≤ 168 ∨ (Pn = 2 ∧ Cn = 0 ∧ F = 0))) ∧
  (∀ l, l < Pn → pin l = zI (pn l) ∧ -2147483648 ≤ pn l ∧ pn l < 2147483648)
section
variable {F Cn Sz : Nat} {ra rb : Int} {f_depth f_side f_arraySide f_statements f_sealed f_points f_distanceCount f_bandFirst f_bandCount f_bandSize f_accepted f_blamed f_prefixLength f_tunedFresh f_scanAt f_scanPins : Int32} {a_limits a_ops a_factors a_given a_subs a_pointX a_numberAt a_cells a_seen a_distances a_matrix a_prefix a_prefixFrom a_prefixTo a_tunedOrder a_tunedKey a_toX a_toZ a_sysCount a_hullLow a_hullHigh a_cursor a_limit a_pin a_echelon a_pivot : Nat → Int32} {a_sysCoef a_sysBound a_cand a_spanLow a_spanHigh : Nat → Int64}
theorem xo_156 {post : SX → Prop} {m l tl k : Nat} {lo hi : Nat → Int} (hm : m < 6) (hl : l < 3) (htl : tl = 0 ∨ tl = 1) (hSz : 1 ≤ Sz ∧ Sz ≤ 8) (hk : a_sysCount l = nI k) (hk40 : k ≤ 40)
    (hbd : xs_Bnd a_sysCoef a_sysBound l k 1342177280000 31457280000)
    (hs : ∀ v, v < l → a_spanLow v = zL (lo v) ∧ a_spanHigh v = zL (hi v)) (hsb : ∀ v, v < l → (-10000 ≤ lo v ∧ lo v ≤ 10000) ∧ -10000 ≤ hi v ∧ hi v ≤ 10000)
    (ha : -2305843009213693952 ≤ ra ∧ ra ≤ 2305843009213693952) (hb : -2305843009213693952 ≤ rb ∧ rb ≤ 2305843009213693952)
    (K : ∀ (a' b' x y : Int), (x ≤ y ∨ (x = 1 ∧ y = 0)) →
      (tl = 0 → ∀ t, (x ≤ t ∧ t ≤ y) ↔ (ra ≤ t ∧ t ≤ rb) ∧ ∀ r, r < k → xs_row a_sysCoef l r l ≠ 0 → xs_row a_sysCoef l r l * t + rsum (xs_row a_sysCoef l r) lo hi l ≤ (a_sysBound (l * 40 + r)).toInt) →
      (tl = 1 → ∀ T, (x ≤ T ∧ T ≤ y) ↔ ∃ t, t / (Sz : Int) = T ∧ (ra ≤ t ∧ t ≤ rb) ∧ ∀ r, r < k → xs_row a_sysCoef l r l ≠ 0 → xs_row a_sysCoef l r l * t + rsum (xs_row a_sysCoef l r) lo hi l ≤ (a_sysBound (l * 40 + r)).toInt) →
      post (f_depth, f_side, f_arraySide, f_statements, f_sealed, f_points, f_distanceCount, f_bandFirst, f_bandCount, f_bandSize, f_accepted, f_blamed, f_prefixLength, f_tunedFresh, zL a', zL b', f_scanAt, (nI F), (nI Cn), (nI Sz), f_scanPins, a_limits, a_ops, a_factors, a_given, a_subs, a_pointX, a_numberAt, a_cells, a_seen, a_distances, a_matrix, a_prefix, a_prefixFrom, a_prefixTo, a_tunedOrder, a_tunedKey, a_toX, a_toZ, a_sysCoef, a_sysBound, a_sysCount, a_cand, a_hullLow, a_hullHigh, a_spanLow, a_spanHigh, upd a_cursor m (zI (x - 1)), upd a_limit m (zI y), a_pin, a_echelon, a_pivot)) : wX_openLoop_156 post (nI m) (nI tl) (nI l) f_depth f_side f_arraySide f_statements f_sealed f_points f_distanceCount f_bandFirst f_bandCount f_bandSize f_accepted f_blamed f_prefixLength f_tunedFresh (zL ra) (zL rb) f_scanAt (nI F) (nI Cn) (nI Sz) f_scanPins a_limits a_ops a_factors a_given a_subs a_pointX a_numberAt a_cells a_seen a_distances a_matrix a_prefix a_prefixFrom a_prefixTo a_tunedOrder a_tunedKey a_toX a_toZ a_sysCoef a_sysBound a_sysCount a_cand a_hullLow a_hullHigh a_spanLow a_spanHigh a_cursor a_limit a_pin a_echelon a_pivot := by
  have cm : (nI m).toNatClampNeg = m := nI_clamp (by omega)
  have h227 : ∀ x y : Int, (x ≤ y ∨ (x = 1 ∧ y = 0)) →
      (tl = 0 → ∀ t, (x ≤ t ∧ t ≤ y) ↔ (ra ≤ t ∧ t ≤ rb) ∧ ∀ r, r < k → xs_row a_sysCoef l r l ≠ 0 → xs_row a_sysCoef l r l * t + rsum (xs_row a_sysCoef l r) lo hi l ≤ (a_sysBound (l * 40 + r)).toInt) →
      (tl = 1 → ∀ T, (x ≤ T ∧ T ≤ y) ↔ ∃ t, t / (Sz : Int) = T ∧ (ra ≤ t ∧ t ≤ rb) ∧ ∀ r, r < k → xs_row a_sysCoef l r l ≠ 0 → xs_row a_sysCoef l r l * t + rsum (xs_row a_sysCoef l r) lo hi l ≤ (a_sysBound (l * 40 + r)).toInt) →
      wX_openLoop_227 post (nI m) f_depth f_side f_arraySide f_statements f_sealed f_points f_distanceCount f_bandFirst f_bandCount f_bandSize f_accepted f_blamed f_prefixLength f_tunedFresh (zL x) (zL y) f_scanAt (nI F) (nI Cn) (nI Sz) f_scanPins a_limits a_ops a_factors a_given a_subs a_pointX a_numberAt a_cells a_seen a_distances a_matrix a_prefix a_prefixFrom a_prefixTo a_tunedOrder a_tunedKey a_toX a_toZ a_sysCoef a_sysBound a_sysCount a_cand a_hullLow a_hullHigh a_spanLow a_spanHigh a_cursor a_limit a_pin a_echelon a_pivot := by
    intro x y h1 h2 h3
    refine ⟨vp_in_nI (by omega) (by omega), nm_r (e' := upd a_cursor m (zI (x - 1))) (by rw [cm, zL_i, zI_1, zI_sub]) ⟨vp_in_nI (by omega) (by omega), nm_r (e' := upd a_limit m (zI y)) (by rw [cm, zL_i]) (K x y x y h1 h2 h3)⟩⟩
  refine xo_apply hl hk hk40 hbd hs hsb ha hb (fun a' b' h1 h2 h3 h4 hiff => br_c (fun h => pk_eq tl 0 (fun ht => ?_) (fun ht => ?_)) (fun h => ?_)) <;> rw [zL_le (by omega) (by omega) (by omega) (by omega)] at h
  · exact h227 a' b' (Or.inl h) (fun _ => hiff) (fun h => by omega)
  · have hS : (nI Sz).toInt64 = zL Sz := by rw [zI_n, zI_l (by omega) (by omega)]
    rw [hS]
    refine xg_floor (by omega) (by omega) (by omega) (by omega) (xg_floor (by omega) (by omega) (by omega) (by omega) ?_)
    have hmono : a' / (Sz : Int) ≤ b' / (Sz : Int) := Int.ediv_le_ediv (by omega) h
    refine h227 _ _ (Or.inl hmono) (fun h => absurd h ht) (fun _ T => ⟨fun hT => ?_, fun hT => ?_⟩)
    · -- a point of the range in tile T
      have e1 := Int.mul_ediv_add_emod a' Sz
      have e2 := Int.emod_lt_of_pos a' (show (0 : Int) < Sz by omega)
      have e3 := Int.emod_nonneg a' (show (Sz : Int) ≠ 0 by omega)
      have hTb : T * Sz ≤ b' := (fl_le (by omega)).mp hT.2
      by_cases x : a' ≤ T * Sz
      · exact ⟨T * Sz, Int.mul_ediv_cancel _ (by omega), (hiff _).mp ⟨x, hTb⟩⟩
      · have hTa : T ≤ a' / (Sz : Int) := (fl_le (by omega)).mpr (by omega)
        exact ⟨a', by omega, (hiff _).mp ⟨Int.le_refl _, h⟩⟩
    · obtain ⟨t, rfl, ht'⟩ := hT
      have := (hiff t).mpr ht'
      exact ⟨Int.ediv_le_ediv (by omega) this.1, Int.ediv_le_ediv (by omega) this.2⟩
  · refine ⟨vp_in_nI (by omega) (by omega), nm_r (e' := upd a_cursor m (zI (1 - 1))) (by rw [cm]; rfl) ⟨vp_in_nI (by omega) (by omega), nm_r (e' := upd a_limit m (zI 0)) (by rw [cm]; rfl) (K a' b' 1 0 (Or.inr ⟨rfl, rfl⟩) (fun _ t => ?_) (fun _ T => ?_))⟩⟩
    · rw [← hiff t]; omega
    · refine ⟨fun h => by omega, fun hT => ?_⟩
      obtain ⟨t, _, ht'⟩ := hT
      have := (hiff t).mpr ht'
      omega
end
section
variable {F Cn Sz Pn : Nat} {f_depth f_side f_arraySide f_statements f_sealed f_points f_distanceCount f_bandFirst f_bandCount f_bandSize f_accepted f_blamed f_prefixLength f_tunedFresh f_scanAt : Int32} {f_rangeLow f_rangeHigh : Int64} {a_limits a_ops a_factors a_given a_subs a_pointX a_numberAt a_cells a_seen a_distances a_matrix a_prefix a_prefixFrom a_prefixTo a_tunedOrder a_tunedKey a_toX a_toZ a_sysCount a_hullLow a_hullHigh a_cursor a_limit a_pin a_echelon a_pivot : Nat → Int32} {a_sysCoef a_sysBound a_cand a_spanLow a_spanHigh : Nat → Int64}
theorem xo_44 {post : SX → Prop} {D m l tl : Nat} {kl : Nat → Nat} {hL hH pn c : Nat → Int} (ok : sc_ok D F Cn Sz Pn a_sysCoef a_sysBound a_sysCount a_hullLow a_hullHigh a_pin kl hL hH pn)
    (hm : m < D + Cn) (hl : l < D) (htl : (tl = 0 ∧ m = pl F Cn l) ∨ (tl = 1 ∧ m = l ∧ F ≤ l ∧ l < F + Cn))
    (hc : ∀ j, j < 6 → a_cursor j = zI (c j)) (hcb : ∀ j, j < m → -1000 ≤ c j ∧ c j ≤ 1000)
    (K : ∀ (a' b' x y : Int) (sl sh : Nat → Int64), (x ≤ y ∨ (x = 1 ∧ y = 0)) → (∀ t, (x ≤ t ∧ t ≤ y) ↔ sIn F Cn Sz Pn a_sysCoef a_sysBound kl hL hH pn m c t) →
      post (f_depth, f_side, f_arraySide, f_statements, f_sealed, f_points, f_distanceCount, f_bandFirst, f_bandCount, f_bandSize, f_accepted, f_blamed, f_prefixLength, f_tunedFresh, zL a', zL b', f_scanAt, (nI F), (nI Cn), (nI Sz), (nI Pn), a_limits, a_ops, a_factors, a_given, a_subs, a_pointX, a_numberAt, a_cells, a_seen, a_distances, a_matrix, a_prefix, a_prefixFrom, a_prefixTo, a_tunedOrder, a_tunedKey, a_toX, a_toZ, a_sysCoef, a_sysBound, a_sysCount, a_cand, a_hullLow, a_hullHigh, sl, sh, upd a_cursor m (zI (x - 1)), upd a_limit m (zI y), a_pin, a_echelon, a_pivot)) :
    wX_openLoop_44 post (nI m) (nI (F + Cn)) (nI tl) (nI l) f_depth f_side f_arraySide f_statements f_sealed f_points f_distanceCount f_bandFirst f_bandCount f_bandSize f_accepted f_blamed f_prefixLength f_tunedFresh f_rangeLow f_rangeHigh f_scanAt (nI F) (nI Cn) (nI Sz) (nI Pn) a_limits a_ops a_factors a_given a_subs a_pointX a_numberAt a_cells a_seen a_distances a_matrix a_prefix a_prefixFrom a_prefixTo a_tunedOrder a_tunedKey a_toX a_toZ a_sysCoef a_sysBound a_sysCount a_cand a_hullLow a_hullHigh a_spanLow a_spanHigh a_cursor a_limit a_pin a_echelon a_pivot := by
  obtain ⟨hD, hFC, hSz, hPn, hFD, hsys, hhull, hpin⟩ := ok
  have hpl : ∀ v, v < l → ¬ (tl = 1 ∧ F ≤ v) → pl F Cn v < m := by
    intro v hv hno
    rcases htl with ⟨_, rfl⟩ | ⟨_, rfl, h1, h2⟩
    · unfold pl; split <;> split <;> omega
    · unfold pl; split <;> omega
  have hvm : ∀ v, v < l → v < m := by
    intro v hv
    rcases htl with ⟨_, rfl⟩ | ⟨_, rfl, h1, h2⟩
    · unfold pl; split <;> omega
    · exact hv
  have hm6 : m < 6 := by omega
  have hl3 : l < 3 := by omega
  have htl' : tl = 0 ∨ tl = 1 := by omega
  have cl : (nI l).toNatClampNeg = l := nI_clamp (by omega)
  refine xo_spans (c := c) hl3 htl' (by omega) (by omega) (fun v hv => by unfold pl; split <;> omega) hSz.2 hc (fun v hv => ⟨hcb v (hvm v hv), fun hno => hcb _ (hpl v hv hno)⟩) ?_
  intro sl sh hss
  have hsb : ∀ v, v < l → (-10000 ≤ splo F Cn Sz tl c v ∧ splo F Cn Sz tl c v ≤ 10000) ∧ -10000 ≤ sphi F Cn Sz tl c v ∧ sphi F Cn Sz tl c v ≤ 10000 := by
    intro v hv
    have b1 := hcb v (hvm v hv)
    have p := ab_mul b1.1 b1.2 (b := (Sz : Int)) (B := 8) (by omega) (by omega)
    unfold splo sphi
    split
    · omega
    · have b2 := hcb _ (hpl v hv (by assumption))
      omega
  obtain ⟨⟨hu1, hu2⟩, hub⟩ := hhull l hl
  obtain ⟨hk1, hk2, hk3⟩ := hsys l hl
  refine ⟨vp_in_nI (by omega) (by omega), nm_r (e' := zL (hL l)) (by rw [cl, hu1, zI_l (by omega) (by omega)]) ⟨vp_in_nI (by omega) (by omega), nm_r (e' := zL (hH l)) (by rw [cl, hu2, zI_l (by omega) (by omega)]) ?_⟩⟩
  -- behind the pins the range is some (a, b)
  have fin : ∀ a b : Int, (-2305843009213693952 ≤ a ∧ a ≤ 2305843009213693952) → (-2305843009213693952 ≤ b ∧ b ≤ 2305843009213693952) →
      (∀ t, (a ≤ t ∧ t ≤ b) ↔ (hL l ≤ t ∧ t ≤ hH l) ∧ (l < Pn → t = pn l)) →
      wX_openLoop_106 post (nI m) (nI (F + Cn)) (nI tl) (nI l) f_depth f_side f_arraySide f_statements f_sealed f_points f_distanceCount f_bandFirst f_bandCount f_bandSize f_accepted f_blamed f_prefixLength f_tunedFresh (zL a) (zL b) f_scanAt (nI F) (nI Cn) (nI Sz) (nI Pn) a_limits a_ops a_factors a_given a_subs a_pointX a_numberAt a_cells a_seen a_distances a_matrix a_prefix a_prefixFrom a_prefixTo a_tunedOrder a_tunedKey a_toX a_toZ a_sysCoef a_sysBound a_sysCount a_cand a_hullLow a_hullHigh sl sh a_cursor a_limit a_pin a_echelon a_pivot := by
    intro a b ha hb hab
    have f156 : ∀ a b : Int, (-2305843009213693952 ≤ a ∧ a ≤ 2305843009213693952) → (-2305843009213693952 ≤ b ∧ b ≤ 2305843009213693952) →
        (∀ t, (a ≤ t ∧ t ≤ b) ↔ (hL l ≤ t ∧ t ≤ hH l) ∧ (l < Pn → t = pn l) ∧ (tl = 0 → F ≤ l → l < F + Cn → c l * Sz ≤ t ∧ t ≤ c l * Sz + Sz - 1)) →
        wX_openLoop_156 post (nI m) (nI tl) (nI l) f_depth f_side f_arraySide f_statements f_sealed f_points f_distanceCount f_bandFirst f_bandCount f_bandSize f_accepted f_blamed f_prefixLength f_tunedFresh (zL a) (zL b) f_scanAt (nI F) (nI Cn) (nI Sz) (nI Pn) a_limits a_ops a_factors a_given a_subs a_pointX a_numberAt a_cells a_seen a_distances a_matrix a_prefix a_prefixFrom a_prefixTo a_tunedOrder a_tunedKey a_toX a_toZ a_sysCoef a_sysBound a_sysCount a_cand a_hullLow a_hullHigh sl sh a_cursor a_limit a_pin a_echelon a_pivot := by
      intro a b ha hb hab
      refine xo_156 (lo := splo F Cn Sz tl c) (hi := sphi F Cn Sz tl c) hm6 hl3 htl' hSz hk1 hk2 hk3 hss hsb ha hb (fun a' b' x y hxy h0 h1 => K a' b' x y sl sh hxy (fun t => ?_))
      rcases htl with ⟨rfl, rfl⟩ | ⟨rfl, rfl, h2, h3⟩
      · have e : sIn F Cn Sz Pn a_sysCoef a_sysBound kl hL hH pn (pl F Cn l) c t ↔ sInP F Cn Sz Pn a_sysCoef a_sysBound kl hL hH pn l c t := by
          unfold sIn pl
          by_cases x : l < F
          · rw [if_pos x, if_pos (by omega), if_neg (by omega)]
          · rw [if_neg x, if_neg (by omega), Nat.add_sub_cancel]
        have e2 : splo F Cn Sz 0 c = fun v => c (pl F Cn v) := by funext v; unfold splo; rw [if_neg (by omega)]
        have e3 : sphi F Cn Sz 0 c = fun v => c (pl F Cn v) := by funext v; unfold sphi; rw [if_neg (by omega)]
        rw [e, h0 rfl t, hab t, e2, e3]
        unfold sInP
        refine ⟨fun g => ⟨g.1.1, g.1.2.1, g.1.2.2 rfl, fun r hr hne => ?_⟩, fun g => ⟨⟨g.1, g.2.1, fun _ => g.2.2.1⟩, fun r hr hne => ?_⟩⟩
        · rw [← rsum_eq]; exact g.2 r hr hne
        · rw [rsum_eq]; exact g.2.2.2 r hr hne
      · have e : sIn F Cn Sz Pn a_sysCoef a_sysBound kl hL hH pn m c t ↔ sInT F Cn Sz Pn a_sysCoef a_sysBound kl hL hH pn m c t := by
          unfold sIn
          rw [if_pos h3, if_pos h2]
        rw [e, h1 rfl t]
        unfold sInT
        refine exists_congr (fun t' => and_congr_right (fun _ => ?_))
        rw [hab t']
        exact ⟨fun g => ⟨g.1.1, g.1.2.1, g.2⟩, fun g => ⟨⟨g.1, g.2.1, fun h => by omega⟩, g.2.2⟩⟩
    refine pk_eq tl 0 (fun ht => pk_lt l F (fun h => ?_) (fun h => pk_le (F + Cn) l (fun h' => ?_) (fun h' => ?_))) (fun ht => ?_)
    · exact f156 a b ha hb (fun t => by rw [hab t]; exact ⟨fun g => ⟨g.1, g.2, fun _ h1 => by omega⟩, fun g => ⟨g.1, g.2.1⟩⟩)
    · exact f156 a b ha hb (fun t => by rw [hab t]; exact ⟨fun g => ⟨g.1, g.2, fun _ h1 h2 => by omega⟩, fun g => ⟨g.1, g.2.1⟩⟩)
    · have hml : l < m := by
        rcases htl with ⟨_, rfl⟩ | ⟨h1, _⟩
        · unfold pl; rw [if_neg (by omega)]; omega
        · omega
      have b1 := hcb l hml
      have p := ab_mul b1.1 b1.2 (b := (Sz : Int)) (B := 8) (by omega) (by omega)
      refine ⟨vp_in_nI (by omega) (by omega), nm_r (e' := zI (c l * Sz)) (by rw [cl, hc l (by omega), zI_n, zI_mul]) ?_⟩
      rw [zI_l (by omega) (by omega), show (zI (c l * Sz) + nI Sz - 1).toInt64 = zL (c l * Sz + Sz - 1) from by rw [zI_n, zI_1, zI_add, zI_sub, zI_l (by omega) (by omega)]]
      refine xo_restrict (by omega) (by omega) (by omega) (by omega) (fun a' b' h1 h2 ha' hb' hiff => f156 a' b' (by omega) (by omega) (fun t => ?_))
      rw [hiff t, hab t]
      exact ⟨fun g => ⟨g.1.1, g.1.2, fun _ _ _ => g.2⟩, fun g => ⟨⟨g.1, g.2.1⟩, g.2.2 ht h h'⟩⟩
    · exact f156 a b ha hb (fun t => by rw [hab t]; exact ⟨fun g => ⟨g.1, g.2, fun h1 => absurd h1 ht⟩, fun g => ⟨g.1, g.2.1⟩⟩)
  refine pk_le Pn l (fun h => ?_) (fun h => ?_)
  · exact fin _ _ (by omega) (by omega) (fun t => ⟨fun g => ⟨g, fun h1 => by omega⟩, fun g => g.1⟩)
  · obtain ⟨hp1, hp2⟩ := hpin l h
    refine ⟨vp_in_nI (by omega) (by omega), vp_in_nI (by omega) (by omega), ?_⟩
    rw [show (a_pin (nI l).toNatClampNeg).toInt64 = zL (pn l) from by rw [cl, hp1, zI_l (by omega) (by omega)]]
    refine xo_restrict (by omega) (by omega) (by omega) (by omega) (fun a' b' h1 h2 ha' hb' hiff => fin a' b' (by omega) (by omega) (fun t => ?_))
    rw [hiff t]
    exact ⟨fun g => ⟨g.1, fun _ => by omega⟩, fun g => ⟨g.1, by have := g.2 h; omega⟩⟩
theorem xo_open {post : SX → Prop} {D m : Nat} {kl : Nat → Nat} {hL hH pn c : Nat → Int} (ok : sc_ok D F Cn Sz Pn a_sysCoef a_sysBound a_sysCount a_hullLow a_hullHigh a_pin kl hL hH pn)
    (hm : m < D + Cn) (hc : ∀ j, j < 6 → a_cursor j = zI (c j)) (hcb : ∀ j, j < m → -1000 ≤ c j ∧ c j ≤ 1000)
    (K : ∀ (a' b' x y : Int) (sl sh : Nat → Int64), (x ≤ y ∨ (x = 1 ∧ y = 0)) → (∀ t, (x ≤ t ∧ t ≤ y) ↔ sIn F Cn Sz Pn a_sysCoef a_sysBound kl hL hH pn m c t) →
      post (f_depth, f_side, f_arraySide, f_statements, f_sealed, f_points, f_distanceCount, f_bandFirst, f_bandCount, f_bandSize, f_accepted, f_blamed, f_prefixLength, f_tunedFresh, zL a', zL b', f_scanAt, (nI F), (nI Cn), (nI Sz), (nI Pn), a_limits, a_ops, a_factors, a_given, a_subs, a_pointX, a_numberAt, a_cells, a_seen, a_distances, a_matrix, a_prefix, a_prefixFrom, a_prefixTo, a_tunedOrder, a_tunedKey, a_toX, a_toZ, a_sysCoef, a_sysBound, a_sysCount, a_cand, a_hullLow, a_hullHigh, sl, sh, upd a_cursor m (zI (x - 1)), upd a_limit m (zI y), a_pin, a_echelon, a_pivot)) :
    wpX_openLoop post (f_depth, f_side, f_arraySide, f_statements, f_sealed, f_points, f_distanceCount, f_bandFirst, f_bandCount, f_bandSize, f_accepted, f_blamed, f_prefixLength, f_tunedFresh, f_rangeLow, f_rangeHigh, f_scanAt, (nI F), (nI Cn), (nI Sz), (nI Pn), a_limits, a_ops, a_factors, a_given, a_subs, a_pointX, a_numberAt, a_cells, a_seen, a_distances, a_matrix, a_prefix, a_prefixFrom, a_prefixTo, a_tunedOrder, a_tunedKey, a_toX, a_toZ, a_sysCoef, a_sysBound, a_sysCount, a_cand, a_hullLow, a_hullHigh, a_spanLow, a_spanHigh, a_cursor, a_limit, a_pin, a_echelon, a_pivot) (nI m) := by
  have hD := ok.1
  have hFC := ok.2.1
  have hFD := ok.2.2.2.2.1
  refine nm_r (nI_add F Cn) (pk_lt m F (fun h => ?_) (fun h => pk_le (F + Cn) m (fun h' => ?_) (fun h' => ?_)))
  · refine pk_lt m (F + Cn) (fun _ => ?_) (fun h' => by omega)
    exact xo_44 (tl := 0) ok hm (by omega) (Or.inl ⟨rfl, by unfold pl; rw [if_pos h]⟩) hc hcb K
  · refine pk_lt m (F + Cn) (fun h'' => by omega) (fun _ => ?_)
    rw [pk_sub (show Cn ≤ m by omega)]
    exact xo_44 (tl := 0) ok hm (by omega) (Or.inl ⟨rfl, by unfold pl; rw [if_neg (by omega)]; omega⟩) hc hcb K
  · refine pk_lt m (F + Cn) (fun _ => ?_) (fun h'' => by omega)
    exact xo_44 (tl := 1) ok hm (by omega) (Or.inr ⟨rfl, rfl, h, h'⟩) hc hcb K
end
end
section
/-! the scan, abstractly: loops 0 .. L - 1, loop m may stand at t when the outer ones stand at c: In m c t -/
def updz (f : Nat → Int) (k : Nat) (x : Int) : Nat → Int := fun j => if j = k then x else f j
theorem uz_s {f : Nat → Int} {k : Nat} {x : Int} : updz f k x k = x := if_pos rfl
theorem uz_n {f : Nat → Int} {k j : Nat} {x : Int} (h : j ≠ k) : updz f k x j = f j := if_neg h
theorem uz_z {cu : Nat → Int32} {f : Nat → Int} {k : Nat} {x : Int} (h : ∀ j, j < 6 → cu j = zI (f j)) : ∀ j, j < 6 → upd cu k (zI x) j = zI (updz f k x j) := fun j hj => by
  by_cases e : j = k
  · subst e; rw [pk_us, uz_s]
  · rw [pk_un e, uz_n e]; exact h j hj
def sD (L : Nat) (In : Nat → (Nat → Int) → Int → Prop) (c : Nat → Int) : Prop := ∀ m, m < L → In m c (c m)
def sRem (L : Nat) (In : Nat → (Nat → Int) → Int → Prop) (a : Nat) (cur c : Nat → Int) : Prop := sD L In c ∧ ∃ m, m < a ∧ (∀ j, j < m → c j = cur j) ∧ cur m < c m
def sInv (L : Nat) (In : Nat → (Nat → Int) → Int → Prop) (a : Nat) (cur lim : Nat → Int) : Prop :=
  a ≤ L ∧ (∀ m, m < a → (∀ t, cur m < t → (t ≤ lim m ↔ In m cur t)) ∧ -2000 ≤ cur m ∧ cur m ≤ lim m ∧ lim m ≤ 1000) ∧ (∀ m, m + 1 < a → In m cur (cur m))
/-- loop m looks at the outer loops alone -/
def sCg (In : Nat → (Nat → Int) → Int → Prop) : Prop := ∀ m c c' t, (∀ j, j < m → c j = c' j) → (In m c t ↔ In m c' t)
def sBd (L : Nat) (In : Nat → (Nat → Int) → Int → Prop) : Prop := ∀ m c t, m < L → In m c t → -1000 ≤ t ∧ t ≤ 1000
def sWd (L : Nat) (In : Nat → (Nat → Int) → Int → Prop) (W : Nat → Nat) : Prop := ∀ m c x y, m < L → (∀ t, x ≤ t ∧ t ≤ y → In m c t) → (y - x + 1).toNat * (1 + W (m + 1)) + 1 ≤ W m
def smu (W : Nat → Nat) (cur lim : Nat → Int) : Nat → Nat
  | 0 => 0
  | a + 1 => smu W cur lim a + (lim a - cur a).toNat * (1 + W (a + 1)) + 1
theorem smu_cg {W : Nat → Nat} {cur lim cur' lim' : Nat → Int} : ∀ a, (∀ j, j < a → cur' j = cur j ∧ lim' j = lim j) → smu W cur' lim' a = smu W cur lim a := by
  intro a
  induction a with
  | zero => intro _; rfl
  | succ a ih =>
    intro h
    show smu W cur' lim' a + (lim' a - cur' a).toNat * (1 + W (a + 1)) + 1 = smu W cur lim a + (lim a - cur a).toNat * (1 + W (a + 1)) + 1
    rw [ih (fun j hj => h j (by omega)), (h a (by omega)).1, (h a (by omega)).2]
section
variable {L : Nat} {In : Nat → (Nat → Int) → Int → Prop} {a : Nat} {cur lim : Nat → Int}
theorem s_pop (hcg : sCg In) (h : sInv L In (a + 1) cur lim) (hgt : lim a < cur a + 1) :
    sInv L In a (updz cur a (cur a + 1)) lim ∧ ∀ c, sRem L In (a + 1) cur c ↔ sRem L In a (updz cur a (cur a + 1)) c := by
  obtain ⟨h1, h2, h3⟩ := h
  have hag : ∀ j, j < a → updz cur a (cur a + 1) j = cur j := fun j hj => uz_n (by omega)
  refine ⟨⟨by omega, fun m hm => ?_, fun m hm => ?_⟩, fun c => ⟨fun hr => ?_, fun hr => ?_⟩⟩
  · rw [hag m hm]
    refine ⟨fun t ht => ?_, (h2 m (by omega)).2⟩
    rw [(h2 m (by omega)).1 t ht]
    exact hcg m _ _ t (fun j hj => (hag j (by omega)).symm)
  · rw [hag m (by omega)]
    exact (hcg m _ _ _ (fun j hj => (hag j (by omega)))).mpr (h3 m (by omega))
  · obtain ⟨hd, m, hm, hj, hlt⟩ := hr
    have hne : m ≠ a := by
      intro e
      subst e
      have i1 := hd m (by omega)
      have i2 := (hcg m c cur _ hj).mp i1
      have := ((h2 m (by omega)).1 _ hlt).mpr i2
      omega
    exact ⟨hd, m, by omega, fun j hj' => by rw [hag j (by omega)]; exact hj j hj', by rw [hag m (by omega)]; exact hlt⟩
  · obtain ⟨hd, m, hm, hj, hlt⟩ := hr
    exact ⟨hd, m, by omega, fun j hj' => by rw [← hag j (by omega)]; exact hj j hj', by rw [← hag m (by omega)]; exact hlt⟩
theorem s_found (hcg : sCg In) (h : sInv L In (a + 1) cur lim) (hL : L = a + 1) (hle : cur a + 1 ≤ lim a) :
    sInv L In (a + 1) (updz cur a (cur a + 1)) lim ∧ sD L In (updz cur a (cur a + 1)) ∧
    ∀ c, sRem L In (a + 1) cur c ↔ (sD L In c ∧ ∀ j, j < L → c j = updz cur a (cur a + 1) j) ∨ sRem L In (a + 1) (updz cur a (cur a + 1)) c := by
  obtain ⟨h1, h2, h3⟩ := h
  have hag : ∀ j, j < a → updz cur a (cur a + 1) j = cur j := fun j hj => uz_n (by omega)
  have hcg' : ∀ m t, m ≤ a → (In m (updz cur a (cur a + 1)) t ↔ In m cur t) := fun m t hm => hcg m _ _ t (fun j hj => hag j (by omega))
  have hia : In a cur (cur a + 1) := ((h2 a (by omega)).1 _ (by omega)).mp hle
  refine ⟨⟨by omega, fun m hm => ?_, fun m hm => ?_⟩, fun m hm => ?_, fun c => ⟨fun hr => ?_, fun hr => ?_⟩⟩
  · have h2' := h2 m (by omega)
    by_cases x : m = a
    · subst x
      rw [uz_s]
      refine ⟨fun t ht => ?_, by omega, hle, h2'.2.2.2⟩
      rw [h2'.1 t (by omega)]
      exact (hcg' m t (by omega)).symm
    · rw [hag m (by omega)]
      refine ⟨fun t ht => ?_, h2'.2⟩
      rw [h2'.1 t ht]
      exact (hcg' m t (by omega)).symm
  · rw [hag m (by omega)]
    exact (hcg' m _ (by omega)).mpr (h3 m (by omega))
  · by_cases x : m = a
    · subst x; rw [uz_s]; exact (hcg' m _ (by omega)).mpr hia
    · rw [hag m (by omega)]; exact (hcg' m _ (by omega)).mpr (h3 m (by omega))
  · obtain ⟨hd, m, hm, hj, hlt⟩ := hr
    by_cases x : m = a
    · subst x
      by_cases y : c m = cur m + 1
      · left
        refine ⟨hd, fun j hj' => ?_⟩
        by_cases z : j = m
        · subst z; rw [uz_s]; exact y
        · rw [hag j (by omega)]; exact hj j (by omega)
      · right
        exact ⟨hd, m, by omega, fun j hj' => by rw [hag j (by omega)]; exact hj j hj', by rw [uz_s]; omega⟩
    · right
      exact ⟨hd, m, by omega, fun j hj' => by rw [hag j (by omega)]; exact hj j hj', by rw [hag m (by omega)]; exact hlt⟩
  · rcases hr with ⟨hd, hj⟩ | ⟨hd, m, hm, hj, hlt⟩
    · refine ⟨hd, a, by omega, fun j hj' => by rw [hj j (by omega), hag j hj'], ?_⟩
      rw [hj a (by omega), uz_s]; omega
    · refine ⟨hd, m, hm, fun j hj' => by rw [← hag j (by omega)]; exact hj j hj', ?_⟩
      by_cases x : m = a
      · subst x; rw [uz_s] at hlt; omega
      · rw [← hag m (by omega)]; exact hlt
theorem s_push (hcg : sCg In) (hbd : sBd L In) {x y : Int} (h : sInv L In (a + 1) cur lim) (hL : a + 1 < L) (hle : cur a + 1 ≤ lim a)
    (hxy : x ≤ y ∨ (x = 1 ∧ y = 0)) (hin : ∀ t, (x ≤ t ∧ t ≤ y) ↔ In (a + 1) (updz cur a (cur a + 1)) t) :
    sInv L In (a + 2) (updz (updz cur a (cur a + 1)) (a + 1) (x - 1)) (updz lim (a + 1) y) ∧
    ∀ c, sRem L In (a + 1) cur c ↔ sRem L In (a + 2) (updz (updz cur a (cur a + 1)) (a + 1) (x - 1)) c := by
  obtain ⟨h1, h2, h3⟩ := h
  generalize hcur : updz (updz cur a (cur a + 1)) (a + 1) (x - 1) = cur2
  have v1 : cur2 (a + 1) = x - 1 := by rw [← hcur]; exact uz_s
  have v2 : cur2 a = cur a + 1 := by rw [← hcur, uz_n (by omega), uz_s]
  have v3 : ∀ j, j < a → cur2 j = cur j := fun j hj => by rw [← hcur, uz_n (by omega), uz_n (by omega)]
  have v4 : ∀ j, j < a + 1 → updz cur a (cur a + 1) j = cur2 j := fun j hj => by rw [← hcur, uz_n (show j ≠ a + 1 by omega)]
  have g1 : ∀ m t, m ≤ a → (In m cur2 t ↔ In m cur t) := fun m t hm => hcg m _ _ t (fun j hj => v3 j (by omega))
  have g2 : ∀ t, In (a + 1) (updz cur a (cur a + 1)) t ↔ In (a + 1) cur2 t := fun t => hcg (a + 1) _ _ t v4
  have hia : In a cur (cur a + 1) := ((h2 a (by omega)).1 _ (by omega)).mp hle
  refine ⟨⟨by omega, fun m hm => ?_, fun m hm => ?_⟩, fun c => ⟨fun hr => ?_, fun hr => ?_⟩⟩
  · by_cases e : m = a + 1
    · subst e
      rw [v1, uz_s]
      refine ⟨fun t ht => ?_, ?_, by omega, ?_⟩
      · rw [← g2 t, ← hin t]; omega
      · rcases hxy with hxy | hxy
        · have := hbd _ _ _ (by omega) ((hin x).mp ⟨by omega, hxy⟩); omega
        · omega
      · rcases hxy with hxy | hxy
        · have := hbd _ _ _ (by omega) ((hin y).mp ⟨hxy, by omega⟩); omega
        · omega
    · have h2' := h2 m (by omega)
      rw [uz_n e]
      by_cases e2 : m = a
      · subst e2
        rw [v2]
        refine ⟨fun t ht => ?_, by omega, hle, h2'.2.2.2⟩
        rw [h2'.1 t (by omega)]
        exact (g1 m t (by omega)).symm
      · rw [v3 m (by omega)]
        refine ⟨fun t ht => ?_, h2'.2⟩
        rw [h2'.1 t ht]
        exact (g1 m t (by omega)).symm
  · by_cases e2 : m = a
    · subst e2; rw [v2]; exact (g1 m _ (by omega)).mpr hia
    · rw [v3 m (by omega)]; exact (g1 m _ (by omega)).mpr (h3 m (by omega))
  · obtain ⟨hd, m, hm, hj, hlt⟩ := hr
    by_cases e : m = a
    · subst e
      by_cases e2 : c m = cur m + 1
      · have hcc : ∀ j, j < m + 1 → c j = cur2 j := fun j hj' => by
          by_cases z : j = m
          · subst z; rw [v2]; exact e2
          · rw [v3 j (by omega)]; exact hj j (by omega)
        have i1 := (hcg (m + 1) c cur2 _ hcc).mp (hd (m + 1) (by omega))
        have := (hin _).mpr ((g2 _).mpr i1)
        exact ⟨hd, m + 1, by omega, hcc, by rw [v1]; omega⟩
      · exact ⟨hd, m, by omega, fun j hj' => by rw [v3 j (by omega)]; exact hj j hj', by rw [v2]; omega⟩
    · exact ⟨hd, m, by omega, fun j hj' => by rw [v3 j (by omega)]; exact hj j hj', by rw [v3 m (by omega)]; exact hlt⟩
  · obtain ⟨hd, m, hm, hj, hlt⟩ := hr
    by_cases e : m = a + 1
    · subst e
      refine ⟨hd, a, by omega, fun j hj' => by rw [← v3 j hj']; exact hj j (by omega), ?_⟩
      rw [hj a (by omega), v2]; omega
    · refine ⟨hd, m, by omega, fun j hj' => by rw [← v3 j (by omega)]; exact hj j hj', ?_⟩
      by_cases e2 : m = a
      · subst e2; rw [v2] at hlt; omega
      · rw [v3 m (by omega)] at hlt; exact hlt
variable {W : Nat → Nat}
theorem s_mu_pop (h : sInv L In (a + 1) cur lim) : smu W (updz cur a (cur a + 1)) lim a + 1 ≤ smu W cur lim (a + 1) := by
  rw [smu_cg (cur := cur) (lim := lim) a (fun j hj => ⟨uz_n (by omega), rfl⟩)]
  show _ ≤ smu W cur lim a + _ + 1
  omega
theorem s_mu_found (hle : cur a + 1 ≤ lim a) : smu W (updz cur a (cur a + 1)) lim (a + 1) + 1 ≤ smu W cur lim (a + 1) := by
  show smu W (updz cur a (cur a + 1)) lim a + (lim a - updz cur a (cur a + 1) a).toNat * (1 + W (a + 1)) + 1 + 1 ≤ smu W cur lim a + (lim a - cur a).toNat * (1 + W (a + 1)) + 1
  rw [smu_cg (cur := cur) (lim := lim) a (fun j hj => ⟨uz_n (by omega), rfl⟩), uz_s]
  have e : (lim a - cur a).toNat = (lim a - (cur a + 1)).toNat + 1 := by omega
  rw [e, Nat.add_mul]
  omega
theorem s_mu_push {x y : Int} (hwd : sWd L In W) (hL : a + 1 < L) (hle : cur a + 1 ≤ lim a) (hin : ∀ t, (x ≤ t ∧ t ≤ y) ↔ In (a + 1) (updz cur a (cur a + 1)) t) :
    smu W (updz (updz cur a (cur a + 1)) (a + 1) (x - 1)) (updz lim (a + 1) y) (a + 2) + 1 ≤ smu W cur lim (a + 1) := by
  have hw := hwd (a + 1) _ x y hL (fun t ht => (hin t).mp ht)
  generalize hcur : updz (updz cur a (cur a + 1)) (a + 1) (x - 1) = cur2
  have v1 : cur2 (a + 1) = x - 1 := by rw [← hcur]; exact uz_s
  have v2 : cur2 a = cur a + 1 := by rw [← hcur, uz_n (by omega), uz_s]
  have v3 : ∀ j, j < a → cur2 j = cur j := fun j hj => by rw [← hcur, uz_n (by omega), uz_n (by omega)]
  show smu W cur2 (updz lim (a + 1) y) a + (updz lim (a + 1) y a - cur2 a).toNat * (1 + W (a + 1)) + 1 + (updz lim (a + 1) y (a + 1) - cur2 (a + 1)).toNat * (1 + W (a + 1 + 1)) + 1 + 1 ≤ smu W cur lim a + (lim a - cur a).toNat * (1 + W (a + 1)) + 1
  rw [smu_cg (cur := cur) (lim := lim) a (fun j hj => ⟨v3 j hj, uz_n (by omega)⟩), v1, v2, uz_s, uz_n (by omega)]
  have e : (lim a - cur a).toNat = (lim a - (cur a + 1)).toNat + 1 := by omega
  have e2 : (y - (x - 1)).toNat = (y - x + 1).toNat := by omega
  rw [e, e2, Nat.add_mul]
  omega
end
end
section
/-! advance -/
def sAt (a : Nat) : Int32 := zI ((a : Int) - 1)
theorem sAt_s (a : Nat) : sAt (a + 1) = nI a := by
  unfold sAt
  rw [zI_n]
  exact congrArg zI (by omega)
section
variable {D F Cn Sz Pn : Nat} {f_side f_arraySide f_statements f_sealed f_points f_distanceCount f_bandFirst f_bandCount f_bandSize f_accepted f_blamed f_prefixLength f_tunedFresh f_scanAt : Int32} {f_rangeLow f_rangeHigh : Int64} {a_limits a_ops a_factors a_given a_subs a_pointX a_numberAt a_cells a_seen a_distances a_matrix a_prefix a_prefixFrom a_prefixTo a_tunedOrder a_tunedKey a_toX a_toZ a_sysCount a_hullLow a_hullHigh a_cursor a_limit a_pin a_echelon a_pivot : Nat → Int32} {a_sysCoef a_sysBound a_cand a_spanLow a_spanHigh : Nat → Int64}
variable {kl W : Nat → Nat} {hL hH pn : Nat → Int}
theorem xa_16 {post : Int32 → SX → Prop} {R : (Nat → Int) → Prop} {M : Nat}
    (ok : sc_ok D F Cn Sz Pn a_sysCoef a_sysBound a_sysCount a_hullLow a_hullHigh a_pin kl hL hH pn)
    (hcg : sCg (sIn F Cn Sz Pn a_sysCoef a_sysBound kl hL hH pn)) (hbd : sBd (D + Cn) (sIn F Cn Sz Pn a_sysCoef a_sysBound kl hL hH pn)) (hwd : sWd (D + Cn) (sIn F Cn Sz Pn a_sysCoef a_sysBound kl hL hH pn) W)
    (K1 : ∀ (ra rb : Int64) (sl sh : Nat → Int64) (cu li : Nat → Int32) (cur lim : Nat → Int), (∀ j, j < 6 → cu j = zI (cur j)) → (∀ j, j < 6 → li j = zI (lim j)) →
      sInv (D + Cn) (sIn F Cn Sz Pn a_sysCoef a_sysBound kl hL hH pn) (D + Cn) cur lim → sD (D + Cn) (sIn F Cn Sz Pn a_sysCoef a_sysBound kl hL hH pn) cur → smu W cur lim (D + Cn) < M →
      (∀ c, R c ↔ (sD (D + Cn) (sIn F Cn Sz Pn a_sysCoef a_sysBound kl hL hH pn) c ∧ ∀ j, j < D + Cn → c j = cur j) ∨ sRem (D + Cn) (sIn F Cn Sz Pn a_sysCoef a_sysBound kl hL hH pn) (D + Cn) cur c) →
      post 1 ((nI D), f_side, f_arraySide, f_statements, f_sealed, f_points, f_distanceCount, f_bandFirst, f_bandCount, f_bandSize, f_accepted, f_blamed, f_prefixLength, f_tunedFresh, ra, rb, sAt (D + Cn), (nI F), (nI Cn), (nI Sz), (nI Pn), a_limits, a_ops, a_factors, a_given, a_subs, a_pointX, a_numberAt, a_cells, a_seen, a_distances, a_matrix, a_prefix, a_prefixFrom, a_prefixTo, a_tunedOrder, a_tunedKey, a_toX, a_toZ, a_sysCoef, a_sysBound, a_sysCount, a_cand, a_hullLow, a_hullHigh, sl, sh, cu, li, a_pin, a_echelon, a_pivot))
    (K0 : ∀ (ra rb : Int64) (sl sh : Nat → Int64) (cu li : Nat → Int32) (cur lim : Nat → Int), (∀ j, j < 6 → cu j = zI (cur j)) → (∀ j, j < 6 → li j = zI (lim j)) → (∀ c, ¬ R c) →
      post 0 ((nI D), f_side, f_arraySide, f_statements, f_sealed, f_points, f_distanceCount, f_bandFirst, f_bandCount, f_bandSize, f_accepted, f_blamed, f_prefixLength, f_tunedFresh, ra, rb, sAt 0, (nI F), (nI Cn), (nI Sz), (nI Pn), a_limits, a_ops, a_factors, a_given, a_subs, a_pointX, a_numberAt, a_cells, a_seen, a_distances, a_matrix, a_prefix, a_prefixFrom, a_prefixTo, a_tunedOrder, a_tunedKey, a_toX, a_toZ, a_sysCoef, a_sysBound, a_sysCount, a_cand, a_hullLow, a_hullHigh, sl, sh, cu, li, a_pin, a_echelon, a_pivot)) :
    ∀ (μ a s n : Nat) (ra rb : Int64) (sl sh : Nat → Int64) (cu li : Nat → Int32) (cur lim : Nat → Int), (∀ j, j < 6 → cu j = zI (cur j)) → (∀ j, j < 6 → li j = zI (lim j)) →
      sInv (D + Cn) (sIn F Cn Sz Pn a_sysCoef a_sysBound kl hL hH pn) a cur lim → (∀ c, R c ↔ sRem (D + Cn) (sIn F Cn Sz Pn a_sysCoef a_sysBound kl hL hH pn) a cur c) →
      smu W cur lim a ≤ μ → smu W cur lim a ≤ M → s + μ < 67108863 → μ + 1 < n →
      wX_advance_16 post (nI (D + Cn - 1)) n 0 (nI s) (nI D) f_side f_arraySide f_statements f_sealed f_points f_distanceCount f_bandFirst f_bandCount f_bandSize f_accepted f_blamed f_prefixLength f_tunedFresh ra rb (sAt a) (nI F) (nI Cn) (nI Sz) (nI Pn) a_limits a_ops a_factors a_given a_subs a_pointX a_numberAt a_cells a_seen a_distances a_matrix a_prefix a_prefixFrom a_prefixTo a_tunedOrder a_tunedKey a_toX a_toZ a_sysCoef a_sysBound a_sysCount a_cand a_hullLow a_hullHigh sl sh cu li a_pin a_echelon a_pivot := by
  have hD := ok.1
  have hFC := ok.2.1
  intro μ
  induction μ with
  | zero =>
    intro a s n ra rb sl sh cu li cur lim hcu hli hI hR hμ hM hs hn
    have ha : a = 0 := by
      cases a with
      | zero => rfl
      | succ a =>
        have : smu W cur lim (a + 1) = smu W cur lim a + (lim a - cur a).toNat * (1 + W (a + 1)) + 1 := rfl
        omega
    subst ha
    obtain ⟨n, rfl⟩ : ∃ n', n = n' + 1 := ⟨n - 1, by omega⟩
    refine br_f (nI_ge (b := 67108864) (by omega) (by omega)) (br_t (by decide) ⟨rfl, K0 _ _ _ _ _ _ cur lim hcu hli (fun c hc => ?_)⟩)
    obtain ⟨_, m, hm, _⟩ := (hR c).mp hc
    omega
  | succ μ ih =>
    intro a s n ra rb sl sh cu li cur lim hcu hli hI hR hμ hM hs hn
    obtain ⟨n, rfl⟩ : ∃ n', n = n' + 1 := ⟨n - 1, by omega⟩
    cases a with
    | zero =>
      refine br_f (nI_ge (b := 67108864) (by omega) (by omega)) (br_t (by decide) ⟨rfl, K0 _ _ _ _ _ _ cur lim hcu hli (fun c hc => ?_)⟩)
      obtain ⟨_, m, hm, _⟩ := (hR c).mp hc
      omega
    | succ a =>
      have haL : a < D + Cn := by have := hI.1; omega
      have hb := (hI.2.1 a (by omega)).2
      have ca : (nI a).toNatClampNeg = a := nI_clamp (by omega)
      rw [sAt_s]
      refine br_f (nI_ge (b := 67108864) (by omega) (by omega)) (br_f (nI_pos (by omega)) (br_t rfl ⟨vp_in_nI (by omega) (by omega), vp_in_nI (by omega) (by omega), nm_r (e' := upd cu a (zI (cur a + 1))) (by rw [ca, hcu a (by omega), zI_1, zI_add]) ⟨vp_in_nI (by omega) (by omega), vp_in_nI (by omega) (by omega), ?_⟩⟩))
      have hcmp : upd cu a (zI (cur a + 1)) (nI a).toNatClampNeg ≤ li (nI a).toNatClampNeg ↔ cur a + 1 ≤ lim a := by
        rw [ca, pk_us, hli a (by omega), zI_le (by omega) (by omega) (by omega) (by omega)]
      have hcu1 := uz_z (k := a) (x := cur a + 1) hcu
      refine br_c (fun h => pk_eq a (D + Cn - 1) (fun he => ?_) (fun hne => ?_)) (fun h => ?_)
      · -- found
        rw [hcmp] at h
        obtain ⟨f1, f2, f3⟩ := s_found hcg hI (by omega) h
        have f4 := s_mu_found (W := W) h
        have hL : D + Cn = a + 1 := by omega
        refine nm_r (nI_1 s) ?_
        obtain ⟨n, rfl⟩ : ∃ n', n = n' + 1 := ⟨n - 1, by omega⟩
        refine br_f (nI_ge (b := 67108864) (by omega) (by omega)) (br_f (nI_pos (by omega)) (br_f (by decide) ⟨rfl, ?_⟩))
        rw [← sAt_s a]
        have := K1 ra rb sl sh _ li _ lim hcu1 hli (by rw [hL]; rw [hL] at f1; exact f1) f2 (by rw [hL]; omega) (fun c => by rw [hR c, f3 c, hL])
        rw [hL] at this
        exact this
      · -- down
        rw [hcmp] at h
        refine nm_r (nI_1 a) ?_
        rw [nI_1 a]
        have hb1 : ∀ j, j < a + 1 → -1000 ≤ updz cur a (cur a + 1) j ∧ updz cur a (cur a + 1) j ≤ 1000 := by
          intro j hj
          by_cases e : j = a
          · subst e; rw [uz_s]
            have := ((hI.2.1 j (by omega)).1 _ (by omega)).mp h
            exact hbd j _ _ haL this
          · rw [uz_n e]; exact hbd j _ _ (by omega) (hI.2.2 j (by omega))
        refine xo_open (c := updz cur a (cur a + 1)) ok (by omega) hcu1 hb1 (fun a' b' x y sl' sh' hxy hiff => nm_r (nI_1 s) ?_)
        obtain ⟨g1, g2⟩ := s_push hcg hbd hI (by omega) h hxy hiff
        have g3 := s_mu_push (W := W) hwd (by omega) h hiff
        rw [show nI (a + 1) = sAt (a + 2) from (sAt_s (a + 1)).symm]
        exact ih (a + 2) (s + 1) n _ _ _ _ _ _ _ _ (uz_z hcu1) (uz_z hli) g1 (fun c => by rw [hR c, g2 c]) (by omega) (by omega) (by omega) (by omega)
      · -- up
        have h' : lim a < cur a + 1 := by
          by_cases z : cur a + 1 ≤ lim a
          · exact absurd (hcmp.mpr z) h
          · omega
        obtain ⟨g1, g2⟩ := s_pop hcg hI h'
        have g3 := s_mu_pop (W := W) hI
        refine nm_r (e' := sAt a) (by unfold sAt; rw [zI_n, zI_1, zI_sub]) (nm_r (nI_1 s) ?_)
        exact ih a (s + 1) n _ _ _ _ _ _ _ _ hcu1 hli g1 (fun c => by rw [hR c, g2 c]) (by omega) (by omega) (by omega) (by omega)
theorem xa_adv {post : Int32 → SX → Prop} {a : Nat} {cur lim : Nat → Int}
    (ok : sc_ok D F Cn Sz Pn a_sysCoef a_sysBound a_sysCount a_hullLow a_hullHigh a_pin kl hL hH pn)
    (hcg : sCg (sIn F Cn Sz Pn a_sysCoef a_sysBound kl hL hH pn)) (hbd : sBd (D + Cn) (sIn F Cn Sz Pn a_sysCoef a_sysBound kl hL hH pn)) (hwd : sWd (D + Cn) (sIn F Cn Sz Pn a_sysCoef a_sysBound kl hL hH pn) W)
    (hcu : ∀ j, j < 6 → a_cursor j = zI (cur j)) (hli : ∀ j, j < 6 → a_limit j = zI (lim j))
    (hI : sInv (D + Cn) (sIn F Cn Sz Pn a_sysCoef a_sysBound kl hL hH pn) a cur lim) (hM : smu W cur lim a < 67000000)
    (K1 : ∀ (ra rb : Int64) (sl sh : Nat → Int64) (cu li : Nat → Int32) (cur' lim' : Nat → Int), (∀ j, j < 6 → cu j = zI (cur' j)) → (∀ j, j < 6 → li j = zI (lim' j)) →
      sInv (D + Cn) (sIn F Cn Sz Pn a_sysCoef a_sysBound kl hL hH pn) (D + Cn) cur' lim' → sD (D + Cn) (sIn F Cn Sz Pn a_sysCoef a_sysBound kl hL hH pn) cur' → smu W cur' lim' (D + Cn) < 67000000 →
      (∀ c, sRem (D + Cn) (sIn F Cn Sz Pn a_sysCoef a_sysBound kl hL hH pn) a cur c ↔ (sD (D + Cn) (sIn F Cn Sz Pn a_sysCoef a_sysBound kl hL hH pn) c ∧ ∀ j, j < D + Cn → c j = cur' j) ∨ sRem (D + Cn) (sIn F Cn Sz Pn a_sysCoef a_sysBound kl hL hH pn) (D + Cn) cur' c) →
      post 1 ((nI D), f_side, f_arraySide, f_statements, f_sealed, f_points, f_distanceCount, f_bandFirst, f_bandCount, f_bandSize, f_accepted, f_blamed, f_prefixLength, f_tunedFresh, ra, rb, sAt (D + Cn), (nI F), (nI Cn), (nI Sz), (nI Pn), a_limits, a_ops, a_factors, a_given, a_subs, a_pointX, a_numberAt, a_cells, a_seen, a_distances, a_matrix, a_prefix, a_prefixFrom, a_prefixTo, a_tunedOrder, a_tunedKey, a_toX, a_toZ, a_sysCoef, a_sysBound, a_sysCount, a_cand, a_hullLow, a_hullHigh, sl, sh, cu, li, a_pin, a_echelon, a_pivot))
    (K0 : ∀ (ra rb : Int64) (sl sh : Nat → Int64) (cu li : Nat → Int32) (cur' lim' : Nat → Int), (∀ j, j < 6 → cu j = zI (cur' j)) → (∀ j, j < 6 → li j = zI (lim' j)) → (∀ c, ¬ sRem (D + Cn) (sIn F Cn Sz Pn a_sysCoef a_sysBound kl hL hH pn) a cur c) →
      post 0 ((nI D), f_side, f_arraySide, f_statements, f_sealed, f_points, f_distanceCount, f_bandFirst, f_bandCount, f_bandSize, f_accepted, f_blamed, f_prefixLength, f_tunedFresh, ra, rb, sAt 0, (nI F), (nI Cn), (nI Sz), (nI Pn), a_limits, a_ops, a_factors, a_given, a_subs, a_pointX, a_numberAt, a_cells, a_seen, a_distances, a_matrix, a_prefix, a_prefixFrom, a_prefixTo, a_tunedOrder, a_tunedKey, a_toX, a_toZ, a_sysCoef, a_sysBound, a_sysCount, a_cand, a_hullLow, a_hullHigh, sl, sh, cu, li, a_pin, a_echelon, a_pivot)) :
    wpX_advance post ((nI D), f_side, f_arraySide, f_statements, f_sealed, f_points, f_distanceCount, f_bandFirst, f_bandCount, f_bandSize, f_accepted, f_blamed, f_prefixLength, f_tunedFresh, f_rangeLow, f_rangeHigh, sAt a, (nI F), (nI Cn), (nI Sz), (nI Pn), a_limits, a_ops, a_factors, a_given, a_subs, a_pointX, a_numberAt, a_cells, a_seen, a_distances, a_matrix, a_prefix, a_prefixFrom, a_prefixTo, a_tunedOrder, a_tunedKey, a_toX, a_toZ, a_sysCoef, a_sysBound, a_sysCount, a_cand, a_hullLow, a_hullHigh, a_spanLow, a_spanHigh, a_cursor, a_limit, a_pin, a_echelon, a_pivot) := by
  have hD := ok.1
  refine nm_r (e' := nI (D + Cn - 1)) (by rw [nI_add, nx_s1 (by omega)]) ⟨smu W cur lim a + 2, ?_⟩
  exact xa_16 (R := sRem (D + Cn) (sIn F Cn Sz Pn a_sysCoef a_sysBound kl hL hH pn) a cur) (M := smu W cur lim a) ok hcg hbd hwd
    (fun ra rb sl sh cu li cur' lim' h1 h2 h3 h4 h5 h6 => K1 ra rb sl sh cu li cur' lim' h1 h2 h3 h4 (by omega) h6) K0
    (smu W cur lim a) a 0 (smu W cur lim a + 2) _ _ _ _ _ _ cur lim hcu hli hI (fun c => Iff.rfl) (Nat.le_refl _) (Nat.le_refl _) (by omega) (by omega)
theorem xa_start {post : SX → Prop}
    (ok : sc_ok D F Cn Sz Pn a_sysCoef a_sysBound a_sysCount a_hullLow a_hullHigh a_pin kl hL hH pn)
    (hbd : sBd (D + Cn) (sIn F Cn Sz Pn a_sysCoef a_sysBound kl hL hH pn)) (hcg : sCg (sIn F Cn Sz Pn a_sysCoef a_sysBound kl hL hH pn)) (hwd : sWd (D + Cn) (sIn F Cn Sz Pn a_sysCoef a_sysBound kl hL hH pn) W)
    (K : ∀ (ra rb : Int64) (sl sh : Nat → Int64) (cu li : Nat → Int32) (cur lim : Nat → Int), (∀ j, j < 6 → cu j = zI (cur j)) → (∀ j, j < 6 → li j = zI (lim j)) →
      sInv (D + Cn) (sIn F Cn Sz Pn a_sysCoef a_sysBound kl hL hH pn) 1 cur lim → smu W cur lim 1 ≤ W 0 →
      (∀ c, sD (D + Cn) (sIn F Cn Sz Pn a_sysCoef a_sysBound kl hL hH pn) c ↔ sRem (D + Cn) (sIn F Cn Sz Pn a_sysCoef a_sysBound kl hL hH pn) 1 cur c) →
      post ((nI D), f_side, f_arraySide, f_statements, f_sealed, f_points, f_distanceCount, f_bandFirst, f_bandCount, f_bandSize, f_accepted, f_blamed, f_prefixLength, f_tunedFresh, ra, rb, sAt 1, (nI F), (nI Cn), (nI Sz), (nI Pn), a_limits, a_ops, a_factors, a_given, a_subs, a_pointX, a_numberAt, a_cells, a_seen, a_distances, a_matrix, a_prefix, a_prefixFrom, a_prefixTo, a_tunedOrder, a_tunedKey, a_toX, a_toZ, a_sysCoef, a_sysBound, a_sysCount, a_cand, a_hullLow, a_hullHigh, sl, sh, cu, li, a_pin, a_echelon, a_pivot)) : wpX_startScan post ((nI D), f_side, f_arraySide, f_statements, f_sealed, f_points, f_distanceCount, f_bandFirst, f_bandCount, f_bandSize, f_accepted, f_blamed, f_prefixLength, f_tunedFresh, f_rangeLow, f_rangeHigh, f_scanAt, (nI F), (nI Cn), (nI Sz), (nI Pn), a_limits, a_ops, a_factors, a_given, a_subs, a_pointX, a_numberAt, a_cells, a_seen, a_distances, a_matrix, a_prefix, a_prefixFrom, a_prefixTo, a_tunedOrder, a_tunedKey, a_toX, a_toZ, a_sysCoef, a_sysBound, a_sysCount, a_cand, a_hullLow, a_hullHigh, a_spanLow, a_spanHigh, a_cursor, a_limit, a_pin, a_echelon, a_pivot) := by
  have hD := ok.1
  have h0 : ∀ j, j < 6 → a_cursor j = zI ((a_cursor j).toInt) := fun j _ => zI_of _
  have h1 : ∀ j, j < 6 → a_limit j = zI ((a_limit j).toInt) := fun j _ => zI_of _
  refine xo_open (m := 0) (c := fun j => (a_cursor j).toInt) ok (by omega) h0 (fun j hj => by omega) (fun a' b' x y sl sh hxy hiff => ?_)
  have hw := hwd 0 _ x y (by omega) (fun t ht => (hiff t).mp ht)
  have hd : ∀ c t, sIn F Cn Sz Pn a_sysCoef a_sysBound kl hL hH pn 0 c t ↔ (x ≤ t ∧ t ≤ y) := fun c t => by
    rw [hiff t]; exact hcg 0 _ _ t (fun j hj => by omega)
  refine K _ _ sl sh _ _ _ _ (uz_z h0) (uz_z h1) ⟨by omega, fun m hm => ?_, fun m hm => by omega⟩ ?_ (fun c => ⟨fun h => ⟨h, 0, by omega, fun j hj => by omega, ?_⟩, fun h => h.1⟩)
  · cases (show m = 0 by omega)
    rw [uz_s, uz_s]
    refine ⟨fun t ht => ?_, ?_, by omega, ?_⟩
    · rw [hd]; omega
    · rcases hxy with hxy | hxy
      · have := hbd 0 _ _ (by omega) ((hiff x).mp ⟨by omega, hxy⟩); omega
      · omega
    · rcases hxy with hxy | hxy
      · have := hbd 0 _ _ (by omega) ((hiff y).mp ⟨hxy, by omega⟩); omega
      · omega
  · show 0 + (updz _ 0 y 0 - updz _ 0 (x - 1) 0).toNat * (1 + W (0 + 1)) + 1 ≤ W 0
    rw [uz_s, uz_s, show y - (x - 1) = y - x + 1 by omega]
    omega
  · have := (hd _ _).mp (h 0 (by omega))
    rw [uz_s]; omega
end
/-! the scan's loops look outward, stay within the hull, and are short -/
theorem sIn_cg {F Cn Sz Pn : Nat} {sc sb : Nat → Int64} {kl : Nat → Nat} {hL hH pn : Nat → Int} : sCg (sIn F Cn Sz Pn sc sb kl hL hH pn) := by
  intro m c c' t h
  have hP : ∀ l, (∀ v, v < l → pl F Cn v < m) → (F ≤ l → l < F + Cn → l < m) → (sInP F Cn Sz Pn sc sb kl hL hH pn l c t ↔ sInP F Cn Sz Pn sc sb kl hL hH pn l c' t) := by
    intro l h1 h2
    unfold sInP
    have e : ∀ r, dtp l (xs_row sc l r) (fun v => c (pl F Cn v)) = dtp l (xs_row sc l r) (fun v => c' (pl F Cn v)) := fun r => dtp_congr (fun _ _ => rfl) (fun v hv => h _ (h1 v hv))
    refine and_congr_right (fun _ => and_congr_right (fun _ => and_congr ?_ ?_))
    · refine ⟨fun g a b => ?_, fun g a b => ?_⟩
      · rw [← h l (h2 a b)]; exact g a b
      · rw [h l (h2 a b)]; exact g a b
    · refine ⟨fun g r hr hne => ?_, fun g r hr hne => ?_⟩
      · rw [← e r]; exact g r hr hne
      · rw [e r]; exact g r hr hne
  unfold sIn
  split
  · split
    · unfold sInT
      have e : ∀ r : Nat, rsum (xs_row sc m r) (splo F Cn Sz 1 c) (sphi F Cn Sz 1 c) m = rsum (xs_row sc m r) (splo F Cn Sz 1 c') (sphi F Cn Sz 1 c') m := by
        intro r
        have hv : ∀ v, v < m → splo F Cn Sz 1 c v = splo F Cn Sz 1 c' v ∧ sphi F Cn Sz 1 c v = sphi F Cn Sz 1 c' v := by
          intro v hv
          unfold splo sphi
          by_cases x : F ≤ v
          · rw [if_pos ⟨rfl, x⟩, if_pos ⟨rfl, x⟩, if_pos ⟨rfl, x⟩, if_pos ⟨rfl, x⟩, h v hv]; exact ⟨rfl, rfl⟩
          · rw [if_neg (fun q => x q.2), if_neg (fun q => x q.2), if_neg (fun q => x q.2), if_neg (fun q => x q.2)]
            have : pl F Cn v = v := by unfold pl; rw [if_pos (by omega)]
            rw [this, h v hv]; exact ⟨rfl, rfl⟩
        have : ∀ n, n ≤ m → rsum (xs_row sc m r) (splo F Cn Sz 1 c) (sphi F Cn Sz 1 c) n = rsum (xs_row sc m r) (splo F Cn Sz 1 c') (sphi F Cn Sz 1 c') n := by
          intro n
          induction n with
          | zero => intro _; rfl
          | succ n ih =>
            intro hn
            show rsum _ _ _ n + (if _ then _ else _) = rsum _ _ _ n + (if _ then _ else _)
            rw [ih (by omega), (hv n (by omega)).1, (hv n (by omega)).2]
        exact this m (Nat.le_refl _)
      refine exists_congr (fun t' => and_congr_right (fun _ => and_congr_right (fun _ => and_congr_right (fun _ => ?_))))
      refine ⟨fun g r hr hne => ?_, fun g r hr hne => ?_⟩
      · rw [← e r]; exact g r hr hne
      · rw [e r]; exact g r hr hne
    · exact hP m (fun v hv => by unfold pl; rw [if_pos (by omega)]; exact hv) (fun a b => by omega)
  · exact hP (m - Cn) (fun v hv => by unfold pl; split <;> omega) (fun a b => by omega)
theorem sIn_h {D F Cn Sz Pn : Nat} {sc sb : Nat → Int64} {sk hl hh pin : Nat → Int32} {kl : Nat → Nat} {hL hH pn : Nat → Int} (ok : sc_ok D F Cn Sz Pn sc sb sk hl hh pin kl hL hH pn) {m : Nat} {c : Nat → Int} {t : Int} (hm : m < D + Cn)
    (h : sIn F Cn Sz Pn sc sb kl hL hH pn m c t) : (m < F + Cn ∧ F ≤ m ∧ hL m / (Sz : Int) ≤ t ∧ t ≤ hH m / (Sz : Int)) ∨ (¬ (m < F + Cn ∧ F ≤ m) ∧ ∃ l, l < D ∧ l = (if m < F + Cn then m else m - Cn) ∧ hL l ≤ t ∧ t ≤ hH l ∧ (F ≤ l → l < F + Cn → c l * Sz ≤ t ∧ t ≤ c l * Sz + Sz - 1) ∧ (l < Pn → t = pn l)) := by
  obtain ⟨hD, hFC, hSz, hPn, hFD, hsys, hhull, hpin⟩ := ok
  unfold sIn at h
  split at h
  · split at h
    · obtain ⟨t', rfl, hb, _⟩ := h
      left
      exact ⟨by assumption, by assumption, Int.ediv_le_ediv (by omega) hb.1, Int.ediv_le_ediv (by omega) hb.2⟩
    · right
      refine ⟨fun q => absurd q.2 (by assumption), m, by omega, ?_, h.1.1, h.1.2, h.2.2.1, h.2.1⟩
      rw [if_pos (by assumption)]
  · right
    refine ⟨fun q => absurd q.1 (by assumption), m - Cn, by omega, ?_, h.1.1, h.1.2, h.2.2.1, h.2.1⟩
    rw [if_neg (by assumption)]
theorem sIn_bd {D F Cn Sz Pn : Nat} {sc sb : Nat → Int64} {sk hl hh pin : Nat → Int32} {kl : Nat → Nat} {hL hH pn : Nat → Int} (ok : sc_ok D F Cn Sz Pn sc sb sk hl hh pin kl hL hH pn) : sBd (D + Cn) (sIn F Cn Sz Pn sc sb kl hL hH pn) := by
  intro m c t hm h
  have hhull := ok.2.2.2.2.2.2.1
  have hSz := ok.2.2.1
  rcases sIn_h ok hm h with ⟨h1, h2, h3, h4⟩ | ⟨_, l, h1, _, h2, h3, _⟩
  · have hh := (hhull m (by have := ok.2.1; omega)).2
    have b1 := fl_abs (m := hL m) (g := (Sz : Int)) (B := 504) (by omega) (by omega) (by omega)
    have b2 := fl_abs (m := hH m) (g := (Sz : Int)) (B := 504) (by omega) (by omega) (by omega)
    omega
  · have hh := (hhull l h1).2
    omega
end
section
/-! the number of steps; the cursors that a scan visits -/
def sR (F Cn Sz Pn m : Nat) : Nat := if m < F + Cn then (if F ≤ m then 168 / Sz + 2 else 169) else (if m - Cn < F + Cn ∧ F ≤ m - Cn then Sz else if m - Cn < Pn then 1 else if Pn = 2 then 505 else 169)
def sWr (R : Nat → Nat) (L : Nat) : Nat → Nat
  | 0 => 0
  | k + 1 => R (L - (k + 1)) * (1 + sWr R L k) + 1
def sW (F Cn Sz Pn L m : Nat) : Nat := sWr (sR F Cn Sz Pn) L (L - m)
theorem sW_all : ∀ (D : Fin 4) (F : Fin 3) (Cn : Fin 4) (Sz : Fin 9), 1 ≤ Sz.val → F.val + Cn.val ≤ D.val → sW F.val Cn.val Sz.val 0 (D.val + Cn.val) 0 < 67000000 := by decide +kernel
theorem sW_all1 : ∀ (D : Fin 4) (Pn : Fin 3), sW 0 0 1 Pn.val D.val 0 < 67000000 := by decide +kernel
theorem sW_0 {D F Cn Sz : Nat} (hD : D = 2 ∨ D = 3) (h : F + Cn ≤ D) (hF : F < D) (hS : 1 ≤ Sz ∧ Sz ≤ 8) : sW F Cn Sz 0 (D + Cn) 0 < 67000000 :=
  sW_all ⟨D, by omega⟩ ⟨F, by omega⟩ ⟨Cn, by omega⟩ ⟨Sz, by omega⟩ hS.1 h
theorem sW_1 {D Pn : Nat} (hD : D = 2 ∨ D = 3) (h : Pn ≤ 2) : sW 0 0 1 Pn (D + 0) 0 < 67000000 :=
  sW_all1 ⟨D, by omega⟩ ⟨Pn, by omega⟩
theorem sIn_wd {D F Cn Sz Pn : Nat} {sc sb : Nat → Int64} {sk hl hh pin : Nat → Int32} {kl : Nat → Nat} {hL hH pn : Nat → Int} (ok : sc_ok D F Cn Sz Pn sc sb sk hl hh pin kl hL hH pn) : sWd (D + Cn) (sIn F Cn Sz Pn sc sb kl hL hH pn) (sW F Cn Sz Pn (D + Cn)) := by
  intro m c x y hm h
  have hhull := ok.2.2.2.2.2.2.1
  have hSz := ok.2.2.1
  have hFC := ok.2.1
  have e : sW F Cn Sz Pn (D + Cn) m = sR F Cn Sz Pn m * (1 + sW F Cn Sz Pn (D + Cn) (m + 1)) + 1 := by
    unfold sW
    rw [show D + Cn - m = (D + Cn - (m + 1)) + 1 by omega]
    show sR F Cn Sz Pn (D + Cn - (D + Cn - (m + 1) + 1)) * _ + 1 = _
    rw [show D + Cn - (D + Cn - (m + 1) + 1) = m by omega]
  rw [e]
  refine Nat.add_le_add_right (Nat.mul_le_mul_right _ ?_) 1
  by_cases hxy : x ≤ y
  · have h1 := sIn_h ok hm (h x ⟨by omega, hxy⟩)
    have h2 := sIn_h ok hm (h y ⟨hxy, by omega⟩)
    unfold sR
    by_cases t : m < F + Cn ∧ F ≤ m
    · rw [if_pos t.1, if_pos t.2]
      rcases h1 with ⟨_, _, h1, _⟩ | ⟨h1, _⟩
      · rcases h2 with ⟨_, _, _, h2⟩ | ⟨h2, _⟩
        · have hh := (hhull m (by omega)).2
          have hs : Sz = 1 ∨ Sz = 2 ∨ Sz = 3 ∨ Sz = 4 ∨ Sz = 5 ∨ Sz = 6 ∨ Sz = 7 ∨ Sz = 8 := by omega
          rcases hs with rfl | rfl | rfl | rfl | rfl | rfl | rfl | rfl <;> omega
        · exact absurd t h2
      · exact absurd t h1
    · rcases h1 with ⟨a, b, _⟩ | ⟨_, l, hl, hle, h1, _, hb1, hp1⟩
      · exact absurd ⟨a, b⟩ t
      · rcases h2 with ⟨a, b, _⟩ | ⟨_, l', _, hle', _, h2, hb2, hp2⟩
        · exact absurd ⟨a, b⟩ t
        · have hll : l' = l := by rw [hle, hle']
          subst hll
          have hh := (hhull l' hl).2
          by_cases u : m < F + Cn
          · rw [if_pos u, if_neg (by omega)]; omega
          · rw [if_neg u]
            rw [if_neg u] at hle
            by_cases w : m - Cn < F + Cn ∧ F ≤ m - Cn
            · rw [if_pos w]
              have q1 := hb1 (by omega) (by omega)
              have q2 := hb2 (by omega) (by omega)
              omega
            · rw [if_neg w]
              by_cases w2 : m - Cn < Pn
              · rw [if_pos w2]
                have q1 := hp1 (by omega)
                have q2 := hp2 (by omega)
                omega
              · rw [if_neg w2]
                split <;> omega
  · omega
def keyOf (F Cn Sz : Nat) (z : Nat → Int) (m : Nat) : Int := if m < F + Cn then (if F ≤ m then z m / (Sz : Int) else z m) else z (m - Cn)
theorem key_pl {F Cn Sz : Nat} {z : Nat → Int} (v : Nat) : keyOf F Cn Sz z (pl F Cn v) = z v := by
  unfold keyOf pl
  by_cases h : v < F
  · rw [if_pos h, if_pos (by omega), if_neg (by omega)]
  · rw [if_neg h, if_neg (by omega), Nat.add_sub_cancel]
theorem key_t {F Cn Sz : Nat} {z : Nat → Int} {m : Nat} (h1 : F ≤ m) (h2 : m < F + Cn) : keyOf F Cn Sz z m = z m / (Sz : Int) := by
  unfold keyOf; rw [if_pos h2, if_pos h1]
theorem fl_in {t : Int} {s : Nat} (hs : 1 ≤ s) : t / (s : Int) * s ≤ t ∧ t ≤ t / (s : Int) * s + s - 1 := by
  have h1 := Int.mul_ediv_add_emod t s
  have h2 := Int.emod_lt_of_pos t (show (0 : Int) < s by omega)
  have h3 := Int.emod_nonneg t (show (s : Int) ≠ 0 by omega)
  rw [Int.mul_comm] at h1
  omega
theorem fl_of {t q : Int} {s : Nat} (hs : 1 ≤ s) (h1 : q * s ≤ t) (h2 : t ≤ q * s + s - 1) : t / (s : Int) = q :=
  fl_pos (r := t - q * s) (by rw [Int.mul_comm]; omega) (by omega) (by omega)
theorem sD_in {D F Cn Sz Pn : Nat} {sc sb : Nat → Int64} {sk hl hh pin : Nat → Int32} {kl : Nat → Nat} {hL hH pn : Nat → Int} (ok : sc_ok D F Cn Sz Pn sc sb sk hl hh pin kl hL hH pn) {z : Nat → Int}
    (hs : ∀ l, l < D → xs_Sat sc sb l (kl l) z) (hb : ∀ l, l < D → hL l ≤ z l ∧ z l ≤ hH l) (hp : ∀ l, l < Pn → z l = pn l) : sD (D + Cn) (sIn F Cn Sz Pn sc sb kl hL hH pn) (keyOf F Cn Sz z) := by
  obtain ⟨hD, hFC, hSz, hPn, hFD, hsys, hhull, hpin⟩ := ok
  have hP : ∀ l, l < D → sInP F Cn Sz Pn sc sb kl hL hH pn l (keyOf F Cn Sz z) (z l) := by
    intro l hl
    refine ⟨hb l hl, hp l, fun h1 h2 => ?_, fun r hr hne => ?_⟩
    · rw [key_t h1 h2]; exact fl_in hSz.1
    · have := hs l hl r hr
      have e : dtp (l + 1) (xs_row sc l r) z = dtp l (xs_row sc l r) z + xs_row sc l r l * z l := rfl
      rw [dtp_congr (c' := xs_row sc l r) (z' := z) (fun _ _ => rfl) (fun v _ => key_pl v)]
      omega
  intro m hm
  unfold sIn
  by_cases h1 : m < F + Cn
  · rw [if_pos h1]
    by_cases h2 : F ≤ m
    · rw [if_pos h2, key_t h2 h1]
      refine ⟨z m, rfl, hb m (by omega), hp m, fun r hr hne => ?_⟩
      have := hs m (by omega) r hr
      have e : dtp (m + 1) (xs_row sc m r) z = dtp m (xs_row sc m r) z + xs_row sc m r m * z m := rfl
      have q := rsum_le (w := xs_row sc m r) (lo := splo F Cn Sz 1 (keyOf F Cn Sz z)) (hi := sphi F Cn Sz 1 (keyOf F Cn Sz z)) (c := z) m (fun v hv => by
        unfold splo sphi
        by_cases x : F ≤ v
        · rw [if_pos ⟨rfl, x⟩, if_pos ⟨rfl, x⟩, key_t x (by omega)]; exact fl_in hSz.1
        · rw [if_neg (fun q => x q.2), if_neg (fun q => x q.2), key_pl]; omega)
      omega
    · rw [if_neg h2]
      have : keyOf F Cn Sz z m = z m := by unfold keyOf; rw [if_pos h1, if_neg h2]
      rw [this]
      exact hP m (by omega)
  · rw [if_neg h1]
    have : keyOf F Cn Sz z m = z (m - Cn) := by unfold keyOf; rw [if_neg h1]
    rw [this]
    exact hP (m - Cn) (by omega)
theorem sD_out {D F Cn Sz Pn : Nat} {sc sb : Nat → Int64} {sk hl hh pin : Nat → Int32} {kl : Nat → Nat} {hL hH pn : Nat → Int} (ok : sc_ok D F Cn Sz Pn sc sb sk hl hh pin kl hL hH pn) {N : (Nat → Int) → Prop} {c : Nat → Int}
    (hN : ∀ z, (∀ l, l < D → ∀ r, r < kl l → xs_row sc l r l ≠ 0 → dtp (l + 1) (xs_row sc l r) z ≤ (sb (l * 40 + r)).toInt) → N z)
    (h : sD (D + Cn) (sIn F Cn Sz Pn sc sb kl hL hH pn) c) :
    N (fun v => c (pl F Cn v)) ∧ (∀ l, l < Pn → c (pl F Cn l) = pn l) ∧ ∀ m, m < D + Cn → c m = keyOf F Cn Sz (fun v => c (pl F Cn v)) m := by
  obtain ⟨hD, hFC, hSz, hPn, hFD, hsys, hhull, hpin⟩ := ok
  have hP : ∀ l, l < D → sInP F Cn Sz Pn sc sb kl hL hH pn l c (c (pl F Cn l)) := by
    intro l hl
    have := h (pl F Cn l) (by unfold pl; split <;> omega)
    unfold sIn at this
    by_cases x : l < F
    · have e : pl F Cn l = l := by unfold pl; rw [if_pos x]
      rw [e, if_pos (by omega), if_neg (by omega)] at this
      rw [e]; exact this
    · have e : pl F Cn l = l + Cn := by unfold pl; rw [if_neg x]
      rw [e, if_neg (by omega), Nat.add_sub_cancel] at this
      rw [e]; exact this
  refine ⟨hN _ (fun l hl r hr hne => ?_), fun l hl => (hP l (by omega)).2.1 hl, fun m hm => ?_⟩
  · have := (hP l hl).2.2.2 r hr hne
    show dtp l (xs_row sc l r) (fun v => c (pl F Cn v)) + xs_row sc l r l * c (pl F Cn l) ≤ _
    omega
  · by_cases h1 : m < F + Cn
    · by_cases h2 : F ≤ m
      · rw [key_t h2 h1]
        have := (hP m (by omega)).2.2.1 h2 h1
        exact (fl_of hSz.1 this.1 this.2).symm
      · unfold keyOf; rw [if_pos h1, if_neg h2]
        show c m = c (pl F Cn m)
        unfold pl; rw [if_pos (by omega)]
    · unfold keyOf; rw [if_neg h1]
      show c m = c (pl F Cn (m - Cn))
      unfold pl; rw [if_neg (by omega)]; exact congrArg c (by omega)
end
section
/-! reduceAccess: the pure function. Column j of the state is C j: two rows of the echelon form, three of toX, and row j of toZ -/
def euS (k o : Nat) (f : Int) (C : Nat → Nat → Int) : Nat → Nat → Int := fun j i =>
  if j = k then (if i < 5 then C o i else C o i + f * C k i) else if j = o then (if i < 5 then C k i - f * C o i else C k i) else C j i
def euR (r k o : Nat) : Nat → (Nat → Nat → Int) → (Nat → Nat → Int)
  | 0, C => C
  | n + 1, C => if C o r = 0 then C else euR r k o n (euS k o ((C k r).tdiv (C o r)) C)
theorem euS_k {k o : Nat} {f : Int} {C : Nat → Nat → Int} {i : Nat} (hi : i < 5) : euS k o f C k i = C o i := by unfold euS; rw [if_pos rfl, if_pos hi]
theorem euS_kz {k o : Nat} {f : Int} {C : Nat → Nat → Int} {i : Nat} (hi : 5 ≤ i) : euS k o f C k i = C o i + f * C k i := by unfold euS; rw [if_pos rfl, if_neg (by omega)]
theorem euS_o {k o : Nat} (h : o ≠ k) {f : Int} {C : Nat → Nat → Int} {i : Nat} (hi : i < 5) : euS k o f C o i = C k i - f * C o i := by unfold euS; rw [if_neg h, if_pos rfl, if_pos hi]
theorem euS_oz {k o : Nat} (h : o ≠ k) {f : Int} {C : Nat → Nat → Int} {i : Nat} (hi : 5 ≤ i) : euS k o f C o i = C k i := by unfold euS; rw [if_neg h, if_pos rfl, if_neg (by omega)]
theorem euS_t {k o j : Nat} (h : j ≠ k) (h' : j ≠ o) {f : Int} {C : Nat → Nat → Int} {i : Nat} : euS k o f C j i = C j i := by unfold euS; rw [if_neg h, if_neg h']
theorem euR_z {r k o n : Nat} {C : Nat → Nat → Int} (h : C o r = 0) : euR r k o n C = C := by
  cases n with
  | zero => rfl
  | succ n => show (if _ then _ else _) = _; rw [if_pos h]
theorem euR_s {r k o n : Nat} {C : Nat → Nat → Int} (h : C o r ≠ 0) : euR r k o (n + 1) C = euR r k o n (euS k o ((C k r).tdiv (C o r)) C) := by
  show (if _ then _ else _) = _; rw [if_neg h]
/-- an induction over the steps -/
theorem euR_ind {r k o : Nat} (P : (Nat → Nat → Int) → Prop) (hs : ∀ C, P C → C o r ≠ 0 → P (euS k o ((C k r).tdiv (C o r)) C)) : ∀ n C, P C → P (euR r k o n C) := by
  intro n
  induction n with
  | zero => intro C h; exact h
  | succ n ih =>
    intro C h
    by_cases z : C o r = 0
    · rw [euR_z z]; exact h
    · rw [euR_s z]; exact ih _ (hs C h z)
theorem eu_rest {r k o : Nat} (hko : o ≠ k) (hr : r < 5) {f : Int} {C : Nat → Nat → Int} (hf : f = (C k r).tdiv (C o r)) : euS k o f C o r = (C k r).tmod (C o r) := by
  rw [euS_o hko hr, hf, Int.tmod_def, Int.mul_comm]
theorem eu_end {r k o : Nat} (hko : o ≠ k) (hr : r < 5) : ∀ n C, (C o r).natAbs ≤ n → euR r k o n C o r = 0 := by
  intro n
  induction n with
  | zero => intro C h; show C o r = 0; omega
  | succ n ih =>
    intro C h
    by_cases z : C o r = 0
    · rw [euR_z z]; exact z
    · rw [euR_s z]
      refine ih _ ?_
      rw [eu_rest hko hr rfl, Int.natAbs_tmod]
      have := Nat.mod_lt (C k r).natAbs (show 0 < (C o r).natAbs by omega)
      omega
theorem eu_rb {r k o : Nat} (hko : o ≠ k) (hr : r < 5) {B : Nat} : ∀ n C, ((C k r).natAbs ≤ B ∧ (C o r).natAbs ≤ B) → (euR r k o n C k r).natAbs ≤ B ∧ (euR r k o n C o r).natAbs ≤ B := by
  refine euR_ind (fun C => (C k r).natAbs ≤ B ∧ (C o r).natAbs ≤ B) (fun C h z => ?_)
  refine ⟨by rw [euS_k hr]; exact h.2, ?_⟩
  rw [eu_rest hko hr rfl, Int.natAbs_tmod]
  have := Nat.mod_lt (C k r).natAbs (show 0 < (C o r).natAbs by omega)
  omega
theorem eu_nz {r k o : Nat} (hr : r < 5) : ∀ n C, C k r ≠ 0 → euR r k o n C k r ≠ 0 := by
  exact euR_ind (fun C => C k r ≠ 0) (fun C h z => by rw [euS_k hr]; exact z)
theorem eu_pz {r k o : Nat} (hr : r < 5) {n : Nat} {C : Nat → Nat → Int} (h : euR r k o n C k r = 0) : euR r k o n C = C := by
  cases n with
  | zero => rfl
  | succ n =>
    by_cases z : C o r = 0
    · exact euR_z z
    · rw [euR_s z] at h
      exact absurd h (eu_nz hr n _ (by rw [euS_k hr]; exact z))
theorem eu_zero {r k o i : Nat} (hko : o ≠ k) (hi : i < 5) : ∀ n C, (C k i = 0 ∧ C o i = 0) → euR r k o n C k i = 0 ∧ euR r k o n C o i = 0 := by
  refine euR_ind (fun C => C k i = 0 ∧ C o i = 0) (fun C h z => ?_)
  rw [euS_k hi, euS_o hko hi, h.1, h.2]
  exact ⟨rfl, by omega⟩
theorem eu_t {r k o t : Nat} (h : t ≠ k) (h' : t ≠ o) : ∀ n (C : Nat → Nat → Int), euR r k o n C t = C t := by
  intro n C
  refine euR_ind (r := r) (k := k) (o := o) (fun C' => C' t = C t) (fun C' hC z => ?_) n C rfl
  rw [← hC]; funext i; exact euS_t h h'
/-- the steps don't look at row s -/
theorem eu_ig {r k o s : Nat} (hrs : r ≠ s) (hk : k < 3) (ho : o < 3) : ∀ n (C C' : Nat → Nat → Int), (∀ j i, j < 3 → i ≠ s → C j i = C' j i) → ∀ j i, j < 3 → i ≠ s → euR r k o n C j i = euR r k o n C' j i := by
  intro n
  induction n with
  | zero => intro C C' h; exact h
  | succ n ih =>
    intro C C' h
    by_cases z : C o r = 0
    · have z' : C' o r = 0 := by rw [← h o r ho hrs]; exact z
      rw [euR_z z, euR_z z']; exact h
    · have z' : C' o r ≠ 0 := by rw [← h o r ho hrs]; exact z
      rw [euR_s z, euR_s z']
      refine ih _ _ (fun j i hj hi => ?_)
      unfold euS
      rw [h k r hk hrs, h o r ho hrs, h k i hk hi, h o i ho hi, h j i hj hi]
/-- the algebra: toZ toX = 1 = toX toZ, m toX = echelon -/
def rdI (m : Nat → Int) (C : Nat → Nat → Int) : Prop :=
  (∀ a b, a < 3 → b < 3 → C a 5 * C b 2 + C a 6 * C b 3 + C a 7 * C b 4 = if a = b then 1 else 0) ∧
  (∀ a b, a < 3 → b < 3 → C 0 (2 + a) * C 0 (5 + b) + C 1 (2 + a) * C 1 (5 + b) + C 2 (2 + a) * C 2 (5 + b) = if a = b then 1 else 0) ∧
  (∀ v, v < 3 → m 0 * C v 2 + m 1 * C v 3 + m 2 * C v 4 = C v 0 ∧ m 3 * C v 2 + m 4 * C v 3 + m 5 * C v 4 = C v 1)
theorem eu_inv {m : Nat → Int} {k o : Nat} (hk : (k = 0 ∧ o = 1) ∨ (k = 0 ∧ o = 2) ∨ (k = 1 ∧ o = 2)) {C : Nat → Nat → Int} (f : Int) (h : rdI m C) : rdI m (euS k o f C) := by
  have hko : o ≠ k := by omega
  obtain ⟨h1, h2, h3⟩ := h
  have okk := h1 k k (by omega) (by omega)
  have oko := h1 k o (by omega) (by omega)
  have ook := h1 o k (by omega) (by omega)
  have ooo := h1 o o (by omega) (by omega)
  rw [if_pos rfl] at okk ooo
  rw [if_neg (by omega)] at oko ook
  refine ⟨fun a b ha hb => ?_, fun a b ha hb => ?_, fun v hv => ?_⟩
  · have q1 := h1 a b ha hb
    have q2 := h1 a k ha (by omega)
    have q3 := h1 a o ha (by omega)
    have q4 := h1 k b (by omega) hb
    have q5 := h1 o b (by omega) hb
    by_cases ak : a = k
    · subst ak
      rw [euS_kz (by omega), euS_kz (by omega), euS_kz (by omega)]
      by_cases bk : b = a
      · subst bk
        rw [euS_k (by omega), euS_k (by omega), euS_k (by omega), if_pos rfl]
        grind
      · by_cases bo : b = o
        · subst bo
          rw [euS_o hko (by omega), euS_o hko (by omega), euS_o hko (by omega), if_neg (by omega)]
          grind
        · rw [euS_t bk bo, euS_t bk bo, euS_t bk bo, if_neg (by omega)]
          rw [if_neg (by omega)] at q4 q5
          grind
    · by_cases ao : a = o
      · subst ao
        rw [euS_oz hko (by omega), euS_oz hko (by omega), euS_oz hko (by omega)]
        by_cases bk : b = k
        · subst bk
          rw [euS_k (by omega), euS_k (by omega), euS_k (by omega), if_neg (by omega)]
          exact oko
        · by_cases bo : b = a
          · subst bo
            rw [euS_o hko (by omega), euS_o hko (by omega), euS_o hko (by omega), if_pos rfl]
            grind
          · rw [euS_t bk bo, euS_t bk bo, euS_t bk bo, if_neg (by omega)]
            rw [if_neg (by omega)] at q4
            exact q4
      · rw [euS_t ak ao, euS_t ak ao, euS_t ak ao]
        by_cases bk : b = k
        · subst bk
          rw [euS_k (by omega), euS_k (by omega), euS_k (by omega), if_neg (by omega)]
          rw [if_neg (by omega)] at q3
          exact q3
        · by_cases bo : b = o
          · subst bo
            rw [euS_o hko (by omega), euS_o hko (by omega), euS_o hko (by omega), if_neg (by omega)]
            rw [if_neg (by omega)] at q2 q3
            grind
          · rw [euS_t bk bo, euS_t bk bo, euS_t bk bo]
            exact q1
  · have q := h2 a b ha hb
    rcases hk with ⟨rfl, rfl⟩ | ⟨rfl, rfl⟩ | ⟨rfl, rfl⟩
    · rw [euS_k (by omega), euS_kz (by omega), euS_o hko (by omega), euS_oz hko (by omega), euS_t (j := 2) (by omega) (by omega), euS_t (j := 2) (by omega) (by omega), ← q]; grind
    · rw [euS_k (by omega), euS_kz (by omega), euS_o hko (by omega), euS_oz hko (by omega), euS_t (j := 1) (by omega) (by omega), euS_t (j := 1) (by omega) (by omega), ← q]; grind
    · rw [euS_k (by omega), euS_kz (by omega), euS_o hko (by omega), euS_oz hko (by omega), euS_t (j := 0) (by omega) (by omega), euS_t (j := 0) (by omega) (by omega), ← q]; grind
  · have qk := h3 k (by omega)
    have qo := h3 o (by omega)
    have qv := h3 v hv
    by_cases vk : v = k
    · subst vk
      rw [euS_k (by omega), euS_k (by omega), euS_k (by omega), euS_k (by omega), euS_k (by omega)]
      exact qo
    · by_cases vo : v = o
      · subst vo
        rw [euS_o hko (by omega), euS_o hko (by omega), euS_o hko (by omega), euS_o hko (by omega), euS_o hko (by omega)]
        exact ⟨by rw [← qk.1, ← qo.1]; grind, by rw [← qk.2, ← qo.2]; grind⟩
      · rw [euS_t vk vo, euS_t vk vo, euS_t vk vo, euS_t vk vo, euS_t vk vo]
        exact qv
theorem eu_I {m : Nat → Int} {r k o n : Nat} (hk : (k = 0 ∧ o = 1) ∨ (k = 0 ∧ o = 2) ∨ (k = 1 ∧ o = 2)) {C : Nat → Nat → Int} (h : rdI m C) : rdI m (euR r k o n C) :=
  euR_ind (fun C => rdI m C) (fun C h _ => eu_inv hk _ h) n C h
/-- a potential that doesn't grow -/
theorem eu_pot {A Bn F r P Q P' : Nat} (h1 : F * Bn + r = A) (h2 : P' ≤ P + F * Q) : Q * r + P' * Bn ≤ P * Bn + Q * A := by
  have h3 := Nat.mul_le_mul_right Bn h2
  have e1 : (P + F * Q) * Bn = P * Bn + Q * (F * Bn) := by rw [Nat.add_mul]; congr 1; rw [Nat.mul_comm F Q, Nat.mul_assoc]
  have e2 : Q * A = Q * (F * Bn) + Q * r := by rw [← h1, Nat.mul_add]
  omega
def euB (r k o i B : Nat) (C : Nat → Nat → Int) : Prop := ((C k i).natAbs ≤ B ∧ (C o i).natAbs ≤ B) ∧
  (if i < 5 then (C k i).natAbs * (C o r).natAbs + (C o i).natAbs * (C k r).natAbs ≤ B else (C o i).natAbs * (C o r).natAbs + (C k i).natAbs * (C k r).natAbs ≤ B)
theorem eu_bd {r k o i B : Nat} (hko : o ≠ k) (hr : r < 5) {n : Nat} {C : Nat → Nat → Int} (h : euB r k o i B C) : euB r k o i B (euR r k o n C) := by
  refine euR_ind (fun C => euB r k o i B C) (fun C h z => ?_) n C h
  obtain ⟨⟨b1, b2⟩, b3⟩ := h
  have e1 : ((C k r).tdiv (C o r)).natAbs * (C o r).natAbs + ((C k r).tmod (C o r)).natAbs = (C k r).natAbs := by
    rw [Int.natAbs_tdiv, Int.natAbs_tmod, Nat.mul_comm]; exact Nat.div_add_mod _ _
  have ho : 1 ≤ (C o r).natAbs := by omega
  unfold euB
  rw [euS_k hr, eu_rest hko hr rfl]
  by_cases hi : i < 5
  · rw [if_pos hi] at b3
    rw [if_pos hi, euS_k hi, euS_o hko hi]
    have p : (C k i - (C k r).tdiv (C o r) * C o i).natAbs ≤ (C k i).natAbs + ((C k r).tdiv (C o r)).natAbs * (C o i).natAbs := by
      rw [← Int.natAbs_mul]; omega
    have q := eu_pot (Q := (C o i).natAbs) (P := (C k i).natAbs) e1 p
    have w := Nat.mul_le_mul_left (C k i - (C k r).tdiv (C o r) * C o i).natAbs ho
    exact ⟨⟨b2, by omega⟩, by omega⟩
  · rw [if_neg hi] at b3
    rw [if_neg hi, euS_kz (by omega), euS_oz hko (by omega)]
    have p : (C o i + (C k r).tdiv (C o r) * C k i).natAbs ≤ (C o i).natAbs + ((C k r).tdiv (C o r)).natAbs * (C k i).natAbs := by
      rw [← Int.natAbs_mul]; omega
    have q := eu_pot (Q := (C k i).natAbs) (P := (C o i).natAbs) e1 p
    have w := Nat.mul_le_mul_left (C o i + (C k r).tdiv (C o r) * C k i).natAbs ho
    exact ⟨⟨by omega, b1⟩, by omega⟩
end
section
def rd0 (m : Nat → Int) : Nat → Nat → Int := fun j i => if i = 0 then m j else if i = 1 then m (3 + j) else if i < 5 then (if i - 2 = j then 1 else 0) else (if i - 5 = j then 1 else 0)
def rd1 (m : Nat → Int) : Nat → Nat → Int := euR 0 0 1 8 (rd0 m)
def rd2 (m : Nat → Int) : Nat → Nat → Int := euR 0 0 2 8 (rd1 m)
def rd3 (m : Nat → Int) : Nat → Nat → Int := euR 1 0 1 8 (rd2 m)
def rdF (m : Nat → Int) : Nat → Nat → Int := if rd2 m 0 0 = 0 then euR 1 0 2 8 (rd3 m) else euR 1 1 2 8 (rd2 m)
def all3 (p : Nat → Bool) : Bool := p 0 && p 1 && p 2
theorem all3_h {p : Nat → Bool} (h : all3 p = true) {j : Nat} (hj : j < 3) : p j = true := by
  unfold all3 at h
  simp only [Bool.and_eq_true] at h
  rcases (show j = 0 ∨ j = 1 ∨ j = 2 by omega) with rfl | rfl | rfl
  · exact h.1.1
  · exact h.1.2
  · exact h.2
/-- small entries: toX and toZ within 2, columns of toX within 3 -/
def rdSm (C : Nat → Nat → Int) : Bool :=
  all3 (fun a => all3 (fun b => Nat.ble (C a (2 + b)).natAbs 2 && Nat.ble (C a (5 + b)).natAbs 2) && Nat.ble ((C a 2).natAbs + (C a 3).natAbs + (C a 4).natAbs) 3)
def rdM (a b c d e f : Int) : Nat → Int := fun j => if j = 0 then a else if j = 1 then b else if j = 2 then c else if j = 3 then d else if j = 4 then e else if j = 5 then f else 0
theorem rd_t1 : ∀ (a b c : Fin 5), rdSm (rd2 (rdM ((a.val : Int) - 2) ((b.val : Int) - 2) ((c.val : Int) - 2) 0 0 0)) = true := by decide +kernel
theorem rd_t2 : ∀ (a b c : Fin 5), rdSm (euR 1 0 2 8 (euR 1 0 1 8 (rd0 (rdM 0 0 0 ((a.val : Int) - 2) ((b.val : Int) - 2) ((c.val : Int) - 2))))) = true := by decide +kernel
theorem rdSm_h {C : Nat → Nat → Int} (h : rdSm C = true) {a : Nat} (ha : a < 3) : (∀ b, b < 3 → (C a (2 + b)).natAbs ≤ 2 ∧ (C a (5 + b)).natAbs ≤ 2) ∧ (C a 2).natAbs + (C a 3).natAbs + (C a 4).natAbs ≤ 3 := by
  have h1 := all3_h h ha
  simp only [Bool.and_eq_true] at h1
  refine ⟨fun b hb => ?_, Nat.le_of_ble_eq_true h1.2⟩
  have h2 := all3_h h1.1 hb
  simp only [Bool.and_eq_true] at h2
  exact ⟨Nat.le_of_ble_eq_true h2.1, Nat.le_of_ble_eq_true h2.2⟩
theorem rd_fin {x : Int} (h : -2 ≤ x ∧ x ≤ 2) : ∃ a : Fin 5, (a.val : Int) - 2 = x := ⟨⟨(x + 2).toNat, by omega⟩, by show ((x + 2).toNat : Int) - 2 = x; omega⟩
theorem rd0_I (m : Nat → Int) : rdI m (rd0 m) := by
  refine ⟨fun a b ha hb => ?_, fun a b ha hb => ?_, fun v hv => ?_⟩
  · rcases (show a = 0 ∨ a = 1 ∨ a = 2 by omega) with rfl | rfl | rfl <;> rcases (show b = 0 ∨ b = 1 ∨ b = 2 by omega) with rfl | rfl | rfl <;> rfl
  · rcases (show a = 0 ∨ a = 1 ∨ a = 2 by omega) with rfl | rfl | rfl <;> rcases (show b = 0 ∨ b = 1 ∨ b = 2 by omega) with rfl | rfl | rfl <;> rfl
  · rcases (show v = 0 ∨ v = 1 ∨ v = 2 by omega) with rfl | rfl | rfl
    · show m 0 * 1 + m 1 * 0 + m 2 * 0 = m 0 ∧ m 3 * 1 + m 4 * 0 + m 5 * 0 = m 3; omega
    · show m 0 * 0 + m 1 * 1 + m 2 * 0 = m 1 ∧ m 3 * 0 + m 4 * 1 + m 5 * 0 = m 4; omega
    · show m 0 * 0 + m 1 * 0 + m 2 * 1 = m 2 ∧ m 3 * 0 + m 4 * 0 + m 5 * 1 = m 5; omega
section
variable {m : Nat → Int}
theorem rd1_0 (hm : ∀ j, j < 6 → -2 ≤ m j ∧ m j ≤ 2) : rd1 m 1 0 = 0 := eu_end (by omega) (by omega) 8 _ (by have := hm 1 (by omega); show (m 1).natAbs ≤ 8; omega)
theorem rd1_b (hm : ∀ j, j < 6 → -2 ≤ m j ∧ m j ≤ 2) : (rd1 m 0 0).natAbs ≤ 2 := (eu_rb (r := 0) (k := 0) (o := 1) (B := 2) (by omega) (by omega) 8 (rd0 m) ⟨by have := hm 0 (by omega); show (m 0).natAbs ≤ 2; omega, by have := hm 1 (by omega); show (m 1).natAbs ≤ 2; omega⟩).1
theorem rd1_2 : rd1 m 2 0 = m 2 := by unfold rd1; rw [eu_t (by omega) (by omega)]; rfl
theorem rd2_20 (hm : ∀ j, j < 6 → -2 ≤ m j ∧ m j ≤ 2) : rd2 m 2 0 = 0 := eu_end (by omega) (by omega) 8 _ (by have := hm 2 (by omega); rw [rd1_2]; omega)
theorem rd2_10 (hm : ∀ j, j < 6 → -2 ≤ m j ∧ m j ≤ 2) : rd2 m 1 0 = 0 := by unfold rd2; rw [eu_t (by omega) (by omega)]; exact rd1_0 hm
theorem rd2_I : rdI m (rd2 m) := eu_I (by omega) (eu_I (by omega) (rd0_I m))
/-- toX and toZ after row 0 are small -/
theorem rd2_sm (hm : ∀ j, j < 6 → -2 ≤ m j ∧ m j ≤ 2) {a : Nat} (ha : a < 3) : (∀ b, b < 3 → (rd2 m a (2 + b)).natAbs ≤ 2 ∧ (rd2 m a (5 + b)).natAbs ≤ 2) ∧ (rd2 m a 2).natAbs + (rd2 m a 3).natAbs + (rd2 m a 4).natAbs ≤ 3 := by
  obtain ⟨a0, h0⟩ := rd_fin (hm 0 (by omega))
  obtain ⟨a1, h1⟩ := rd_fin (hm 1 (by omega))
  obtain ⟨a2, h2⟩ := rd_fin (hm 2 (by omega))
  have h := rdSm_h (rd_t1 a0 a1 a2) ha
  rw [h0, h1, h2] at h
  have e : ∀ j i, j < 3 → i ≠ 1 → rd2 m j i = rd2 (rdM (m 0) (m 1) (m 2) 0 0 0) j i := by
    refine eu_ig (by omega) (by omega) (by omega) 8 _ _ (eu_ig (by omega) (by omega) (by omega) 8 _ _ (fun j i hj hi => ?_))
    unfold rd0
    rw [if_neg hi, if_neg hi]
    rcases (show j = 0 ∨ j = 1 ∨ j = 2 by omega) with rfl | rfl | rfl <;> rfl
  refine ⟨fun b hb => ?_, ?_⟩
  · rw [e a (2 + b) ha (by omega), e a (5 + b) ha (by omega)]; exact h.1 b hb
  · rw [e a 2 ha (by omega), e a 3 ha (by omega), e a 4 ha (by omega)]; exact h.2
theorem rd2_r1 (hm : ∀ j, j < 6 → -2 ≤ m j ∧ m j ≤ 2) {v : Nat} (hv : v < 3) : (rd2 m v 1).natAbs ≤ 6 := by
  have h := ((rd2_I (m := m)).2.2 v hv).2
  have s := (rd2_sm hm hv).2
  have b : ∀ j x, j < 6 → (m j * x).natAbs ≤ 2 * x.natAbs := fun j x hj => by
    rw [Int.natAbs_mul]
    exact Nat.mul_le_mul_right _ (by have := hm j hj; omega)
  have b3 := b 3 (rd2 m v 2) (by omega)
  have b4 := b 4 (rd2 m v 3) (by omega)
  have b5 := b 5 (rd2 m v 4) (by omega)
  omega
def rdS (m : Nat → Int) (C : Nat → Nat → Int) : Prop := rdI m C ∧ (∀ a b, a < 3 → b < 3 → (C a (2 + b)).natAbs ≤ 24 ∧ (C a (5 + b)).natAbs ≤ 24) ∧ C 1 0 = 0 ∧ C 2 0 = 0 ∧ C 2 1 = 0 ∧ (C 0 0 = 0 → C 1 1 = 0) ∧
  ((C 0 0 ≠ 0 ∧ C 1 1 ≠ 0) ∨ ∀ a b, a < 3 → b < 3 → (C a (5 + b)).natAbs ≤ 8)
theorem rd_specA (hm : ∀ j, j < 6 → -2 ≤ m j ∧ m j ≤ 2) (h0 : rd2 m 0 0 ≠ 0) : rdS m (euR 1 1 2 8 (rd2 m)) := by
  have z1 : euR 1 1 2 8 (rd2 m) 0 = rd2 m 0 := eu_t (by omega) (by omega) 8 _
  have z2 := eu_zero (r := 1) (k := 1) (o := 2) (i := 0) (by omega) (by omega) 8 (rd2 m) ⟨rd2_10 hm, rd2_20 hm⟩
  have z3 : euR 1 1 2 8 (rd2 m) 2 1 = 0 := eu_end (by omega) (by omega) 8 _ (by have := rd2_r1 hm (v := 2) (by omega); omega)
  have bB : ∀ i, 2 ≤ i → i < 8 → (rd2 m 1 i).natAbs ≤ 2 → (rd2 m 2 i).natAbs ≤ 2 → euB 1 1 2 i 24 (euR 1 1 2 8 (rd2 m)) := by
    intro i h1 h2 h3 h4
    refine eu_bd (by omega) (by omega) ⟨⟨by omega, by omega⟩, ?_⟩
    have r1 := rd2_r1 hm (v := 1) (by omega)
    have r2 := rd2_r1 hm (v := 2) (by omega)
    have p1 := Nat.mul_le_mul h3 r2
    have p2 := Nat.mul_le_mul h4 r1
    have p3 := Nat.mul_le_mul h4 r2
    have p4 := Nat.mul_le_mul h3 r1
    split <;> omega
  have sm : ∀ a b, a < 3 → b < 3 → (rd2 m a (2 + b)).natAbs ≤ 2 ∧ (rd2 m a (5 + b)).natAbs ≤ 2 := fun a b ha hb => (rd2_sm hm ha).1 b hb
  refine ⟨eu_I (by omega) rd2_I, fun a b ha hb => ?_, z2.1, z2.2, z3, fun h => ?_, ?_⟩
  · have q1 := bB (2 + b) (by omega) (by omega) (sm 1 b (by omega) hb).1 (sm 2 b (by omega) hb).1
    have q2 := bB (5 + b) (by omega) (by omega) (sm 1 b (by omega) hb).2 (sm 2 b (by omega) hb).2
    rcases (show a = 0 ∨ a = 1 ∨ a = 2 by omega) with rfl | rfl | rfl
    · rw [z1]; have := sm 0 b (by omega) hb; omega
    · exact ⟨q1.1.1, q2.1.1⟩
    · exact ⟨q1.1.2, q2.1.2⟩
  · rw [z1] at h; exact absurd h h0
  · by_cases x : euR 1 1 2 8 (rd2 m) 1 1 = 0
    · right
      rw [eu_pz (by omega) x]
      intro a b ha hb
      have := (sm a b ha hb).2
      omega
    · left
      exact ⟨by rw [z1]; exact h0, x⟩
theorem rd_B0 (hm : ∀ j, j < 6 → -2 ≤ m j ∧ m j ≤ 2) (h0 : rd2 m 0 0 = 0) : rd2 m = rd0 m ∧ m 0 = 0 ∧ m 1 = 0 ∧ m 2 = 0 := by
  have e1 : rd2 m = rd1 m := eu_pz (by omega) h0
  have h1 : rd1 m 0 0 = 0 := by rw [← e1]; exact h0
  have e2 : rd1 m = rd0 m := eu_pz (by omega) h1
  have h2 : m 0 = 0 := by
    have : rd0 m 0 0 = 0 := by rw [← e2]; exact h1
    exact this
  have h3 : m 1 = 0 := by
    have : rd0 m 1 0 = 0 := by rw [← e2]; exact rd1_0 hm
    exact this
  have h4 : m 2 = 0 := by
    have : rd0 m 2 0 = 0 := by rw [← e2, ← e1]; exact rd2_20 hm
    exact this
  exact ⟨by rw [e1, e2], h2, h3, h4⟩
theorem rd_specB (hm : ∀ j, j < 6 → -2 ≤ m j ∧ m j ≤ 2) (h0 : rd2 m 0 0 = 0) : rdS m (euR 1 0 2 8 (rd3 m)) ∧ rd3 m 1 1 = 0 ∧ rd3 m 2 1 = m 5 ∧ (rd3 m 0 1).natAbs ≤ 2 := by
  obtain ⟨e, h1, h2, h3⟩ := rd_B0 hm h0
  have m3 := hm 3 (by omega)
  have m4 := hm 4 (by omega)
  have m5 := hm 5 (by omega)
  have e3 : rd3 m = euR 1 0 1 8 (rd0 m) := by unfold rd3; rw [e]
  have w1 : rd3 m 1 1 = 0 := by rw [e3]; exact eu_end (by omega) (by omega) 8 _ (by show (m 4).natAbs ≤ 8; omega)
  have w2 : rd3 m 2 1 = m 5 := by rw [e3, eu_t (by omega) (by omega)]; rfl
  have w3 : (rd3 m 0 1).natAbs ≤ 2 := by
    rw [e3]
    exact (eu_rb (r := 1) (k := 0) (o := 1) (B := 2) (by omega) (by omega) 8 (rd0 m) ⟨by show (m 3).natAbs ≤ 2; omega, by show (m 4).natAbs ≤ 2; omega⟩).1
  have z1 := eu_zero (r := 1) (k := 0) (o := 1) (i := 0) (by omega) (by omega) 8 (rd0 m) ⟨h1, h2⟩
  rw [← e3] at z1
  have z2 : rd3 m 2 0 = 0 := by rw [e3, eu_t (by omega) (by omega)]; exact h3
  have z3 := eu_zero (r := 1) (k := 0) (o := 2) (i := 0) (by omega) (by omega) 8 (rd3 m) ⟨z1.1, z2⟩
  have z4 : euR 1 0 2 8 (rd3 m) 1 = rd3 m 1 := eu_t (by omega) (by omega) 8 _
  obtain ⟨a0, q0⟩ := rd_fin m3
  obtain ⟨a1, q1⟩ := rd_fin m4
  obtain ⟨a2, q2⟩ := rd_fin m5
  have ht := rd_t2 a0 a1 a2
  rw [q0, q1, q2] at ht
  have ee : ∀ j i, j < 3 → i ≠ 9 → euR 1 0 2 8 (rd3 m) j i = euR 1 0 2 8 (euR 1 0 1 8 (rd0 (rdM 0 0 0 (m 3) (m 4) (m 5)))) j i := by
    rw [e3]
    refine eu_ig (by omega) (by omega) (by omega) 8 _ _ (eu_ig (by omega) (by omega) (by omega) 8 _ _ (fun j i hj hi => ?_))
    unfold rd0
    rcases (show j = 0 ∨ j = 1 ∨ j = 2 by omega) with rfl | rfl | rfl
    · rw [h1]; rfl
    · rw [h2]; rfl
    · rw [h3]; rfl
  have sm : ∀ a b, a < 3 → b < 3 → (euR 1 0 2 8 (rd3 m) a (2 + b)).natAbs ≤ 2 ∧ (euR 1 0 2 8 (rd3 m) a (5 + b)).natAbs ≤ 2 := fun a b ha hb => by
    rw [ee a (2 + b) ha (by omega), ee a (5 + b) ha (by omega)]
    exact (rdSm_h ht ha).1 b hb
  refine ⟨⟨eu_I (by omega) (by rw [e3]; exact eu_I (by omega) (rd0_I m)), fun a b ha hb => ?_, ?_, z3.2, ?_, fun _ => ?_, Or.inr (fun a b ha hb => ?_)⟩, w1, w2, w3⟩
  · have := sm a b ha hb; omega
  · rw [z4]; exact z1.2
  · exact eu_end (by omega) (by omega) 8 _ (by rw [w2]; omega)
  · rw [z4]; exact w1
  · have := sm a b ha hb; omega
theorem rd_spec (hm : ∀ j, j < 6 → -2 ≤ m j ∧ m j ≤ 2) : rdS m (rdF m) := by
  unfold rdF
  by_cases h : rd2 m 0 0 = 0
  · rw [if_pos h]; exact (rd_specB hm h).1
  · rw [if_neg h]; exact rd_specA hm h
end
end
section
/-! reduceAccess: the walk -/
def rdA (ec tx tz : Nat → Int32) (C : Nat → Nat → Int) : Prop := ∀ j, j < 3 → (∀ r, r < 2 → ec (r * 3 + j) = zI (C j r)) ∧ (∀ r, r < 3 → tx (r * 3 + j) = zI (C j (2 + r))) ∧ (∀ c, c < 3 → tz (j * 3 + c) = zI (C j (5 + c)))
def euT (k o : Nat) (f : Int) (C : Nat → Nat → Int) : Nat → Nat → Int := fun j i =>
  if j = k then (if i < 5 then C k i - f * C o i else C k i) else if j = o then (if i < 5 then C o i else C o i + f * C k i) else C j i
def euW (k o : Nat) (C : Nat → Nat → Int) : Nat → Nat → Int := fun j => if j = k then C o else if j = o then C k else C j
theorem euW_T {k o : Nat} (h : o ≠ k) {f : Int} {C : Nat → Nat → Int} : euW k o (euT k o f C) = euS k o f C := by
  funext j i
  unfold euW euT euS
  by_cases x : j = k
  · rw [if_pos x, if_pos x, if_neg h, if_pos rfl]
  · rw [if_neg x, if_neg x]
    by_cases y : j = o
    · rw [if_pos y, if_pos y, if_pos rfl]
    · rw [if_neg y, if_neg y, if_neg x, if_neg y]
theorem ix3 {r j k i : Nat} (hj : j < 3) (hk : k < 3) : r * 3 + j = i * 3 + k ↔ r = i ∧ j = k := by omega
section
variable {f_depth f_side f_arraySide f_statements f_sealed f_points f_distanceCount f_bandFirst f_bandCount f_bandSize f_accepted f_blamed f_prefixLength f_tunedFresh f_scanAt f_scanFirst f_scanCount f_scanSize f_scanPins : Int32} {f_rangeLow f_rangeHigh : Int64} {a_limits a_ops a_factors a_given a_subs a_pointX a_numberAt a_cells a_seen a_distances a_matrix a_prefix a_prefixFrom a_prefixTo a_tunedOrder a_tunedKey a_toX a_toZ a_sysCount a_hullLow a_hullHigh a_cursor a_limit a_pin a_echelon a_pivot : Nat → Int32} {a_sysCoef a_sysBound a_cand a_spanLow a_spanHigh : Nat → Int64}
theorem xr_sub {post : SX → Prop} {k o : Nat} {f : Int} {C : Nat → Nat → Int} (hk : k < 3) (ho : o < 3) (hko : o ≠ k) (hA : rdA a_echelon a_toX a_toZ C)
    (K : ∀ ec tx tz : Nat → Int32, rdA ec tx tz (euT k o f C) → post (f_depth, f_side, f_arraySide, f_statements, f_sealed, f_points, f_distanceCount, f_bandFirst, f_bandCount, f_bandSize, f_accepted, f_blamed, f_prefixLength, f_tunedFresh, f_rangeLow, f_rangeHigh, f_scanAt, f_scanFirst, f_scanCount, f_scanSize, f_scanPins, a_limits, a_ops, a_factors, a_given, a_subs, a_pointX, a_numberAt, a_cells, a_seen, a_distances, a_matrix, a_prefix, a_prefixFrom, a_prefixTo, a_tunedOrder, a_tunedKey, tx, tz, a_sysCoef, a_sysBound, a_sysCount, a_cand, a_hullLow, a_hullHigh, a_spanLow, a_spanHigh, a_cursor, a_limit, a_pin, ec, a_pivot)) : wpX_subtractColumn post (f_depth, f_side, f_arraySide, f_statements, f_sealed, f_points, f_distanceCount, f_bandFirst, f_bandCount, f_bandSize, f_accepted, f_blamed, f_prefixLength, f_tunedFresh, f_rangeLow, f_rangeHigh, f_scanAt, f_scanFirst, f_scanCount, f_scanSize, f_scanPins, a_limits, a_ops, a_factors, a_given, a_subs, a_pointX, a_numberAt, a_cells, a_seen, a_distances, a_matrix, a_prefix, a_prefixFrom, a_prefixTo, a_tunedOrder, a_tunedKey, a_toX, a_toZ, a_sysCoef, a_sysBound, a_sysCount, a_cand, a_hullLow, a_hullHigh, a_spanLow, a_spanHigh, a_cursor, a_limit, a_pin, a_echelon, a_pivot) (nI k) (nI o) (zI f) := by
  have l87 : ∀ ec tx : Nat → Int32, (∀ j, j < 3 → (∀ r, r < 2 → ec (r * 3 + j) = zI (euT k o f C j r)) ∧ (∀ r, r < 3 → tx (r * 3 + j) = zI (euT k o f C j (2 + r)))) →
      ∃ n87 : Nat, wX_subtractColumn_87 post (nI k) (nI o) (zI f) f_depth f_side f_arraySide f_statements f_sealed f_points f_distanceCount f_bandFirst f_bandCount f_bandSize f_accepted f_blamed f_prefixLength f_tunedFresh f_rangeLow f_rangeHigh f_scanAt f_scanFirst f_scanCount f_scanSize f_scanPins n87 0 a_limits a_ops a_factors a_given a_subs a_pointX a_numberAt a_cells a_seen a_distances a_matrix a_prefix a_prefixFrom a_prefixTo a_tunedOrder a_tunedKey tx a_toZ a_sysCoef a_sysBound a_sysCount a_cand a_hullLow a_hullHigh a_spanLow a_spanHigh a_cursor a_limit a_pin ec a_pivot := by
    intro ec tx h1
    refine loop_0 (fun n i s => wX_subtractColumn_87 post (nI k) (nI o) (zI f) f_depth f_side f_arraySide f_statements f_sealed f_points f_distanceCount f_bandFirst f_bandCount f_bandSize f_accepted f_blamed f_prefixLength f_tunedFresh f_rangeLow f_rangeHigh f_scanAt f_scanFirst f_scanCount f_scanSize f_scanPins n (nI i) a_limits a_ops a_factors a_given a_subs a_pointX a_numberAt a_cells a_seen a_distances a_matrix a_prefix a_prefixFrom a_prefixTo a_tunedOrder a_tunedKey tx s a_sysCoef a_sysBound a_sysCount a_cand a_hullLow a_hullHigh a_spanLow a_spanHigh a_cursor a_limit a_pin ec a_pivot)
      (fun i s => ∀ j c, j < 3 → c < 3 → s (j * 3 + c) = zI (if c < i then euT k o f C j (5 + c) else C j (5 + c))) 3 a_toZ (fun j c hj hc => by rw [if_neg (by omega)]; exact (hA j hj).2.2 c hc) ?_ ?_
    · intro n s hs
      exact br_t (by decide) (K ec tx s (fun j hj => ⟨(h1 j hj).1, (h1 j hj).2, fun c hc => by rw [hs j c hj hc, if_pos hc]⟩))
    · intro n i s hi hs hK
      have e1 : nI o * 3 + nI i = nI (o * 3 + i) := by rw [nx_m3, nI_add]
      have e2 : nI k * 3 + nI i = nI (k * 3 + i) := by rw [nx_m3, nI_add]
      have c1 : (nI o * 3 + nI i).toNatClampNeg = o * 3 + i := cx_n _ e1 (by omega)
      have c2 : (nI k * 3 + nI i).toNatClampNeg = k * 3 + i := cx_n _ e2 (by omega)
      refine br_f (nI_ge (b := 3) hi (by omega)) ⟨vx_n _ e1 (by omega) (by omega), vx_n _ e2 (by omega) (by omega), vx_n _ e1 (by omega) (by omega), nm_r (e' := upd s (o * 3 + i) (zI (C o (5 + i) + f * C k (5 + i)))) ?_ (nm_r (nI_1 i) (hK _ ?_))⟩
      · rw [c1, c2, hs o i ho hi, hs k i hk hi, if_neg (by omega), if_neg (by omega), zI_mul, zI_add]
      · intro j c hj hc
        by_cases x : j = o ∧ c = i
        · obtain ⟨rfl, rfl⟩ := x
          rw [pk_us, if_pos (by omega)]
          unfold euT
          rw [if_neg hko, if_pos rfl, if_neg (by omega)]
        · rw [pk_un (by omega), hs j c hj hc]
          by_cases y : c = i
          · subst y
            rw [if_neg (by omega), if_pos (by omega)]
            unfold euT
            rw [if_neg (show ¬ 5 + c < 5 by omega), if_neg (show ¬ 5 + c < 5 by omega)]
            split
            · rename_i z; rw [z]
            · rw [if_neg (fun z => x ⟨z, rfl⟩)]
          · by_cases z : c < i
            · rw [if_pos z, if_pos (by omega)]
            · rw [if_neg z, if_neg (by omega)]
  have l45 : ∀ ec : Nat → Int32, (∀ j, j < 3 → (∀ r, r < 2 → ec (r * 3 + j) = zI (euT k o f C j r))) →
      ∃ n45 : Nat, wX_subtractColumn_45 post (nI k) (nI o) (zI f) f_depth f_side f_arraySide f_statements f_sealed f_points f_distanceCount f_bandFirst f_bandCount f_bandSize f_accepted f_blamed f_prefixLength f_tunedFresh f_rangeLow f_rangeHigh f_scanAt f_scanFirst f_scanCount f_scanSize f_scanPins n45 0 a_limits a_ops a_factors a_given a_subs a_pointX a_numberAt a_cells a_seen a_distances a_matrix a_prefix a_prefixFrom a_prefixTo a_tunedOrder a_tunedKey a_toX a_toZ a_sysCoef a_sysBound a_sysCount a_cand a_hullLow a_hullHigh a_spanLow a_spanHigh a_cursor a_limit a_pin ec a_pivot := by
    intro ec h1
    refine loop_0 (fun n i s => wX_subtractColumn_45 post (nI k) (nI o) (zI f) f_depth f_side f_arraySide f_statements f_sealed f_points f_distanceCount f_bandFirst f_bandCount f_bandSize f_accepted f_blamed f_prefixLength f_tunedFresh f_rangeLow f_rangeHigh f_scanAt f_scanFirst f_scanCount f_scanSize f_scanPins n (nI i) a_limits a_ops a_factors a_given a_subs a_pointX a_numberAt a_cells a_seen a_distances a_matrix a_prefix a_prefixFrom a_prefixTo a_tunedOrder a_tunedKey s a_toZ a_sysCoef a_sysBound a_sysCount a_cand a_hullLow a_hullHigh a_spanLow a_spanHigh a_cursor a_limit a_pin ec a_pivot)
      (fun i s => ∀ j r, j < 3 → r < 3 → s (r * 3 + j) = zI (if r < i then euT k o f C j (2 + r) else C j (2 + r))) 3 a_toX (fun j r hj hr => by rw [if_neg (by omega)]; exact (hA j hj).2.1 r hr) ?_ ?_
    · intro n s hs
      exact br_t (by decide) (l87 ec s (fun j hj => ⟨h1 j hj, fun r hr => by rw [hs j r hj hr, if_pos hr]⟩))
    · intro n i s hi hs hK
      have e1 : nI i * 3 + nI k = nI (i * 3 + k) := by rw [nx_m3, nI_add]
      have e2 : nI i * 3 + nI o = nI (i * 3 + o) := by rw [nx_m3, nI_add]
      have c1 : (nI i * 3 + nI k).toNatClampNeg = i * 3 + k := cx_n _ e1 (by omega)
      have c2 : (nI i * 3 + nI o).toNatClampNeg = i * 3 + o := cx_n _ e2 (by omega)
      refine br_f (nI_ge (b := 3) hi (by omega)) ⟨vx_n _ e1 (by omega) (by omega), vx_n _ e2 (by omega) (by omega), vx_n _ e1 (by omega) (by omega), nm_r (e' := upd s (i * 3 + k) (zI (C k (2 + i) - f * C o (2 + i)))) ?_ (nm_r (nI_1 i) (hK _ ?_))⟩
      · rw [c1, c2, hs k i hk hi, hs o i ho hi, if_neg (by omega), if_neg (by omega), zI_mul, zI_sub]
      · intro j r hj hr
        by_cases x : j = k ∧ r = i
        · obtain ⟨rfl, rfl⟩ := x
          rw [pk_us, if_pos (by omega)]
          unfold euT
          rw [if_pos rfl, if_pos (by omega)]
        · rw [pk_un (by omega), hs j r hj hr]
          by_cases y : r = i
          · subst y
            rw [if_neg (by omega), if_pos (by omega)]
            unfold euT
            rw [if_neg (fun z => x ⟨z, rfl⟩), if_pos (show 2 + r < 5 by omega)]
            split
            · rename_i z; rw [z]
            · rfl
          · by_cases z : r < i
            · rw [if_pos z, if_pos (by omega)]
            · rw [if_neg z, if_neg (by omega)]
  refine loop_0 (fun n i s => wX_subtractColumn_3 post (nI k) (nI o) (zI f) f_depth f_side f_arraySide f_statements f_sealed f_points f_distanceCount f_bandFirst f_bandCount f_bandSize f_accepted f_blamed f_prefixLength f_tunedFresh f_rangeLow f_rangeHigh f_scanAt f_scanFirst f_scanCount f_scanSize f_scanPins n (nI i) a_limits a_ops a_factors a_given a_subs a_pointX a_numberAt a_cells a_seen a_distances a_matrix a_prefix a_prefixFrom a_prefixTo a_tunedOrder a_tunedKey a_toX a_toZ a_sysCoef a_sysBound a_sysCount a_cand a_hullLow a_hullHigh a_spanLow a_spanHigh a_cursor a_limit a_pin s a_pivot)
    (fun i s => ∀ j r, j < 3 → r < 2 → s (r * 3 + j) = zI (if r < i then euT k o f C j r else C j r)) 2 a_echelon (fun j r hj hr => by rw [if_neg (by omega)]; exact (hA j hj).1 r hr) ?_ ?_
  · intro n s hs
    exact br_t (by decide) (l45 s (fun j hj r hr => by rw [hs j r hj hr, if_pos hr]))
  · intro n i s hi hs hK
    have e1 : nI i * 3 + nI k = nI (i * 3 + k) := by rw [nx_m3, nI_add]
    have e2 : nI i * 3 + nI o = nI (i * 3 + o) := by rw [nx_m3, nI_add]
    have c1 : (nI i * 3 + nI k).toNatClampNeg = i * 3 + k := cx_n _ e1 (by omega)
    have c2 : (nI i * 3 + nI o).toNatClampNeg = i * 3 + o := cx_n _ e2 (by omega)
    refine br_f (nI_ge (b := 2) hi (by omega)) ⟨vx_n _ e1 (by omega) (by omega), vx_n _ e2 (by omega) (by omega), vx_n _ e1 (by omega) (by omega), nm_r (e' := upd s (i * 3 + k) (zI (C k i - f * C o i))) ?_ (nm_r (nI_1 i) (hK _ ?_))⟩
    · rw [c1, c2, hs k i hk hi, hs o i ho hi, if_neg (by omega), if_neg (by omega), zI_mul, zI_sub]
    · intro j r hj hr
      by_cases x : j = k ∧ r = i
      · obtain ⟨rfl, rfl⟩ := x
        rw [pk_us, if_pos (by omega)]
        unfold euT
        rw [if_pos rfl, if_pos (by omega)]
      · rw [pk_un (by omega), hs j r hj hr]
        by_cases y : r = i
        · subst y
          rw [if_neg (by omega), if_pos (by omega)]
          unfold euT
          rw [if_neg (fun z => x ⟨z, rfl⟩), if_pos (show r < 5 by omega)]
          split
          · rename_i z; rw [z]
          · rfl
        · by_cases z : r < i
          · rw [if_pos z, if_pos (by omega)]
          · rw [if_neg z, if_neg (by omega)]
theorem xr_swap {post : SX → Prop} {k o : Nat} {C : Nat → Nat → Int} (hk : k < 3) (ho : o < 3) (hko : o ≠ k) (hA : rdA a_echelon a_toX a_toZ C)
    (K : ∀ ec tx tz : Nat → Int32, rdA ec tx tz (euW k o C) → post (f_depth, f_side, f_arraySide, f_statements, f_sealed, f_points, f_distanceCount, f_bandFirst, f_bandCount, f_bandSize, f_accepted, f_blamed, f_prefixLength, f_tunedFresh, f_rangeLow, f_rangeHigh, f_scanAt, f_scanFirst, f_scanCount, f_scanSize, f_scanPins, a_limits, a_ops, a_factors, a_given, a_subs, a_pointX, a_numberAt, a_cells, a_seen, a_distances, a_matrix, a_prefix, a_prefixFrom, a_prefixTo, a_tunedOrder, a_tunedKey, tx, tz, a_sysCoef, a_sysBound, a_sysCount, a_cand, a_hullLow, a_hullHigh, a_spanLow, a_spanHigh, a_cursor, a_limit, a_pin, ec, a_pivot)) : wpX_swapColumns post (f_depth, f_side, f_arraySide, f_statements, f_sealed, f_points, f_distanceCount, f_bandFirst, f_bandCount, f_bandSize, f_accepted, f_blamed, f_prefixLength, f_tunedFresh, f_rangeLow, f_rangeHigh, f_scanAt, f_scanFirst, f_scanCount, f_scanSize, f_scanPins, a_limits, a_ops, a_factors, a_given, a_subs, a_pointX, a_numberAt, a_cells, a_seen, a_distances, a_matrix, a_prefix, a_prefixFrom, a_prefixTo, a_tunedOrder, a_tunedKey, a_toX, a_toZ, a_sysCoef, a_sysBound, a_sysCount, a_cand, a_hullLow, a_hullHigh, a_spanLow, a_spanHigh, a_cursor, a_limit, a_pin, a_echelon, a_pivot) (nI k) (nI o) := by
  have wk : ∀ i, euW k o C k i = C o i := fun i => by unfold euW; rw [if_pos rfl]
  have wo : ∀ i, euW k o C o i = C k i := fun i => by unfold euW; rw [if_neg hko, if_pos rfl]
  have wt : ∀ j i, j ≠ k → j ≠ o → euW k o C j i = C j i := fun j i h1 h2 => by unfold euW; rw [if_neg h1, if_neg h2]
  have l59 : ∀ ec : Nat → Int32, (∀ j, j < 3 → (∀ r, r < 2 → ec (r * 3 + j) = zI (euW k o C j r))) →
      ∃ n59 : Nat, wX_swapColumns_59 post (nI k) (nI o) f_depth f_side f_arraySide f_statements f_sealed f_points f_distanceCount f_bandFirst f_bandCount f_bandSize f_accepted f_blamed f_prefixLength f_tunedFresh f_rangeLow f_rangeHigh f_scanAt f_scanFirst f_scanCount f_scanSize f_scanPins n59 0 a_limits a_ops a_factors a_given a_subs a_pointX a_numberAt a_cells a_seen a_distances a_matrix a_prefix a_prefixFrom a_prefixTo a_tunedOrder a_tunedKey a_toX a_toZ a_sysCoef a_sysBound a_sysCount a_cand a_hullLow a_hullHigh a_spanLow a_spanHigh a_cursor a_limit a_pin ec a_pivot := by
    intro ec h1
    refine loop_0 (fun n i (s : (Nat → Int32) × (Nat → Int32)) => wX_swapColumns_59 post (nI k) (nI o) f_depth f_side f_arraySide f_statements f_sealed f_points f_distanceCount f_bandFirst f_bandCount f_bandSize f_accepted f_blamed f_prefixLength f_tunedFresh f_rangeLow f_rangeHigh f_scanAt f_scanFirst f_scanCount f_scanSize f_scanPins n (nI i) a_limits a_ops a_factors a_given a_subs a_pointX a_numberAt a_cells a_seen a_distances a_matrix a_prefix a_prefixFrom a_prefixTo a_tunedOrder a_tunedKey s.1 s.2 a_sysCoef a_sysBound a_sysCount a_cand a_hullLow a_hullHigh a_spanLow a_spanHigh a_cursor a_limit a_pin ec a_pivot)
      (fun i s => ∀ j r, j < 3 → r < 3 → s.1 (r * 3 + j) = zI (if r < i then euW k o C j (2 + r) else C j (2 + r)) ∧ s.2 (j * 3 + r) = zI (if r < i then euW k o C j (5 + r) else C j (5 + r))) 3 (a_toX, a_toZ)
      (fun j r hj hr => by rw [if_neg (by omega), if_neg (by omega)]; exact ⟨(hA j hj).2.1 r hr, (hA j hj).2.2 r hr⟩) ?_ ?_
    · intro n s hs
      exact br_t (by decide) (K ec s.1 s.2 (fun j hj => ⟨h1 j hj, fun r hr => by rw [(hs j r hj hr).1, if_pos hr], fun r hr => by rw [(hs j r hj hr).2, if_pos hr]⟩))
    · intro n i s hi hs hK
      obtain ⟨tx, tz⟩ := s
      have e1 : nI i * 3 + nI k = nI (i * 3 + k) := by rw [nx_m3, nI_add]
      have e2 : nI i * 3 + nI o = nI (i * 3 + o) := by rw [nx_m3, nI_add]
      have c1 : (nI i * 3 + nI k).toNatClampNeg = i * 3 + k := cx_n _ e1 (by omega)
      have c2 : (nI i * 3 + nI o).toNatClampNeg = i * 3 + o := cx_n _ e2 (by omega)
      have e3 : nI k * 3 + nI i = nI (k * 3 + i) := by rw [nx_m3, nI_add]
      have e4 : nI o * 3 + nI i = nI (o * 3 + i) := by rw [nx_m3, nI_add]
      have c3 : (nI k * 3 + nI i).toNatClampNeg = k * 3 + i := cx_n _ e3 (by omega)
      have c4 : (nI o * 3 + nI i).toNatClampNeg = o * 3 + i := cx_n _ e4 (by omega)
      have sk := hs k i hk hi
      have so := hs o i ho hi
      rw [if_neg (by omega), if_neg (by omega)] at sk so
      show wX_swapColumns_59 post (nI k) (nI o) f_depth f_side f_arraySide f_statements f_sealed f_points f_distanceCount f_bandFirst f_bandCount f_bandSize f_accepted f_blamed f_prefixLength f_tunedFresh f_rangeLow f_rangeHigh f_scanAt f_scanFirst f_scanCount f_scanSize f_scanPins (n + 1) (nI i) a_limits a_ops a_factors a_given a_subs a_pointX a_numberAt a_cells a_seen a_distances a_matrix a_prefix a_prefixFrom a_prefixTo a_tunedOrder a_tunedKey tx tz a_sysCoef a_sysBound a_sysCount a_cand a_hullLow a_hullHigh a_spanLow a_spanHigh a_cursor a_limit a_pin ec a_pivot
      refine br_f (nI_ge (b := 3) hi (by omega)) ⟨vx_n _ e1 (by omega) (by omega), nm_r (e' := zI (C k (2 + i))) (by rw [c1]; exact sk.1) ⟨vx_n _ e2 (by omega) (by omega), vx_n _ e1 (by omega) (by omega), nm_r (e' := upd tx (i * 3 + k) (zI (C o (2 + i)))) (by rw [c1, c2]; exact congrArg _ so.1) ⟨vx_n _ e2 (by omega) (by omega), nm_r (e' := upd (upd tx (i * 3 + k) (zI (C o (2 + i)))) (i * 3 + o) (zI (C k (2 + i)))) (by rw [c2])
        ⟨vx_n _ e3 (by omega) (by omega), nm_r (e' := zI (C k (5 + i))) (by rw [c3]; exact sk.2) ⟨vx_n _ e4 (by omega) (by omega), vx_n _ e3 (by omega) (by omega), nm_r (e' := upd tz (k * 3 + i) (zI (C o (5 + i)))) (by rw [c3, c4]; exact congrArg _ so.2) ⟨vx_n _ e4 (by omega) (by omega), nm_r (e' := upd (upd tz (k * 3 + i) (zI (C o (5 + i)))) (o * 3 + i) (zI (C k (5 + i)))) (by rw [c4]) (nm_r (nI_1 i) (hK (upd (upd tx (i * 3 + k) (zI (C o (2 + i)))) (i * 3 + o) (zI (C k (2 + i))), upd (upd tz (k * 3 + i) (zI (C o (5 + i)))) (o * 3 + i) (zI (C k (5 + i)))) ?_))⟩⟩⟩⟩⟩⟩
      intro j r hj hr
      have hjr := hs j r hj hr
      dsimp only at hjr ⊢
      by_cases y : r = i
      · subst y
        rw [if_pos (by omega), if_pos (by omega)]
        by_cases x : j = o
        · subst x; rw [pk_us, pk_us, wo, wo]; exact ⟨rfl, rfl⟩
        · by_cases z : j = k
          · subst z; rw [pk_un (by omega), pk_us, pk_un (by omega), pk_us, wk, wk]; exact ⟨rfl, rfl⟩
          · rw [pk_un (by omega), pk_un (by omega), pk_un (by omega), pk_un (by omega), wt j _ z x, wt j _ z x]
            rw [if_neg (by omega), if_neg (by omega)] at hjr
            exact hjr
      · rw [pk_un (by omega), pk_un (by omega), pk_un (by omega), pk_un (by omega)]
        by_cases z : r < i
        · rw [if_pos (by omega), if_pos (by omega)]
          rw [if_pos z, if_pos z] at hjr
          exact hjr
        · rw [if_neg (by omega), if_neg (by omega)]
          rw [if_neg z, if_neg z] at hjr
          exact hjr
  refine loop_0 (fun n i s => wX_swapColumns_2 post (nI k) (nI o) f_depth f_side f_arraySide f_statements f_sealed f_points f_distanceCount f_bandFirst f_bandCount f_bandSize f_accepted f_blamed f_prefixLength f_tunedFresh f_rangeLow f_rangeHigh f_scanAt f_scanFirst f_scanCount f_scanSize f_scanPins n (nI i) a_limits a_ops a_factors a_given a_subs a_pointX a_numberAt a_cells a_seen a_distances a_matrix a_prefix a_prefixFrom a_prefixTo a_tunedOrder a_tunedKey a_toX a_toZ a_sysCoef a_sysBound a_sysCount a_cand a_hullLow a_hullHigh a_spanLow a_spanHigh a_cursor a_limit a_pin s a_pivot)
    (fun i s => ∀ j r, j < 3 → r < 2 → s (r * 3 + j) = zI (if r < i then euW k o C j r else C j r)) 2 a_echelon (fun j r hj hr => by rw [if_neg (by omega)]; exact (hA j hj).1 r hr) ?_ ?_
  · intro n s hs
    exact br_t (by decide) (l59 s (fun j hj r hr => by rw [hs j r hj hr, if_pos hr]))
  · intro n i s hi hs hK
    have e1 : nI i * 3 + nI k = nI (i * 3 + k) := by rw [nx_m3, nI_add]
    have e2 : nI i * 3 + nI o = nI (i * 3 + o) := by rw [nx_m3, nI_add]
    have c1 : (nI i * 3 + nI k).toNatClampNeg = i * 3 + k := cx_n _ e1 (by omega)
    have c2 : (nI i * 3 + nI o).toNatClampNeg = i * 3 + o := cx_n _ e2 (by omega)
    have sk := hs k i hk hi
    have so := hs o i ho hi
    rw [if_neg (by omega)] at sk so
    refine br_f (nI_ge (b := 2) hi (by omega)) ⟨vx_n _ e1 (by omega) (by omega), nm_r (e' := zI (C k i)) (by rw [c1]; exact sk) ⟨vx_n _ e2 (by omega) (by omega), vx_n _ e1 (by omega) (by omega), nm_r (e' := upd s (i * 3 + k) (zI (C o i))) (by rw [c1, c2]; exact congrArg _ so) ⟨vx_n _ e2 (by omega) (by omega), nm_r (e' := upd (upd s (i * 3 + k) (zI (C o i))) (i * 3 + o) (zI (C k i))) (by rw [c2]) (nm_r (nI_1 i) (hK _ ?_))⟩⟩⟩
    intro j r hj hr
    have hjr := hs j r hj hr
    by_cases y : r = i
    · subst y
      rw [if_pos (by omega)]
      by_cases x : j = o
      · subst x; rw [pk_us, wo]
      · by_cases z : j = k
        · subst z; rw [pk_un (by omega), pk_us, wk]
        · rw [pk_un (by omega), pk_un (by omega), wt j _ z x]
          rw [if_neg (by omega)] at hjr
          exact hjr
    · rw [pk_un (by omega), pk_un (by omega)]
      by_cases z : r < i
      · rw [if_pos (by omega)]
        rw [if_pos z] at hjr
        exact hjr
      · rw [if_neg (by omega)]
        rw [if_neg z] at hjr
        exact hjr
theorem xr_clear {post : SX → Prop} {r k o : Nat} (hr : r < 2) (hk : k < 3) (ho : o < 3) (hko : o ≠ k) : ∀ (fu s n : Nat) (C : Nat → Nat → Int) (ec tx tz : Nat → Int32), rdA ec tx tz C → ((C k r).natAbs ≤ 100 ∧ (C o r).natAbs ≤ 100) →
    euR r k o fu C o r = 0 → s + fu ≤ 32 → fu < n → (∀ ec tx tz : Nat → Int32, rdA ec tx tz (euR r k o fu C) → post (f_depth, f_side, f_arraySide, f_statements, f_sealed, f_points, f_distanceCount, f_bandFirst, f_bandCount, f_bandSize, f_accepted, f_blamed, f_prefixLength, f_tunedFresh, f_rangeLow, f_rangeHigh, f_scanAt, f_scanFirst, f_scanCount, f_scanSize, f_scanPins, a_limits, a_ops, a_factors, a_given, a_subs, a_pointX, a_numberAt, a_cells, a_seen, a_distances, a_matrix, a_prefix, a_prefixFrom, a_prefixTo, a_tunedOrder, a_tunedKey, tx, tz, a_sysCoef, a_sysBound, a_sysCount, a_cand, a_hullLow, a_hullHigh, a_spanLow, a_spanHigh, a_cursor, a_limit, a_pin, ec, a_pivot)) →
    wX_clearEntry_3 post (nI r) (nI k) (nI o) n (nI s) f_depth f_side f_arraySide f_statements f_sealed f_points f_distanceCount f_bandFirst f_bandCount f_bandSize f_accepted f_blamed f_prefixLength f_tunedFresh f_rangeLow f_rangeHigh f_scanAt f_scanFirst f_scanCount f_scanSize f_scanPins a_limits a_ops a_factors a_given a_subs a_pointX a_numberAt a_cells a_seen a_distances a_matrix a_prefix a_prefixFrom a_prefixTo a_tunedOrder a_tunedKey tx tz a_sysCoef a_sysBound a_sysCount a_cand a_hullLow a_hullHigh a_spanLow a_spanHigh a_cursor a_limit a_pin ec a_pivot := by
  intro fu
  induction fu with
  | zero =>
    intro s n C ec tx tz hA hb hz hs hn K
    obtain ⟨n, rfl⟩ : ∃ n', n = n' + 1 := ⟨n - 1, by omega⟩
    have e : nI r * 3 + nI o = nI (r * 3 + o) := by rw [nx_m3, nI_add]
    have c : (nI r * 3 + nI o).toNatClampNeg = r * 3 + o := cx_n _ e (by omega)
    refine br_c (fun _ => K _ _ _ hA) (fun _ => ⟨vx_n _ e (by omega) (by omega), br_t ?_ (K _ _ _ hA)⟩)
    rw [c, (hA o ho).1 r hr, show C o r = 0 from hz]; rfl
  | succ fu ih =>
    intro s n C ec tx tz hA hb hz hs hn K
    obtain ⟨n, rfl⟩ : ∃ n', n = n' + 1 := ⟨n - 1, by omega⟩
    have e : nI r * 3 + nI o = nI (r * 3 + o) := by rw [nx_m3, nI_add]
    have c : (nI r * 3 + nI o).toNatClampNeg = r * 3 + o := cx_n _ e (by omega)
    have e2 : nI r * 3 + nI k = nI (r * 3 + k) := by rw [nx_m3, nI_add]
    have c2 : (nI r * 3 + nI k).toNatClampNeg = r * 3 + k := cx_n _ e2 (by omega)
    have ro : ec (nI r * 3 + nI o).toNatClampNeg = zI (C o r) := by rw [c]; exact (hA o ho).1 r hr
    have rk : ec (nI r * 3 + nI k).toNatClampNeg = zI (C k r) := by rw [c2]; exact (hA k hk).1 r hr
    have h32 : ¬ (32 : Int32) ≤ nI s := nI_ge (b := 32) (by omega) (by omega)
    by_cases z : C o r = 0
    · rw [euR_z z] at K
      refine br_f h32 ⟨vx_n _ e (by omega) (by omega), br_t ?_ (K _ _ _ hA)⟩
      rw [ro, z]; rfl
    · have hne : ¬ ec (nI r * 3 + nI o).toNatClampNeg = 0 := by
        rw [ro, zI_0, zI_eq (by omega) (by omega) (by omega) (by omega)]; exact z
      rw [euR_s z] at hz K
      refine br_f h32 ⟨vx_n _ e (by omega) (by omega), br_f hne ⟨vx_n _ e2 (by omega) (by omega), vx_n _ e (by omega) (by omega), hne, nm_r (e' := zI ((C k r).tdiv (C o r))) (by rw [ro, rk]; exact zI_div (by omega) (by omega) (by omega) (by omega)) ?_⟩⟩
      refine xr_sub hk ho hko hA (fun ec1 tx1 tz1 hA1 => ?_)
      refine xr_swap hk ho hko hA1 (fun ec2 tx2 tz2 hA2 => nm_r (nI_1 s) ?_)
      rw [euW_T hko] at hA2
      refine ih (s + 1) n _ ec2 tx2 tz2 hA2 ?_ hz (by omega) (by omega) K
      refine ⟨by rw [euS_k (by omega)]; exact hb.2, ?_⟩
      rw [eu_rest hko (by omega) rfl, Int.natAbs_tmod]
      have := Nat.mod_lt (C k r).natAbs (show 0 < (C o r).natAbs by omega)
      omega
end
end
section
/-! reduceAccess: all of it -/
def pvt (x : Int) : Int32 := if x = 0 then 0 else 1
theorem pvt_0 {x : Int} (h : x = 0) : pvt x = 0 := if_pos h
theorem pvt_1 {x : Int} (h : x ≠ 0) : pvt x = 1 := if_neg h
section
variable {D : Nat} {f_side f_arraySide f_statements f_sealed f_points f_distanceCount f_bandFirst f_bandCount f_bandSize f_accepted f_blamed f_prefixLength f_tunedFresh f_scanAt f_scanFirst f_scanCount f_scanSize f_scanPins : Int32} {f_rangeLow f_rangeHigh : Int64} {a_limits a_ops a_factors a_given a_subs a_pointX a_numberAt a_cells a_seen a_distances a_matrix a_prefix a_prefixFrom a_prefixTo a_tunedOrder a_tunedKey a_toX a_toZ a_sysCount a_hullLow a_hullHigh a_cursor a_limit a_pin a_echelon a_pivot : Nat → Int32} {a_sysCoef a_sysBound a_cand a_spanLow a_spanHigh : Nat → Int64}
theorem xr_exit {post : SX → Prop} {n' : Nat} {k r n : Nat} {C : Nat → Nat → Int} {ec tx tz pv : Nat → Int32} (hD : D = 2 ∨ D = 3) (hk : k < 2) (hr : r < 2) (hA : rdA ec tx tz C) (hb : (C k r).natAbs ≤ 100) {v : Nat} (hv : D ≤ v) (hv' : v < 10)
    (K : wX_reduceAccess_98 post n' (nI (if C k r = 0 then k else k + 1)) (nI (r + 1)) (nI D) f_side f_arraySide f_statements f_sealed f_points f_distanceCount f_bandFirst f_bandCount f_bandSize f_accepted f_blamed f_prefixLength f_tunedFresh f_rangeLow f_rangeHigh f_scanAt f_scanFirst f_scanCount f_scanSize f_scanPins a_limits a_ops a_factors a_given a_subs a_pointX a_numberAt a_cells a_seen a_distances a_matrix a_prefix a_prefixFrom a_prefixTo a_tunedOrder a_tunedKey tx tz a_sysCoef a_sysBound a_sysCount a_cand a_hullLow a_hullHigh a_spanLow a_spanHigh a_cursor a_limit a_pin ec (upd pv r (pvt (C k r)))) :
    wX_reduceAccess_108 post (wX_reduceAccess_98 post n') (nI k) (nI r) (n + 1) (nI v) (nI D) f_side f_arraySide f_statements f_sealed f_points f_distanceCount f_bandFirst f_bandCount f_bandSize f_accepted f_blamed f_prefixLength f_tunedFresh f_rangeLow f_rangeHigh f_scanAt f_scanFirst f_scanCount f_scanSize f_scanPins a_limits a_ops a_factors a_given a_subs a_pointX a_numberAt a_cells a_seen a_distances a_matrix a_prefix a_prefixFrom a_prefixTo a_tunedOrder a_tunedKey tx tz a_sysCoef a_sysBound a_sysCount a_cand a_hullLow a_hullHigh a_spanLow a_spanHigh a_cursor a_limit a_pin ec pv := by
  have e : nI r * 3 + nI k = nI (r * 3 + k) := by rw [nx_m3, nI_add]
  have c : (nI r * 3 + nI k).toNatClampNeg = r * 3 + k := cx_n _ e (by omega)
  have re : ec (nI r * 3 + nI k).toNatClampNeg = zI (C k r) := by rw [c]; exact (hA k (by omega)).1 r hr
  have cr : (nI r).toNatClampNeg = r := nI_clamp (by omega)
  have hz : ec (nI r * 3 + nI k).toNatClampNeg = 0 ↔ C k r = 0 := by rw [re, zI_0, zI_eq (by omega) (by omega) (by omega) (by omega)]
  refine br_t (nI_le (by omega) (by omega)) ⟨vx_n _ e (by omega) (by omega), br_c (fun h => ?_) (fun h => ?_)⟩
  · have h' := hz.mp h
    rw [if_pos h', pvt_0 h'] at K
    refine ⟨vp_in_nI (by omega) (by omega), nm_r (e' := upd pv r 0) (by rw [cr]; rfl) ⟨vp_in_nI (by omega) (by omega), br_t (by rw [cr]; exact pk_us) (nm_r (nI_1 r) K)⟩⟩
  · have h' : C k r ≠ 0 := fun x => h (hz.mpr x)
    rw [if_neg h', pvt_1 h'] at K
    refine ⟨vp_in_nI (by omega) (by omega), nm_r (e' := upd pv r 1) (by rw [cr]; rfl) ⟨vp_in_nI (by omega) (by omega), br_f (by rw [cr, pk_us]; decide) (nm_r (nI_1 k) (nm_r (nI_1 r) K))⟩⟩
theorem xr_one {post : SX → Prop} {n' : Nat} {k o r n : Nat} {C : Nat → Nat → Int} {ec tx tz pv : Nat → Int32} (hD : D = 2 ∨ D = 3) (hk : k < 2) (hr : r < 2) (ho : o < D) (hko : o ≠ k) (hA : rdA ec tx tz C)
    (hb : (C k r).natAbs ≤ 100 ∧ (C o r).natAbs ≤ 100) (hz : euR r k o 8 C o r = 0)
    (K : ∀ ec tx tz : Nat → Int32, rdA ec tx tz (euR r k o 8 C) → wX_reduceAccess_108 post (wX_reduceAccess_98 post n') (nI k) (nI r) n (nI (o + 1)) (nI D) f_side f_arraySide f_statements f_sealed f_points f_distanceCount f_bandFirst f_bandCount f_bandSize f_accepted f_blamed f_prefixLength f_tunedFresh f_rangeLow f_rangeHigh f_scanAt f_scanFirst f_scanCount f_scanSize f_scanPins a_limits a_ops a_factors a_given a_subs a_pointX a_numberAt a_cells a_seen a_distances a_matrix a_prefix a_prefixFrom a_prefixTo a_tunedOrder a_tunedKey tx tz a_sysCoef a_sysBound a_sysCount a_cand a_hullLow a_hullHigh a_spanLow a_spanHigh a_cursor a_limit a_pin ec pv) :
    wX_reduceAccess_108 post (wX_reduceAccess_98 post n') (nI k) (nI r) (n + 1) (nI o) (nI D) f_side f_arraySide f_statements f_sealed f_points f_distanceCount f_bandFirst f_bandCount f_bandSize f_accepted f_blamed f_prefixLength f_tunedFresh f_rangeLow f_rangeHigh f_scanAt f_scanFirst f_scanCount f_scanSize f_scanPins a_limits a_ops a_factors a_given a_subs a_pointX a_numberAt a_cells a_seen a_distances a_matrix a_prefix a_prefixFrom a_prefixTo a_tunedOrder a_tunedKey tx tz a_sysCoef a_sysBound a_sysCount a_cand a_hullLow a_hullHigh a_spanLow a_spanHigh a_cursor a_limit a_pin ec pv := by
  refine br_f (nI_ge ho (by omega)) ⟨9, ?_⟩
  exact xr_clear hr (by omega) (by omega) hko 8 0 9 C ec tx tz hA hb hz (by omega) (by omega) (fun ec tx tz h => nm_r (nI_1 o) (K ec tx tz h))
/-- the two rows -/
theorem xr_98 {post : SX → Prop} {m : Nat → Int} {ec tx tz : Nat → Int32} (hD : D = 2 ∨ D = 3) (hm : ∀ j, j < 6 → -2 ≤ m j ∧ m j ≤ 2) (hm2 : D = 2 → m 2 = 0 ∧ m 5 = 0) (hA : rdA ec tx tz (rd0 m))
    (K : ∀ ec tx tz pv : Nat → Int32, rdA ec tx tz (rdF m) → pv 0 = pvt (rdF m 0 0) → pv 1 = (if rdF m 0 0 = 0 then pvt (rdF m 0 1) else pvt (rdF m 1 1)) → post ((nI D), f_side, f_arraySide, f_statements, f_sealed, f_points, f_distanceCount, f_bandFirst, f_bandCount, f_bandSize, f_accepted, f_blamed, f_prefixLength, f_tunedFresh, f_rangeLow, f_rangeHigh, f_scanAt, f_scanFirst, f_scanCount, f_scanSize, f_scanPins, a_limits, a_ops, a_factors, a_given, a_subs, a_pointX, a_numberAt, a_cells, a_seen, a_distances, a_matrix, a_prefix, a_prefixFrom, a_prefixTo, a_tunedOrder, a_tunedKey, tx, tz, a_sysCoef, a_sysBound, a_sysCount, a_cand, a_hullLow, a_hullHigh, a_spanLow, a_spanHigh, a_cursor, a_limit, a_pin, ec, pv)) :
    wX_reduceAccess_98 post 3 0 0 (nI D) f_side f_arraySide f_statements f_sealed f_points f_distanceCount f_bandFirst f_bandCount f_bandSize f_accepted f_blamed f_prefixLength f_tunedFresh f_rangeLow f_rangeHigh f_scanAt f_scanFirst f_scanCount f_scanSize f_scanPins a_limits a_ops a_factors a_given a_subs a_pointX a_numberAt a_cells a_seen a_distances a_matrix a_prefix a_prefixFrom a_prefixTo a_tunedOrder a_tunedKey tx tz a_sysCoef a_sysBound a_sysCount a_cand a_hullLow a_hullHigh a_spanLow a_spanHigh a_cursor a_limit a_pin ec a_pivot := by
  have b1 := rd1_b hm
  have m0 := hm 0 (by omega)
  have m1 := hm 1 (by omega)
  have m2 := hm 2 (by omega)
  have m3 := hm 3 (by omega)
  have m4 := hm 4 (by omega)
  have m5 := hm 5 (by omega)
  have b2 : (rd2 m 0 0).natAbs ≤ 2 := (eu_rb (r := 0) (k := 0) (o := 2) (B := 2) (by omega) (by omega) 8 (rd1 m) ⟨b1, by rw [rd1_2]; omega⟩).1
  -- behind row 0
  have row1 : ∀ ec tx tz : Nat → Int32, rdA ec tx tz (rd2 m) → wX_reduceAccess_98 post 2 (nI (if rd2 m 0 0 = 0 then 0 else 1)) (nI (0 + 1)) (nI D) f_side f_arraySide f_statements f_sealed f_points f_distanceCount f_bandFirst f_bandCount f_bandSize f_accepted f_blamed f_prefixLength f_tunedFresh f_rangeLow f_rangeHigh f_scanAt f_scanFirst f_scanCount f_scanSize f_scanPins a_limits a_ops a_factors a_given a_subs a_pointX a_numberAt a_cells a_seen a_distances a_matrix a_prefix a_prefixFrom a_prefixTo a_tunedOrder a_tunedKey tx tz a_sysCoef a_sysBound a_sysCount a_cand a_hullLow a_hullHigh a_spanLow a_spanHigh a_cursor a_limit a_pin ec (upd a_pivot 0 (pvt (rd2 m 0 0))) := by
    intro ec tx tz hA2
    by_cases h0 : rd2 m 0 0 = 0
    · obtain ⟨sB, w1, w2, w3⟩ := rd_specB hm h0
      obtain ⟨e2, _, _, _⟩ := rd_B0 hm h0
      have eF : rdF m = euR 1 0 2 8 (rd3 m) := by unfold rdF; rw [if_pos h0]
      rw [if_pos h0]
      have f00 : rdF m 0 0 = 0 := by
        rw [eF]
        have z1 := eu_zero (r := 1) (k := 0) (o := 1) (i := 0) (by omega) (by omega) 8 (rd2 m) ⟨h0, rd2_10 hm⟩
        have z2 : rd3 m 2 0 = 0 := by unfold rd3; rw [eu_t (by omega) (by omega)]; exact rd2_20 hm
        exact (eu_zero (r := 1) (k := 0) (o := 2) (i := 0) (by omega) (by omega) 8 (rd3 m) ⟨z1.1, z2⟩).1
      have fin : ∀ ec tx tz : Nat → Int32, rdA ec tx tz (rdF m) → ∀ n v, D ≤ v → v < 10 → wX_reduceAccess_108 post (wX_reduceAccess_98 post 1) (nI 0) (nI 1) (n + 1) (nI v) (nI D) f_side f_arraySide f_statements f_sealed f_points f_distanceCount f_bandFirst f_bandCount f_bandSize f_accepted f_blamed f_prefixLength f_tunedFresh f_rangeLow f_rangeHigh f_scanAt f_scanFirst f_scanCount f_scanSize f_scanPins a_limits a_ops a_factors a_given a_subs a_pointX a_numberAt a_cells a_seen a_distances a_matrix a_prefix a_prefixFrom a_prefixTo a_tunedOrder a_tunedKey tx tz a_sysCoef a_sysBound a_sysCount a_cand a_hullLow a_hullHigh a_spanLow a_spanHigh a_cursor a_limit a_pin ec (upd a_pivot 0 (pvt (rd2 m 0 0))) := by
        intro ec tx tz hAF n v hv hv'
        have bF : (rdF m 0 1).natAbs ≤ 100 := by
          rw [eF]
          have := (eu_rb (r := 1) (k := 0) (o := 2) (B := 2) (by omega) (by omega) 8 (rd3 m) ⟨w3, by rw [w2]; omega⟩).1
          omega
        refine xr_exit hD (by omega) (by omega) hAF bF hv hv' (br_t (by decide) (K ec tx tz _ hAF ?_ ?_))
        · rw [pk_un (by omega), pk_us, h0, f00]
        · rw [pk_us, if_pos f00]
      refine br_f (by decide) (nm_r (e' := nI 1) (by decide) ⟨3, ?_⟩)
      refine xr_one hD (by omega) (by omega) (by omega) (by omega) hA2 ?_ w1 (fun ec tx tz hA3 => ?_)
      · rw [e2]
        exact ⟨by show (m 3).natAbs ≤ 100; omega, by show (m 4).natAbs ≤ 100; omega⟩
      rcases hD with rfl | rfl
      · refine fin ec tx tz ?_ 1 2 (by omega) (by omega)
        rw [eF, euR_z (by rw [w2]; exact (hm2 rfl).2)]; exact hA3
      · refine xr_one (Or.inr rfl) (by omega) (by omega) (by omega) (by omega) hA3 ⟨by have := w3; show (rd3 m 0 1).natAbs ≤ 100; omega, by show (rd3 m 2 1).natAbs ≤ 100; rw [w2]; omega⟩ sB.2.2.2.2.1 (fun ec tx tz hA4 => ?_)
        refine fin ec tx tz ?_ 0 3 (by omega) (by omega)
        rw [eF]; exact hA4
    · have sA := rd_specA hm h0
      have eF : rdF m = euR 1 1 2 8 (rd2 m) := by unfold rdF; rw [if_neg h0]
      rw [if_neg h0]
      have f00 : rdF m 0 0 = rd2 m 0 0 := by rw [eF, eu_t (by omega) (by omega)]
      have r1 := rd2_r1 hm (v := 1) (by omega)
      have r2 := rd2_r1 hm (v := 2) (by omega)
      have fin : ∀ ec tx tz : Nat → Int32, rdA ec tx tz (rdF m) → ∀ n v, D ≤ v → v < 10 → wX_reduceAccess_108 post (wX_reduceAccess_98 post 1) (nI 1) (nI 1) (n + 1) (nI v) (nI D) f_side f_arraySide f_statements f_sealed f_points f_distanceCount f_bandFirst f_bandCount f_bandSize f_accepted f_blamed f_prefixLength f_tunedFresh f_rangeLow f_rangeHigh f_scanAt f_scanFirst f_scanCount f_scanSize f_scanPins a_limits a_ops a_factors a_given a_subs a_pointX a_numberAt a_cells a_seen a_distances a_matrix a_prefix a_prefixFrom a_prefixTo a_tunedOrder a_tunedKey tx tz a_sysCoef a_sysBound a_sysCount a_cand a_hullLow a_hullHigh a_spanLow a_spanHigh a_cursor a_limit a_pin ec (upd a_pivot 0 (pvt (rd2 m 0 0))) := by
        intro ec tx tz hAF n v hv hv'
        have bF : (rdF m 1 1).natAbs ≤ 100 := by
          rw [eF]
          have := (eu_rb (r := 1) (k := 1) (o := 2) (B := 6) (by omega) (by omega) 8 (rd2 m) ⟨r1, r2⟩).1
          omega
        refine xr_exit hD (by omega) (by omega) hAF bF hv hv' (br_t (by decide) (K ec tx tz _ hAF ?_ ?_))
        · rw [pk_un (by omega), pk_us, f00]
        · rw [pk_us, if_neg (by rw [f00]; exact h0)]
      refine br_f (by decide) (nm_r (e' := nI 2) (by decide) ⟨3, ?_⟩)
      rcases hD with rfl | rfl
      · refine fin ec tx tz ?_ 2 2 (by omega) (by omega)
        rw [eF, euR_z ?_]
        · exact hA2
        · have : rd2 m = rd1 m := euR_z (by rw [rd1_2]; exact (hm2 rfl).1)
          rw [this]
          unfold rd1
          rw [eu_t (by omega) (by omega)]
          exact (hm2 rfl).2
      · refine xr_one (Or.inr rfl) (by omega) (by omega) (by omega) (by omega) hA2 ⟨by show (rd2 m 1 1).natAbs ≤ 100; omega, by show (rd2 m 2 1).natAbs ≤ 100; omega⟩ sA.2.2.2.2.1 (fun ec tx tz hA4 => ?_)
        refine fin ec tx tz ?_ 1 3 (by omega) (by omega)
        rw [eF]; exact hA4
  refine br_f (by decide) (nm_r (e' := nI 1) (by decide) ⟨3, ?_⟩)
  refine xr_one (k := 0) (o := 1) (r := 0) hD (by omega) (by omega) (by omega) (by omega) hA ⟨by show (m 0).natAbs ≤ 100; omega, by show (m 1).natAbs ≤ 100; omega⟩ (rd1_0 hm) (fun ec tx tz hA1 => ?_)
  rcases hD with rfl | rfl
  · have e : rd2 m = rd1 m := euR_z (by rw [rd1_2]; exact (hm2 rfl).1)
    have hA2 : rdA ec tx tz (rd2 m) := by rw [e]; exact hA1
    exact xr_exit (C := rd2 m) (Or.inl rfl) (by omega) (by omega) hA2 (by omega) (v := 2) (by omega) (by omega) (row1 ec tx tz hA2)
  · refine xr_one (k := 0) (o := 2) (r := 0) (Or.inr rfl) (by omega) (by omega) (by omega) (by omega) hA1 ⟨by show (rd1 m 0 0).natAbs ≤ 100; omega, by show (rd1 m 2 0).natAbs ≤ 100; rw [rd1_2]; omega⟩ (rd2_20 hm) (fun ec tx tz hA2 => ?_)
    exact xr_exit (C := rd2 m) (Or.inr rfl) (by omega) (by omega) hA2 (by omega) (v := 3) (by omega) (by omega) (row1 ec tx tz hA2)
def idm (j : Nat) : Int := if j % 4 = 0 then 1 else 0
theorem xr_reduce {post : SX → Prop} {b : Nat} {m : Nat → Int} (hD : D = 2 ∨ D = 3) (hb : b < 6) (hm : ∀ j, j < 6 → -2 ≤ m j ∧ m j ≤ 2) (hm2 : D = 2 → m 2 = 0 ∧ m 5 = 0)
    (hs : ∀ v, v < 3 → a_subs (b * 8 + v) = zI (m v) ∧ a_subs (b * 8 + 4 + v) = zI (m (3 + v)))
    (K : ∀ ec tx tz pv : Nat → Int32, rdA ec tx tz (rdF m) → pv 0 = pvt (rdF m 0 0) → pv 1 = (if rdF m 0 0 = 0 then pvt (rdF m 0 1) else pvt (rdF m 1 1)) → post ((nI D), f_side, f_arraySide, f_statements, f_sealed, f_points, f_distanceCount, f_bandFirst, f_bandCount, f_bandSize, f_accepted, f_blamed, f_prefixLength, f_tunedFresh, f_rangeLow, f_rangeHigh, f_scanAt, f_scanFirst, f_scanCount, f_scanSize, f_scanPins, a_limits, a_ops, a_factors, a_given, a_subs, a_pointX, a_numberAt, a_cells, a_seen, a_distances, a_matrix, a_prefix, a_prefixFrom, a_prefixTo, a_tunedOrder, a_tunedKey, tx, tz, a_sysCoef, a_sysBound, a_sysCount, a_cand, a_hullLow, a_hullHigh, a_spanLow, a_spanHigh, a_cursor, a_limit, a_pin, ec, pv)) :
    wpX_reduceAccess post ((nI D), f_side, f_arraySide, f_statements, f_sealed, f_points, f_distanceCount, f_bandFirst, f_bandCount, f_bandSize, f_accepted, f_blamed, f_prefixLength, f_tunedFresh, f_rangeLow, f_rangeHigh, f_scanAt, f_scanFirst, f_scanCount, f_scanSize, f_scanPins, a_limits, a_ops, a_factors, a_given, a_subs, a_pointX, a_numberAt, a_cells, a_seen, a_distances, a_matrix, a_prefix, a_prefixFrom, a_prefixTo, a_tunedOrder, a_tunedKey, a_toX, a_toZ, a_sysCoef, a_sysBound, a_sysCount, a_cand, a_hullLow, a_hullHigh, a_spanLow, a_spanHigh, a_cursor, a_limit, a_pin, a_echelon, a_pivot) (nI b) := by
  refine loop_0 (fun n i (s : (Nat → Int32) × (Nat → Int32)) => wX_reduceAccess_2 post (nI b) (nI D) f_side f_arraySide f_statements f_sealed f_points f_distanceCount f_bandFirst f_bandCount f_bandSize f_accepted f_blamed f_prefixLength f_tunedFresh f_rangeLow f_rangeHigh f_scanAt f_scanFirst f_scanCount f_scanSize f_scanPins n (nI i) a_limits a_ops a_factors a_given a_subs a_pointX a_numberAt a_cells a_seen a_distances a_matrix a_prefix a_prefixFrom a_prefixTo a_tunedOrder a_tunedKey s.1 s.2 a_sysCoef a_sysBound a_sysCount a_cand a_hullLow a_hullHigh a_spanLow a_spanHigh a_cursor a_limit a_pin a_echelon a_pivot)
    (fun i s => ∀ j, j < i → s.1 j = zI (idm j) ∧ s.2 j = zI (idm j)) 9 (a_toX, a_toZ) (fun j hj => by omega) ?_ ?_
  · intro n s hs1
    obtain ⟨tx, tz⟩ := s
    dsimp only at hs1
    refine br_t (by decide) ?_
    refine loop_0 (fun n i s => wX_reduceAccess_45 post (nI b) (nI D) f_side f_arraySide f_statements f_sealed f_points f_distanceCount f_bandFirst f_bandCount f_bandSize f_accepted f_blamed f_prefixLength f_tunedFresh f_rangeLow f_rangeHigh f_scanAt f_scanFirst f_scanCount f_scanSize f_scanPins n (nI i) a_limits a_ops a_factors a_given a_subs a_pointX a_numberAt a_cells a_seen a_distances a_matrix a_prefix a_prefixFrom a_prefixTo a_tunedOrder a_tunedKey tx tz a_sysCoef a_sysBound a_sysCount a_cand a_hullLow a_hullHigh a_spanLow a_spanHigh a_cursor a_limit a_pin s a_pivot)
      (fun i s => ∀ v, v < i → s v = zI (m v) ∧ s (3 + v) = zI (m (3 + v))) 3 a_echelon (fun j hj => by omega) ?_ ?_
    · intro n ec he
      refine br_t (by decide) ⟨3, xr_98 (m := m) hD hm hm2 (fun j hj => ⟨fun r hr => ?_, fun r hr => ?_, fun r hr => ?_⟩) K⟩
      · rcases (show r = 0 ∨ r = 1 by omega) with rfl | rfl
        · rw [show 0 * 3 + j = j by omega]; exact (he j hj).1
        · rw [show 1 * 3 + j = 3 + j by omega]; exact (he j hj).2
      · rw [(hs1 (r * 3 + j) (by omega)).1]
        rcases (show r = 0 ∨ r = 1 ∨ r = 2 by omega) with rfl | rfl | rfl <;> rcases (show j = 0 ∨ j = 1 ∨ j = 2 by omega) with rfl | rfl | rfl <;> rfl
      · rw [(hs1 (j * 3 + r) (by omega)).2]
        rcases (show r = 0 ∨ r = 1 ∨ r = 2 by omega) with rfl | rfl | rfl <;> rcases (show j = 0 ∨ j = 1 ∨ j = 2 by omega) with rfl | rfl | rfl <;> rfl
    · intro n i s hi hs2 hK
      have e1 : nI b * 8 + nI i = nI (b * 8 + i) := by rw [nx_m8, nI_add]
      have c1 : (nI b * 8 + nI i).toNatClampNeg = b * 8 + i := cx_n _ e1 (by omega)
      have e2 : nI b * 8 + 4 + nI i = nI (b * 8 + 4 + i) := by rw [nx_m8, nx_a4, nI_add]
      have c2 : (nI b * 8 + 4 + nI i).toNatClampNeg = b * 8 + 4 + i := cx_n _ e2 (by omega)
      have c3 : (3 + nI i).toNatClampNeg = 3 + i := cx_n _ (nx_3a i) (by omega)
      have ci : (nI i).toNatClampNeg = i := nI_clamp (by omega)
      refine br_f (nI_ge (b := 3) hi (by omega)) ⟨vx_n _ e1 (by omega) (by omega), vp_in_nI (by omega) (by omega), nm_r (e' := upd s i (zI (m i))) (by rw [ci, c1, (hs i hi).1]) ⟨vx_n _ e2 (by omega) (by omega), vx_n _ (nx_3a i) (by omega) (by omega), nm_r (e' := upd (upd s i (zI (m i))) (3 + i) (zI (m (3 + i)))) (by rw [c3, c2, (hs i hi).2]) (nm_r (nI_1 i) (hK _ ?_))⟩⟩
      intro v hv
      by_cases x : v = i
      · subst x; exact ⟨by rw [pk_un (by omega), pk_us], pk_us⟩
      · exact ⟨by rw [pk_un (by omega), pk_un x]; exact (hs2 v (by omega)).1, by rw [pk_un (by omega), pk_un (by omega)]; exact (hs2 v (by omega)).2⟩
  · intro n i s hi hs1 hK
    obtain ⟨tx, tz⟩ := s
    have ci : (nI i).toNatClampNeg = i := nI_clamp (by omega)
    have er : nI i - nI i / 4 * 4 = nI (i % 4) := pk_rem (d := 4) (by omega) (by omega) (by omega)
    have step : ∀ z0 : Int32, z0 = zI (idm i) → wX_reduceAccess_24 post (wX_reduceAccess_2 post (nI b) (nI D) f_side f_arraySide f_statements f_sealed f_points f_distanceCount f_bandFirst f_bandCount f_bandSize f_accepted f_blamed f_prefixLength f_tunedFresh f_rangeLow f_rangeHigh f_scanAt f_scanFirst f_scanCount f_scanSize f_scanPins n) (nI b) (nI i) z0 (nI i) (nI D) f_side f_arraySide f_statements f_sealed f_points f_distanceCount f_bandFirst f_bandCount f_bandSize f_accepted f_blamed f_prefixLength f_tunedFresh f_rangeLow f_rangeHigh f_scanAt f_scanFirst f_scanCount f_scanSize f_scanPins a_limits a_ops a_factors a_given a_subs a_pointX a_numberAt a_cells a_seen a_distances a_matrix a_prefix a_prefixFrom a_prefixTo a_tunedOrder a_tunedKey tx tz a_sysCoef a_sysBound a_sysCount a_cand a_hullLow a_hullHigh a_spanLow a_spanHigh a_cursor a_limit a_pin a_echelon a_pivot := by
      intro z0 hz
      subst hz
      refine ⟨vp_in_nI (by omega) (by omega), nm_r (e' := upd tx i (zI (idm i))) (by rw [ci]) ⟨vp_in_nI (by omega) (by omega), vp_in_nI (by omega) (by omega), nm_r (e' := upd tz i (zI (idm i))) (by rw [ci, pk_us]) (nm_r (nI_1 i) (hK (upd tx i (zI (idm i)), upd tz i (zI (idm i))) ?_))⟩⟩
      intro j hj
      by_cases x : j = i
      · subst x; exact ⟨pk_us, pk_us⟩
      · exact ⟨(pk_un x).trans (hs1 j (by omega)).1, (pk_un x).trans (hs1 j (by omega)).2⟩
    refine br_f (nI_ge (b := 9) hi (by omega)) ⟨by decide, ?_⟩
    rw [er]
    refine pk_eq (i % 4) 0 (fun h => step 1 ?_) (fun h => step 0 ?_)
    · unfold idm; rw [if_pos h]; rfl
    · unfold idm; rw [if_neg h]; rfl
end
end
section
/-! inverses: invertMatrix, and what toX and toZ are to each other -/
def cof (T : Nat → Int) (r c : Nat) : Int := T ((r + 1) % 3 * 3 + (c + 1) % 3) * T ((r + 2) % 3 * 3 + (c + 2) % 3) - T ((r + 1) % 3 * 3 + (c + 2) % 3) * T ((r + 2) % 3 * 3 + (c + 1) % 3)
def dtr (T : Nat → Int) : Nat → Int
  | 0 => 0
  | c + 1 => dtr T c + T c * cof T 0 c
def matI (X Z : Nat → Int) : Prop := (∀ a b, a < 3 → b < 3 → Z (a * 3) * X b + Z (a * 3 + 1) * X (3 + b) + Z (a * 3 + 2) * X (6 + b) = if a = b then 1 else 0) ∧
  (∀ a b, a < 3 → b < 3 → X (a * 3) * Z b + X (a * 3 + 1) * Z (3 + b) + X (a * 3 + 2) * Z (6 + b) = if a = b then 1 else 0)
/-- between the first D coordinates toX and toZ undo each other -/
def inv_ok (D : Nat) (X Z : Nat → Int) : Prop := (∀ z l, l < D → xr Z D (xr X D z) l = z l) ∧ (∀ x l, l < D → xr X D (xr Z D x) l = x l)
theorem inv_1 {D : Nat} {X Z : Nat → Int} (hD : D = 2 ∨ D = 3) (h : ∀ a b, a < 3 → b < 3 → Z (a * 3) * X b + Z (a * 3 + 1) * X (3 + b) + Z (a * 3 + 2) * X (6 + b) = if a = b then 1 else 0)
    (h2 : D = 2 → ∀ a b, a < 2 → b < 2 → Z (a * 3 + 2) * X (6 + b) = 0) (z : Nat → Int) (l : Nat) (hl : l < D) : xr Z D (xr X D z) l = z l := by
  rcases hD with rfl | rfl
  · have h0 := h l 0 (by omega) (by omega)
    have h1 := h l 1 (by omega) (by omega)
    rw [h2 rfl l 0 hl (by omega)] at h0
    rw [h2 rfl l 1 hl (by omega)] at h1
    show 0 + Z (l * 3 + 0) * (0 + X (0 * 3 + 0) * z 0 + X (0 * 3 + 1) * z 1) + Z (l * 3 + 1) * (0 + X (1 * 3 + 0) * z 0 + X (1 * 3 + 1) * z 1) = z l
    have e : 0 + Z (l * 3 + 0) * (0 + X (0 * 3 + 0) * z 0 + X (0 * 3 + 1) * z 1) + Z (l * 3 + 1) * (0 + X (1 * 3 + 0) * z 0 + X (1 * 3 + 1) * z 1)
      = (Z (l * 3) * X 0 + Z (l * 3 + 1) * X (3 + 0) + 0) * z 0 + (Z (l * 3) * X 1 + Z (l * 3 + 1) * X (3 + 1) + 0) * z 1 := by
      show 0 + Z (l * 3) * (0 + X 0 * z 0 + X 1 * z 1) + Z (l * 3 + 1) * (0 + X 3 * z 0 + X 4 * z 1) = (Z (l * 3) * X 0 + Z (l * 3 + 1) * X 3 + 0) * z 0 + (Z (l * 3) * X 1 + Z (l * 3 + 1) * X 4 + 0) * z 1
      grind
    rw [e, h0, h1]
    rcases (show l = 0 ∨ l = 1 by omega) with rfl | rfl
    · rw [if_pos rfl, if_neg (by omega)]; omega
    · rw [if_neg (by omega), if_pos rfl]; omega
  · have h0 := h l 0 (by omega) (by omega)
    have h1 := h l 1 (by omega) (by omega)
    have h2 := h l 2 (by omega) (by omega)
    show 0 + Z (l * 3 + 0) * (0 + X (0 * 3 + 0) * z 0 + X (0 * 3 + 1) * z 1 + X (0 * 3 + 2) * z 2) + Z (l * 3 + 1) * (0 + X (1 * 3 + 0) * z 0 + X (1 * 3 + 1) * z 1 + X (1 * 3 + 2) * z 2) + Z (l * 3 + 2) * (0 + X (2 * 3 + 0) * z 0 + X (2 * 3 + 1) * z 1 + X (2 * 3 + 2) * z 2) = z l
    have e : 0 + Z (l * 3 + 0) * (0 + X (0 * 3 + 0) * z 0 + X (0 * 3 + 1) * z 1 + X (0 * 3 + 2) * z 2) + Z (l * 3 + 1) * (0 + X (1 * 3 + 0) * z 0 + X (1 * 3 + 1) * z 1 + X (1 * 3 + 2) * z 2) + Z (l * 3 + 2) * (0 + X (2 * 3 + 0) * z 0 + X (2 * 3 + 1) * z 1 + X (2 * 3 + 2) * z 2)
      = (Z (l * 3) * X 0 + Z (l * 3 + 1) * X (3 + 0) + Z (l * 3 + 2) * X (6 + 0)) * z 0 + (Z (l * 3) * X 1 + Z (l * 3 + 1) * X (3 + 1) + Z (l * 3 + 2) * X (6 + 1)) * z 1 + (Z (l * 3) * X 2 + Z (l * 3 + 1) * X (3 + 2) + Z (l * 3 + 2) * X (6 + 2)) * z 2 := by
      show 0 + Z (l * 3) * (0 + X 0 * z 0 + X 1 * z 1 + X 2 * z 2) + Z (l * 3 + 1) * (0 + X 3 * z 0 + X 4 * z 1 + X 5 * z 2) + Z (l * 3 + 2) * (0 + X 6 * z 0 + X 7 * z 1 + X 8 * z 2)
        = (Z (l * 3) * X 0 + Z (l * 3 + 1) * X 3 + Z (l * 3 + 2) * X 6) * z 0 + (Z (l * 3) * X 1 + Z (l * 3 + 1) * X 4 + Z (l * 3 + 2) * X 7) * z 1 + (Z (l * 3) * X 2 + Z (l * 3 + 1) * X 5 + Z (l * 3 + 2) * X 8) * z 2
      grind
    rw [e, h0, h1, h2]
    rcases (show l = 0 ∨ l = 1 ∨ l = 2 by omega) with rfl | rfl | rfl
    · rw [if_pos rfl, if_neg (by omega), if_neg (by omega)]; omega
    · rw [if_neg (by omega), if_pos rfl, if_neg (by omega)]; omega
    · rw [if_neg (by omega), if_neg (by omega), if_pos rfl]; omega
theorem inv_of {D : Nat} {X Z : Nat → Int} (hD : D = 2 ∨ D = 3) (h : matI X Z) (h2 : D = 2 → X 2 = 0 ∧ X 5 = 0 ∧ X 6 = 0 ∧ X 7 = 0) : inv_ok D X Z := by
  refine ⟨inv_1 hD h.1 (fun e a b ha hb => ?_), inv_1 hD h.2 (fun e a b ha hb => ?_)⟩
  · obtain ⟨_, _, h6, h7⟩ := h2 e
    rcases (show b = 0 ∨ b = 1 by omega) with rfl | rfl
    · rw [show 6 + 0 = 6 from rfl, h6, Int.mul_zero]
    · rw [show 6 + 1 = 7 from rfl, h7, Int.mul_zero]
  · obtain ⟨h3, h4, _, _⟩ := h2 e
    rcases (show a = 0 ∨ a = 1 by omega) with rfl | rfl
    · rw [show 0 * 3 + 2 = 2 from rfl, h3, Int.zero_mul]
    · rw [show 1 * 3 + 2 = 5 from rfl, h4, Int.zero_mul]
theorem cof_b {T : Nat → Int} (hb : ∀ j, j < 9 → -8 ≤ T j ∧ T j ≤ 8) (r c : Nat) : -128 ≤ cof T r c ∧ cof T r c ≤ 128 := by
  have m1 := Nat.mod_lt (r + 1) (show 0 < 3 by omega)
  have m2 := Nat.mod_lt (r + 2) (show 0 < 3 by omega)
  have m3 := Nat.mod_lt (c + 1) (show 0 < 3 by omega)
  have m4 := Nat.mod_lt (c + 2) (show 0 < 3 by omega)
  have q : ∀ i j, i < 9 → j < 9 → -64 ≤ T i * T j ∧ T i * T j ≤ 64 := fun i j hi hj => by
    have := ab_mul (hb i hi).1 (hb i hi).2 (hb j hj).1 (hb j hj).2
    omega
  have q1 := q ((r + 1) % 3 * 3 + (c + 1) % 3) ((r + 2) % 3 * 3 + (c + 2) % 3) (by omega) (by omega)
  have q2 := q ((r + 1) % 3 * 3 + (c + 2) % 3) ((r + 2) % 3 * 3 + (c + 1) % 3) (by omega) (by omega)
  unfold cof
  omega
/-- the adjugate times the determinant is the inverse, if that is 1 or -1 -/
theorem adj_I {T : Nat → Int} {d : Int} (hd : dtr T 3 = d) (h1 : d = 1 ∨ d = -1) {X : Nat → Int} (hX : ∀ r c, r < 3 → c < 3 → X (r * 3 + c) = cof T c r * d) : matI X T := by
  have hdd : d * d = 1 := by rcases h1 with rfl | rfl <;> rfl
  have hd' : 0 + T 0 * (T 4 * T 8 - T 5 * T 7) + T 1 * (T 5 * T 6 - T 3 * T 8) + T 2 * (T 3 * T 7 - T 4 * T 6) = d := hd
  have x0 : X 0 = (T 4 * T 8 - T 5 * T 7) * d := hX 0 0 (by omega) (by omega)
  have x1 : X 1 = (T 7 * T 2 - T 8 * T 1) * d := hX 0 1 (by omega) (by omega)
  have x2 : X 2 = (T 1 * T 5 - T 2 * T 4) * d := hX 0 2 (by omega) (by omega)
  have x3 : X 3 = (T 5 * T 6 - T 3 * T 8) * d := hX 1 0 (by omega) (by omega)
  have x4 : X 4 = (T 8 * T 0 - T 6 * T 2) * d := hX 1 1 (by omega) (by omega)
  have x5 : X 5 = (T 2 * T 3 - T 0 * T 5) * d := hX 1 2 (by omega) (by omega)
  have x6 : X 6 = (T 3 * T 7 - T 4 * T 6) * d := hX 2 0 (by omega) (by omega)
  have x7 : X 7 = (T 6 * T 1 - T 7 * T 0) * d := hX 2 1 (by omega) (by omega)
  have x8 : X 8 = (T 0 * T 4 - T 1 * T 3) * d := hX 2 2 (by omega) (by omega)
  have on : ∀ w : Int, w = d * (0 + T 0 * (T 4 * T 8 - T 5 * T 7) + T 1 * (T 5 * T 6 - T 3 * T 8) + T 2 * (T 3 * T 7 - T 4 * T 6)) → w = 1 := fun w hw => by rw [hw, hd', hdd]
  refine ⟨fun a b ha hb => ?_, fun a b ha hb => ?_⟩
  · rcases (show a = 0 ∨ a = 1 ∨ a = 2 by omega) with rfl | rfl | rfl <;> rcases (show b = 0 ∨ b = 1 ∨ b = 2 by omega) with rfl | rfl | rfl
    · show T 0 * X 0 + T 1 * X 3 + T 2 * X 6 = 1
      rw [x0, x3, x6]; exact on _ (by grind)
    · show T 0 * X 1 + T 1 * X 4 + T 2 * X 7 = 0
      rw [x1, x4, x7]; clear on hd' hd hX x0 x1 x2 x3 x4 x5 x6 x7 x8; grind
    · show T 0 * X 2 + T 1 * X 5 + T 2 * X 8 = 0
      rw [x2, x5, x8]; clear on hd' hd hX x0 x1 x2 x3 x4 x5 x6 x7 x8; grind
    · show T 3 * X 0 + T 4 * X 3 + T 5 * X 6 = 0
      rw [x0, x3, x6]; clear on hd' hd hX x0 x1 x2 x3 x4 x5 x6 x7 x8; grind
    · show T 3 * X 1 + T 4 * X 4 + T 5 * X 7 = 1
      rw [x1, x4, x7]; exact on _ (by grind)
    · show T 3 * X 2 + T 4 * X 5 + T 5 * X 8 = 0
      rw [x2, x5, x8]; clear on hd' hd hX x0 x1 x2 x3 x4 x5 x6 x7 x8; grind
    · show T 6 * X 0 + T 7 * X 3 + T 8 * X 6 = 0
      rw [x0, x3, x6]; clear on hd' hd hX x0 x1 x2 x3 x4 x5 x6 x7 x8; grind
    · show T 6 * X 1 + T 7 * X 4 + T 8 * X 7 = 0
      rw [x1, x4, x7]; clear on hd' hd hX x0 x1 x2 x3 x4 x5 x6 x7 x8; grind
    · show T 6 * X 2 + T 7 * X 5 + T 8 * X 8 = 1
      rw [x2, x5, x8]; exact on _ (by grind)
  · rcases (show a = 0 ∨ a = 1 ∨ a = 2 by omega) with rfl | rfl | rfl <;> rcases (show b = 0 ∨ b = 1 ∨ b = 2 by omega) with rfl | rfl | rfl
    · show X 0 * T 0 + X 1 * T 3 + X 2 * T 6 = 1
      rw [x0, x1, x2]; exact on _ (by grind)
    · show X 0 * T 1 + X 1 * T 4 + X 2 * T 7 = 0
      rw [x0, x1, x2]; clear on hd' hd hX x0 x1 x2 x3 x4 x5 x6 x7 x8; grind
    · show X 0 * T 2 + X 1 * T 5 + X 2 * T 8 = 0
      rw [x0, x1, x2]; clear on hd' hd hX x0 x1 x2 x3 x4 x5 x6 x7 x8; grind
    · show X 3 * T 0 + X 4 * T 3 + X 5 * T 6 = 0
      rw [x3, x4, x5]; clear on hd' hd hX x0 x1 x2 x3 x4 x5 x6 x7 x8; grind
    · show X 3 * T 1 + X 4 * T 4 + X 5 * T 7 = 1
      rw [x3, x4, x5]; exact on _ (by grind)
    · show X 3 * T 2 + X 4 * T 5 + X 5 * T 8 = 0
      rw [x3, x4, x5]; clear on hd' hd hX x0 x1 x2 x3 x4 x5 x6 x7 x8; grind
    · show X 6 * T 0 + X 7 * T 3 + X 8 * T 6 = 0
      rw [x6, x7, x8]; clear on hd' hd hX x0 x1 x2 x3 x4 x5 x6 x7 x8; grind
    · show X 6 * T 1 + X 7 * T 4 + X 8 * T 7 = 0
      rw [x6, x7, x8]; clear on hd' hd hX x0 x1 x2 x3 x4 x5 x6 x7 x8; grind
    · show X 6 * T 2 + X 7 * T 5 + X 8 * T 8 = 1
      rw [x6, x7, x8]; exact on _ (by grind)
section
variable {f_depth f_side f_arraySide f_statements f_sealed f_points f_distanceCount f_bandFirst f_bandCount f_bandSize f_accepted f_blamed f_prefixLength f_tunedFresh f_scanAt f_scanFirst f_scanCount f_scanSize f_scanPins : Int32} {f_rangeLow f_rangeHigh : Int64} {a_limits a_ops a_factors a_given a_subs a_pointX a_numberAt a_cells a_seen a_distances a_matrix a_prefix a_prefixFrom a_prefixTo a_tunedOrder a_tunedKey a_toX a_toZ a_sysCount a_hullLow a_hullHigh a_cursor a_limit a_pin a_echelon a_pivot : Nat → Int32} {a_sysCoef a_sysBound a_cand a_spanLow a_spanHigh : Nat → Int64}
theorem xi_cof {post : Int32 → Prop} {T : Nat → Int} {r c : Nat} (hT : ∀ j, j < 9 → a_matrix j = zI (T j)) (hr : r < 3) (hc : c < 3) (K : post (zI (cof T r c))) : wpX_cofactor post (f_depth, f_side, f_arraySide, f_statements, f_sealed, f_points, f_distanceCount, f_bandFirst, f_bandCount, f_bandSize, f_accepted, f_blamed, f_prefixLength, f_tunedFresh, f_rangeLow, f_rangeHigh, f_scanAt, f_scanFirst, f_scanCount, f_scanSize, f_scanPins, a_limits, a_ops, a_factors, a_given, a_subs, a_pointX, a_numberAt, a_cells, a_seen, a_distances, a_matrix, a_prefix, a_prefixFrom, a_prefixTo, a_tunedOrder, a_tunedKey, a_toX, a_toZ, a_sysCoef, a_sysBound, a_sysCount, a_cand, a_hullLow, a_hullHigh, a_spanLow, a_spanHigh, a_cursor, a_limit, a_pin, a_echelon, a_pivot) (nI r) (nI c) := by
  have m1 := Nat.mod_lt (r + 1) (show 0 < 3 by omega)
  have m2 := Nat.mod_lt (r + 2) (show 0 < 3 by omega)
  have m3 := Nat.mod_lt (c + 1) (show 0 < 3 by omega)
  have m4 := Nat.mod_lt (c + 2) (show 0 < 3 by omega)
  have q1 : ∀ n : Nat, n < 100 → nI n - nI n / 3 * 3 = nI (n % 3) := fun n hn => pk_rem (d := 3) (by omega) (by omega) (by omega)
  have ci : ∀ a b : Nat, a < 9 → b < 9 → (nI a + nI b).toNatClampNeg = a + b := fun a b ha hb => cx_n _ (nI_add a b) (by omega)
  refine ⟨by decide, nm_r (e' := nI ((r + 1) % 3 * 3)) (by rw [nI_1, q1 _ (by omega), nx_m3]) ⟨by decide, nm_r (e' := nI ((r + 2) % 3 * 3)) (by rw [nx_a2, q1 _ (by omega), nx_m3]) ⟨by decide, nm_r (e' := nI ((c + 1) % 3)) (by rw [nI_1, q1 _ (by omega)]) ⟨by decide, nm_r (e' := nI ((c + 2) % 3)) (by rw [nx_a2, q1 _ (by omega)])
    ⟨vx_n _ (nI_add _ _) (by omega) (by omega), vx_n _ (nI_add _ _) (by omega) (by omega), vx_n _ (nI_add _ _) (by omega) (by omega), vx_n _ (nI_add _ _) (by omega) (by omega), ?_⟩⟩⟩⟩⟩
  rw [ci _ _ (by omega) (by omega), ci _ _ (by omega) (by omega), ci _ _ (by omega) (by omega), ci _ _ (by omega) (by omega), hT _ (by omega), hT _ (by omega), hT _ (by omega), hT _ (by omega), zI_mul, zI_mul, zI_sub]
  exact K
theorem xi_inv {post : SX → Prop} {T : Nat → Int} (hT : ∀ j, j < 9 → a_matrix j = zI (T j))
    (K : ∀ tx tz : Nat → Int32, (∀ r c, r < 3 → c < 3 → tx (r * 3 + c) = zI (cof T c r * dtr T 3) ∧ tz (r * 3 + c) = zI (T (r * 3 + c))) → post (f_depth, f_side, f_arraySide, f_statements, f_sealed, f_points, f_distanceCount, f_bandFirst, f_bandCount, f_bandSize, f_accepted, f_blamed, f_prefixLength, f_tunedFresh, f_rangeLow, f_rangeHigh, f_scanAt, f_scanFirst, f_scanCount, f_scanSize, f_scanPins, a_limits, a_ops, a_factors, a_given, a_subs, a_pointX, a_numberAt, a_cells, a_seen, a_distances, a_matrix, a_prefix, a_prefixFrom, a_prefixTo, a_tunedOrder, a_tunedKey, tx, tz, a_sysCoef, a_sysBound, a_sysCount, a_cand, a_hullLow, a_hullHigh, a_spanLow, a_spanHigh, a_cursor, a_limit, a_pin, a_echelon, a_pivot)) : wpX_invertMatrix post (f_depth, f_side, f_arraySide, f_statements, f_sealed, f_points, f_distanceCount, f_bandFirst, f_bandCount, f_bandSize, f_accepted, f_blamed, f_prefixLength, f_tunedFresh, f_rangeLow, f_rangeHigh, f_scanAt, f_scanFirst, f_scanCount, f_scanSize, f_scanPins, a_limits, a_ops, a_factors, a_given, a_subs, a_pointX, a_numberAt, a_cells, a_seen, a_distances, a_matrix, a_prefix, a_prefixFrom, a_prefixTo, a_tunedOrder, a_tunedKey, a_toX, a_toZ, a_sysCoef, a_sysBound, a_sysCount, a_cand, a_hullLow, a_hullHigh, a_spanLow, a_spanHigh, a_cursor, a_limit, a_pin, a_echelon, a_pivot) := by
  have l35 : ∃ n35 : Nat, wX_invertMatrix_35 post (zI (dtr T 3)) f_depth f_side f_arraySide f_statements f_sealed f_points f_distanceCount f_bandFirst f_bandCount f_bandSize f_accepted f_blamed f_prefixLength f_tunedFresh f_rangeLow f_rangeHigh f_scanAt f_scanFirst f_scanCount f_scanSize f_scanPins n35 0 a_limits a_ops a_factors a_given a_subs a_pointX a_numberAt a_cells a_seen a_distances a_matrix a_prefix a_prefixFrom a_prefixTo a_tunedOrder a_tunedKey a_toX a_toZ a_sysCoef a_sysBound a_sysCount a_cand a_hullLow a_hullHigh a_spanLow a_spanHigh a_cursor a_limit a_pin a_echelon a_pivot := by
    refine loop_0 (fun n i (s : (Nat → Int32) × (Nat → Int32)) => wX_invertMatrix_35 post (zI (dtr T 3)) f_depth f_side f_arraySide f_statements f_sealed f_points f_distanceCount f_bandFirst f_bandCount f_bandSize f_accepted f_blamed f_prefixLength f_tunedFresh f_rangeLow f_rangeHigh f_scanAt f_scanFirst f_scanCount f_scanSize f_scanPins n (nI i) a_limits a_ops a_factors a_given a_subs a_pointX a_numberAt a_cells a_seen a_distances a_matrix a_prefix a_prefixFrom a_prefixTo a_tunedOrder a_tunedKey s.1 s.2 a_sysCoef a_sysBound a_sysCount a_cand a_hullLow a_hullHigh a_spanLow a_spanHigh a_cursor a_limit a_pin a_echelon a_pivot)
      (fun i s => ∀ r c, r < i → c < 3 → s.1 (r * 3 + c) = zI (cof T c r * dtr T 3) ∧ s.2 (r * 3 + c) = zI (T (r * 3 + c))) 3 (a_toX, a_toZ) (fun r c hr hc => by omega) ?_ ?_
    · intro n s hs
      exact br_t (by decide) (K s.1 s.2 hs)
    · intro n i s hi hs hK
      refine br_f (nI_ge (b := 3) hi (by omega)) ?_
      refine loop_0 (fun n' j (s : (Nat → Int32) × (Nat → Int32)) => wX_invertMatrix_42 post (wX_invertMatrix_35 post (zI (dtr T 3)) f_depth f_side f_arraySide f_statements f_sealed f_points f_distanceCount f_bandFirst f_bandCount f_bandSize f_accepted f_blamed f_prefixLength f_tunedFresh f_rangeLow f_rangeHigh f_scanAt f_scanFirst f_scanCount f_scanSize f_scanPins n) (zI (dtr T 3)) (nI i) f_depth f_side f_arraySide f_statements f_sealed f_points f_distanceCount f_bandFirst f_bandCount f_bandSize f_accepted f_blamed f_prefixLength f_tunedFresh f_rangeLow f_rangeHigh f_scanAt f_scanFirst f_scanCount f_scanSize f_scanPins n' (nI j) a_limits a_ops a_factors a_given a_subs a_pointX a_numberAt a_cells a_seen a_distances a_matrix a_prefix a_prefixFrom a_prefixTo a_tunedOrder a_tunedKey s.1 s.2 a_sysCoef a_sysBound a_sysCount a_cand a_hullLow a_hullHigh a_spanLow a_spanHigh a_cursor a_limit a_pin a_echelon a_pivot)
        (fun j s => ∀ r c, (r < i ∨ (r = i ∧ c < j)) → c < 3 → s.1 (r * 3 + c) = zI (cof T c r * dtr T 3) ∧ s.2 (r * 3 + c) = zI (T (r * 3 + c))) 3 s (fun r c hr hc => hs r c (by omega) hc) ?_ ?_
      · intro n' s' hs'
        exact br_t (by decide) (nm_r (nI_1 i) (hK s' (fun r c hr hc => hs' r c (by omega) hc)))
      · intro n' j s' hj hs' hK'
        obtain ⟨tx, tz⟩ := s'
        have e : nI i * 3 + nI j = nI (i * 3 + j) := by rw [nx_m3, nI_add]
        have c : (nI i * 3 + nI j).toNatClampNeg = i * 3 + j := cx_n _ e (by omega)
        refine br_f (nI_ge (b := 3) hj (by omega)) (xi_cof hT hj hi ⟨vx_n _ e (by omega) (by omega), nm_r (e' := upd tx (i * 3 + j) (zI (cof T j i * dtr T 3))) (by rw [c, zI_mul]) ⟨vx_n _ e (by omega) (by omega), vx_n _ e (by omega) (by omega), nm_r (e' := upd tz (i * 3 + j) (zI (T (i * 3 + j)))) (by rw [c, hT _ (by omega)]) (nm_r (nI_1 j) (hK' (upd tx (i * 3 + j) (zI (cof T j i * dtr T 3)), upd tz (i * 3 + j) (zI (T (i * 3 + j)))) ?_))⟩⟩)
        intro r c hr hc
        by_cases x : r = i ∧ c = j
        · obtain ⟨rfl, rfl⟩ := x
          exact ⟨pk_us, pk_us⟩
        · exact ⟨(pk_un (by omega)).trans (hs' r c (by omega) hc).1, (pk_un (by omega)).trans (hs' r c (by omega) hc).2⟩
  refine ⟨4, ?_⟩
  have go : ∀ d c : Nat, c + d = 3 → wX_invertMatrix_4 post f_depth f_side f_arraySide f_statements f_sealed f_points f_distanceCount f_bandFirst f_bandCount f_bandSize f_accepted f_blamed f_prefixLength f_tunedFresh f_rangeLow f_rangeHigh f_scanAt f_scanFirst f_scanCount f_scanSize f_scanPins a_limits a_ops a_factors a_given a_subs a_pointX a_numberAt a_cells a_seen a_distances a_matrix a_prefix a_prefixFrom a_prefixTo a_tunedOrder a_tunedKey a_toX a_toZ a_sysCoef a_sysBound a_sysCount a_cand a_hullLow a_hullHigh a_spanLow a_spanHigh a_cursor a_limit a_pin a_echelon a_pivot (d + 1) (zI (dtr T c)) (nI c) := by
    intro d
    induction d with
    | zero => intro c hc; cases (show c = 3 by omega); exact br_t (by decide) l35
    | succ d ih =>
      intro c hc
      have cc : (nI c).toNatClampNeg = c := nI_clamp (by omega)
      refine br_f (nI_ge (b := 3) (by omega) (by omega)) (xi_cof (r := 0) hT (by omega) (by omega) ⟨vp_in_nI (by omega) (by omega), nm_r (e' := zI (dtr T (c + 1))) (by rw [cc, hT c (by omega), zI_mul, zI_add]; rfl) (nm_r (nI_1 c) (ih (c + 1) (by omega)))⟩)
  exact go 3 0 rfl
end
end
section
/-! a scan's context; points; locate -/
theorem nest_cg {D : Nat} {S : Int} {B x y : Nat → Int} (hD : 2 ≤ D) (h : ∀ l, l < D → x l = y l) : nest D S B x ↔ nest D S B y := by
  unfold nest nst
  refine ⟨fun g l hl => ?_, fun g l hl => ?_⟩
  · rw [← h l hl, ← h 0 (by omega), ← h 1 (by omega)]; exact g l hl
  · rw [h l hl, h 0 (by omega), h 1 (by omega)]; exact g l hl
theorem sc_mk {D F Cn Sz Pn S : Nat} {X Z B pn : Nat → Int} {sc sb : Nat → Int64} {sk hl hh pin : Nat → Int32} (hD : D = 2 ∨ D = 3) (hS : 2 ≤ S ∧ S ≤ 8) (hi : inv_ok D X Z)
    (hsys : xs_Sys D sc sb sk (fun z => nest D S B (xr X D z))) (hhull : ∀ l, l < D → hl l = zI (hlo Z S l D) ∧ hh l = zI (hhi Z S l D))
    (hZ : ∀ j, j < 9 → -24 ≤ Z j ∧ Z j ≤ 24) (hZ8 : (∀ j, j < 9 → -8 ≤ Z j ∧ Z j ≤ 8) ∨ (Pn = 2 ∧ Cn = 0 ∧ F = 0)) (hF : F + Cn ≤ D) (hFD : F < D) (hSz : 1 ≤ Sz ∧ Sz ≤ 8) (hPn : Pn ≤ 2)
    (hpin : ∀ l, l < Pn → pin l = zI (pn l) ∧ -2147483648 ≤ pn l ∧ pn l < 2147483648) :
    ∃ (kl : Nat → Nat) (hL hH : Nat → Int), sc_ok D F Cn Sz Pn sc sb sk hl hh pin kl hL hH pn ∧
      (∀ z, nest D S B (xr X D z) → (∀ l, l < Pn → z l = pn l) → sD (D + Cn) (sIn F Cn Sz Pn sc sb kl hL hH pn) (keyOf F Cn Sz z)) ∧
      (∀ c, sD (D + Cn) (sIn F Cn Sz Pn sc sb kl hL hH pn) c → nest D S B (xr X D (fun v => c (pl F Cn v))) ∧ (∀ l, l < Pn → c (pl F Cn l) = pn l) ∧ ∀ m, m < D + Cn → c m = keyOf F Cn Sz (fun v => c (pl F Cn v)) m) := by
  obtain ⟨k, h1, h2, h3⟩ := hsys
  have ok : sc_ok D F Cn Sz Pn sc sb sk hl hh pin k (fun l => hlo Z S l D) (fun l => hhi Z S l D) pn := by
    refine ⟨hD, hF, hSz, hPn, hFD, h1, fun l hl' => ⟨hhull l hl', ?_⟩, hpin⟩
    have b := hl_b (Z := Z) (S := (S : Int)) (M := 24) (l := l) (n := D) (by omega) (fun c hc => hZ _ (by omega))
    dsimp only
    rcases hZ8 with h8 | h8
    · have b8 := hl_b (Z := Z) (S := (S : Int)) (M := 8) (l := l) (n := D) (by omega) (fun c hc => h8 _ (by omega))
      omega
    · omega
  refine ⟨k, _, _, ok, fun z hz hp => ?_, fun c hc => sD_out ok (N := fun z => nest D S B (xr X D z)) h3 hc⟩
  refine sD_in ok (h2 z hz) (fun l hl' => ?_) hp
  have e := hi.1 z l hl'
  rw [← e]
  exact hl_in (fun c hc => ⟨(hz c hc).1, (hz c hc).2.1⟩)
def ptx (px : Nat → Int32) (q : Nat) : Nat → Int := fun l => (px (q * 3 + l)).toInt
def cod (x : Nat → Int) : Int := x 0 * 64 + x 1 * 8 + x 2
/-- px lists the nest's points in order, num is its inverse -/
def pts_ok (D S : Nat) (B : Nat → Int) (P : Nat) (px num : Nat → Int32) : Prop :=
  (1 ≤ P ∧ P ≤ 64) ∧
  (∀ q, q < P → nest D S B (ptx px q) ∧ (∀ l, l < 3 → 0 ≤ ptx px q l ∧ ptx px q l < S) ∧ (D = 2 → ptx px q 2 = 0) ∧ num (cod (ptx px q)).toNat = nI q) ∧
  (∀ x, nest D S B x → ∃ q, q < P ∧ ∀ l, l < D → ptx px q l = x l) ∧
  (∀ p q, p < q → q < P → cod (ptx px p) < cod (ptx px q))
def pcod (x : Nat → Int) : Nat → Int
  | 0 => 0
  | r + 1 => pcod x r * 8 + x r
section
variable {D S F Cn : Nat} {f_arraySide f_statements f_sealed f_points f_distanceCount f_bandFirst f_bandCount f_bandSize f_accepted f_blamed f_prefixLength f_tunedFresh f_scanAt f_scanSize f_scanPins : Int32} {f_rangeLow f_rangeHigh : Int64} {a_limits a_ops a_factors a_given a_subs a_pointX a_numberAt a_cells a_seen a_distances a_matrix a_prefix a_prefixFrom a_prefixTo a_tunedOrder a_tunedKey a_toX a_toZ a_sysCount a_hullLow a_hullHigh a_cursor a_limit a_pin a_echelon a_pivot : Nat → Int32} {a_sysCoef a_sysBound a_cand a_spanLow a_spanHigh : Nat → Int64}
theorem xl_locate {post : Int32 → Prop} {X c x : Nat → Int} (hD : D = 2 ∨ D = 3) (hS : S ≤ 8) (hF : F + Cn ≤ D) (hX : ∀ j, j < 9 → a_toX j = zI (X j)) (hcu : ∀ j, j < 6 → a_cursor j = zI (c j))
    (hx : ∀ r, r < D → xr X D (fun v => c (pl F Cn v)) r = x r) (hin : ∀ r, r < D → 0 ≤ x r ∧ x r < S)
    (K : post (a_numberAt (if D = 2 then pcod x 2 * 8 else pcod x 3).toNat)) : wpX_locate post ((nI D), (nI S), f_arraySide, f_statements, f_sealed, f_points, f_distanceCount, f_bandFirst, f_bandCount, f_bandSize, f_accepted, f_blamed, f_prefixLength, f_tunedFresh, f_rangeLow, f_rangeHigh, f_scanAt, (nI F), (nI Cn), f_scanSize, f_scanPins, a_limits, a_ops, a_factors, a_given, a_subs, a_pointX, a_numberAt, a_cells, a_seen, a_distances, a_matrix, a_prefix, a_prefixFrom, a_prefixTo, a_tunedOrder, a_tunedKey, a_toX, a_toZ, a_sysCoef, a_sysBound, a_sysCount, a_cand, a_hullLow, a_hullHigh, a_spanLow, a_spanHigh, a_cursor, a_limit, a_pin, a_echelon, a_pivot) := by
  refine ⟨D + 1, ?_⟩
  have hpc : ∀ r, r ≤ D → 0 ≤ pcod x r ∧ (r = 0 → pcod x r < 1) ∧ (r = 1 → pcod x r < 8) ∧ (r = 2 → pcod x r < 64) ∧ (r = 3 → pcod x r < 512) := by
    intro r hr
    have e0 : pcod x 0 = 0 := rfl
    have e1 : pcod x 1 = pcod x 0 * 8 + x 0 := rfl
    have e2 : pcod x 2 = pcod x 1 * 8 + x 1 := rfl
    have e3 : pcod x 3 = pcod x 2 * 8 + x 2 := rfl
    have h0 := hin 0 (by omega)
    have h1 := hin 1 (by omega)
    rcases (show r = 0 ∨ r = 1 ∨ r = 2 ∨ r = 3 by omega) with rfl | rfl | rfl | rfl
    · omega
    · omega
    · omega
    · have h2 := hin 2 (by omega)
      omega
  have go : ∀ d r : Nat, r + d = D → wX_locate_4 post (nI D) (nI S) f_arraySide f_statements f_sealed f_points f_distanceCount f_bandFirst f_bandCount f_bandSize f_accepted f_blamed f_prefixLength f_tunedFresh f_rangeLow f_rangeHigh f_scanAt (nI F) (nI Cn) f_scanSize f_scanPins a_limits a_ops a_factors a_given a_subs a_pointX a_numberAt a_cells a_seen a_distances a_matrix a_prefix a_prefixFrom a_prefixTo a_tunedOrder a_tunedKey a_toX a_toZ a_sysCoef a_sysBound a_sysCount a_cand a_hullLow a_hullHigh a_spanLow a_spanHigh a_cursor a_limit a_pin a_echelon a_pivot (d + 1) (zI (pcod x r)) (nI r) := by
    intro d
    induction d with
    | zero =>
      intro r hr
      cases (show r = D by omega)
      refine br_t (nI_le (by omega) (by omega)) (pk_eq D 2 (fun h => ?_) (fun h => ?_))
      · subst h
        have b := hpc 2 (by omega)
        rw [if_pos rfl] at K
        refine nm_r (e' := zI (pcod x 2 * 8)) (by rw [show (8 : Int32) = zI 8 from by decide, zI_mul]) ⟨vx_z (by omega) (by omega) (by omega), ?_⟩
        rw [zI_cl (by omega) (by omega)]; exact K
      · cases (show D = 3 by omega)
        have b := hpc 3 (by omega)
        rw [if_neg (by omega)] at K
        refine ⟨vx_z (by omega) (by omega) (by omega), ?_⟩
        rw [zI_cl (by omega) (by omega)]; exact K
    | succ d ih =>
      intro r hr
      refine br_f (nI_ge (by omega) (by omega)) ⟨D + 1, ?_⟩
      have go2 : ∀ d' v : Nat, v + d' = D → wX_locate_17 post (wX_locate_4 post (nI D) (nI S) f_arraySide f_statements f_sealed f_points f_distanceCount f_bandFirst f_bandCount f_bandSize f_accepted f_blamed f_prefixLength f_tunedFresh f_rangeLow f_rangeHigh f_scanAt (nI F) (nI Cn) f_scanSize f_scanPins a_limits a_ops a_factors a_given a_subs a_pointX a_numberAt a_cells a_seen a_distances a_matrix a_prefix a_prefixFrom a_prefixTo a_tunedOrder a_tunedKey a_toX a_toZ a_sysCoef a_sysBound a_sysCount a_cand a_hullLow a_hullHigh a_spanLow a_spanHigh a_cursor a_limit a_pin a_echelon a_pivot (d + 1)) (zI (pcod x r)) (nI r) (nI D) (nI S) f_arraySide f_statements f_sealed f_points f_distanceCount f_bandFirst f_bandCount f_bandSize f_accepted f_blamed f_prefixLength f_tunedFresh f_rangeLow f_rangeHigh f_scanAt (nI F) (nI Cn) f_scanSize f_scanPins a_limits a_ops a_factors a_given a_subs a_pointX a_numberAt a_cells a_seen a_distances a_matrix a_prefix a_prefixFrom a_prefixTo a_tunedOrder a_tunedKey a_toX a_toZ a_sysCoef a_sysBound a_sysCount a_cand a_hullLow a_hullHigh a_spanLow a_spanHigh a_cursor a_limit a_pin a_echelon a_pivot (d' + 1) (zI (dtp v (fun u => X (r * 3 + u)) (fun v => c (pl F Cn v)))) (nI v) := by
        intro d'
        induction d' with
        | zero =>
          intro v hv
          cases (show v = D by omega)
          have e : dtp D (fun u => X (r * 3 + u)) (fun v => c (pl F Cn v)) = x r := hx r (by omega)
          have b := hin r (by omega)
          rw [e]
          refine br_t (nI_le (by omega) (by omega)) (br_f ?_ (br_t ?_ (nm_r (e' := zI (pcod x (r + 1))) (by rw [show (8 : Int32) = zI 8 from by decide, zI_mul, zI_add]; rfl) (nm_r (nI_1 r) (ih (r + 1) (by omega))))))
          · rw [zI_0, zI_lt (by omega) (by omega) (by omega) (by omega)]; omega
          · rw [zI_n, zI_lt (by omega) (by omega) (by omega) (by omega)]; omega
        | succ d' ih' =>
          intro v hv
          have e1 : nI r * 3 + nI v = nI (r * 3 + v) := by rw [nx_m3, nI_add]
          have c1 : (nI r * 3 + nI v).toNatClampNeg = r * 3 + v := cx_n _ e1 (by omega)
          have h47 : ∀ z0 : Int32, z0 = nI (pl F Cn v) → wX_locate_47 post (wX_locate_4 post (nI D) (nI S) f_arraySide f_statements f_sealed f_points f_distanceCount f_bandFirst f_bandCount f_bandSize f_accepted f_blamed f_prefixLength f_tunedFresh f_rangeLow f_rangeHigh f_scanAt (nI F) (nI Cn) f_scanSize f_scanPins a_limits a_ops a_factors a_given a_subs a_pointX a_numberAt a_cells a_seen a_distances a_matrix a_prefix a_prefixFrom a_prefixTo a_tunedOrder a_tunedKey a_toX a_toZ a_sysCoef a_sysBound a_sysCount a_cand a_hullLow a_hullHigh a_spanLow a_spanHigh a_cursor a_limit a_pin a_echelon a_pivot (d + 1)) (wX_locate_17 post (wX_locate_4 post (nI D) (nI S) f_arraySide f_statements f_sealed f_points f_distanceCount f_bandFirst f_bandCount f_bandSize f_accepted f_blamed f_prefixLength f_tunedFresh f_rangeLow f_rangeHigh f_scanAt (nI F) (nI Cn) f_scanSize f_scanPins a_limits a_ops a_factors a_given a_subs a_pointX a_numberAt a_cells a_seen a_distances a_matrix a_prefix a_prefixFrom a_prefixTo a_tunedOrder a_tunedKey a_toX a_toZ a_sysCoef a_sysBound a_sysCount a_cand a_hullLow a_hullHigh a_spanLow a_spanHigh a_cursor a_limit a_pin a_echelon a_pivot (d + 1)) (zI (pcod x r)) (nI r) (nI D) (nI S) f_arraySide f_statements f_sealed f_points f_distanceCount f_bandFirst f_bandCount f_bandSize f_accepted f_blamed f_prefixLength f_tunedFresh f_rangeLow f_rangeHigh f_scanAt (nI F) (nI Cn) f_scanSize f_scanPins a_limits a_ops a_factors a_given a_subs a_pointX a_numberAt a_cells a_seen a_distances a_matrix a_prefix a_prefixFrom a_prefixTo a_tunedOrder a_tunedKey a_toX a_toZ a_sysCoef a_sysBound a_sysCount a_cand a_hullLow a_hullHigh a_spanLow a_spanHigh a_cursor a_limit a_pin a_echelon a_pivot (d' + 1)) (zI (pcod x r)) (nI r) (zI (dtp v (fun u => X (r * 3 + u)) (fun v => c (pl F Cn v)))) (nI v) z0 (nI D) (nI S) f_arraySide f_statements f_sealed f_points f_distanceCount f_bandFirst f_bandCount f_bandSize f_accepted f_blamed f_prefixLength f_tunedFresh f_rangeLow f_rangeHigh f_scanAt (nI F) (nI Cn) f_scanSize f_scanPins a_limits a_ops a_factors a_given a_subs a_pointX a_numberAt a_cells a_seen a_distances a_matrix a_prefix a_prefixFrom a_prefixTo a_tunedOrder a_tunedKey a_toX a_toZ a_sysCoef a_sysBound a_sysCount a_cand a_hullLow a_hullHigh a_spanLow a_spanHigh a_cursor a_limit a_pin a_echelon a_pivot := by
            intro z0 hz
            subst hz
            have hp : pl F Cn v < 6 := by unfold pl; split <;> omega
            have cp : (nI (pl F Cn v)).toNatClampNeg = pl F Cn v := nI_clamp (by omega)
            refine ⟨vx_n _ e1 (by omega) (by omega), vp_in_nI hp (by omega), nm_r (e' := zI (dtp (v + 1) (fun u => X (r * 3 + u)) (fun v => c (pl F Cn v)))) ?_ (nm_r (nI_1 v) (ih' (v + 1) (by omega)))⟩
            rw [c1, cp, hX _ (by omega), hcu _ hp, zI_mul, zI_add]; rfl
          refine br_f (nI_ge (by omega) (by omega)) (pk_le F v (fun h => h47 _ ?_) (fun h => h47 _ ?_))
          · rw [nI_add]; exact congrArg nI (by unfold pl; rw [if_neg (by omega)])
          · exact congrArg nI (by unfold pl; rw [if_pos h])
      exact go2 D 0 (by omega)
  exact go D 0 (by omega)
theorem xl_num {post : Int32 → Prop} {X c B : Nat → Int} {P : Nat} (hD : D = 2 ∨ D = 3) (hS : S ≤ 8) (hF : F + Cn ≤ D) (hX : ∀ j, j < 9 → a_toX j = zI (X j)) (hcu : ∀ j, j < 6 → a_cursor j = zI (c j))
    (hp : pts_ok D S B P a_pointX a_numberAt) (hN : nest D S B (xr X D (fun v => c (pl F Cn v))))
    (K : ∀ q, q < P → (∀ l, l < D → ptx a_pointX q l = xr X D (fun v => c (pl F Cn v)) l) → post (nI q)) : wpX_locate post ((nI D), (nI S), f_arraySide, f_statements, f_sealed, f_points, f_distanceCount, f_bandFirst, f_bandCount, f_bandSize, f_accepted, f_blamed, f_prefixLength, f_tunedFresh, f_rangeLow, f_rangeHigh, f_scanAt, (nI F), (nI Cn), f_scanSize, f_scanPins, a_limits, a_ops, a_factors, a_given, a_subs, a_pointX, a_numberAt, a_cells, a_seen, a_distances, a_matrix, a_prefix, a_prefixFrom, a_prefixTo, a_tunedOrder, a_tunedKey, a_toX, a_toZ, a_sysCoef, a_sysBound, a_sysCount, a_cand, a_hullLow, a_hullHigh, a_spanLow, a_spanHigh, a_cursor, a_limit, a_pin, a_echelon, a_pivot) := by
  obtain ⟨q, hq, he⟩ := hp.2.2.1 _ hN
  have hq' := hp.2.1 q hq
  refine xl_locate (x := ptx a_pointX q) hD hS hF hX hcu (fun r hr => (he r hr).symm) (fun r hr => hq'.2.1 r (by omega)) ?_
  have e : (if D = 2 then pcod (ptx a_pointX q) 2 * 8 else pcod (ptx a_pointX q) 3) = cod (ptx a_pointX q) := by
    have e0 : pcod (ptx a_pointX q) 0 = 0 := rfl
    have e1 : pcod (ptx a_pointX q) 1 = pcod (ptx a_pointX q) 0 * 8 + ptx a_pointX q 0 := rfl
    have e2 : pcod (ptx a_pointX q) 2 = pcod (ptx a_pointX q) 1 * 8 + ptx a_pointX q 1 := rfl
    have e3 : pcod (ptx a_pointX q) 3 = pcod (ptx a_pointX q) 2 * 8 + ptx a_pointX q 2 := rfl
    unfold cod
    rcases hD with rfl | rfl
    · have := hq'.2.2.1 rfl
      rw [if_pos rfl]; omega
    · rw [if_neg (by omega)]; omega
  rw [e, hq'.2.2.2]
  exact K q hq he
end
end
section
/-! generateTuned -/
def lexlt (L : Nat) (a b : Nat → Int) : Prop := ∃ m, m < L ∧ (∀ j, j < m → a j = b j) ∧ a m < b m
def pky (D F Cn Sz : Nat) (T : Nat → Int) (px : Nat → Int32) (p m : Nat) : Int := keyOf F Cn Sz (xr T D (ptx px p)) m
/-- ord lists the points sorted by their keys, key holds the keys -/
def tun_ok (L P : Nat) (Ky : Nat → Nat → Int) (ord key : Nat → Int32) : Prop :=
  ∃ o : Nat → Nat, (∀ n, n < P → o n < P ∧ ord n = nI (o n) ∧ ∀ m, m < L → key (n * 6 + m) = zI (Ky (o n) m)) ∧ (∀ n n', n < n' → n' < P → lexlt L (Ky (o n)) (Ky (o n')))
theorem lex_cg {L : Nat} {a b a' b' : Nat → Int} (ha : ∀ j, j < L → a j = a' j) (hb : ∀ j, j < L → b j = b' j) (h : lexlt L a b) : lexlt L a' b' := by
  obtain ⟨m, h1, h2, h3⟩ := h
  exact ⟨m, h1, fun j hj => by rw [← ha j (by omega), ← hb j (by omega)]; exact h2 j hj, by rw [← ha m h1, ← hb m h1]; exact h3⟩
theorem lex_irr {L : Nat} {a b : Nat → Int} (h : lexlt L a b) (he : ∀ j, j < L → a j = b j) : False := by
  obtain ⟨m, h1, _, h3⟩ := h
  have := he m h1
  omega
theorem key_cg {D F Cn Sz : Nat} (hF : F + Cn ≤ D) {z z' : Nat → Int} (h : ∀ l, l < D → z l = z' l) {m : Nat} (hm : m < D + Cn) : keyOf F Cn Sz z m = keyOf F Cn Sz z' m := by
  unfold keyOf
  split
  · rw [h m (by omega)]
  · rw [h (m - Cn) (by omega)]
theorem ctb_or {f g h : Nat → Bool} (hx : ∀ n, h n = true → f n = true ∨ g n = true) : ∀ n, ctb h n ≤ ctb f n + ctb g n := by
  intro n
  induction n with
  | zero => exact Nat.le_refl _
  | succ n ih =>
    have e1 : ctb h (n + 1) = ctb h n + (if h n then 1 else 0) := rfl
    have e2 : ctb f (n + 1) = ctb f n + (if f n then 1 else 0) := rfl
    have e3 : ctb g (n + 1) = ctb g n + (if g n then 1 else 0) := rfl
    have := hx n
    cases hh : h n
    · rw [hh] at e1; simp only [Bool.false_eq_true, if_false] at e1; omega
    · rw [hh] at e1; simp only [if_true] at e1
      rcases this hh with q | q
      · rw [q] at e2; simp only [if_true] at e2; omega
      · rw [q] at e3; simp only [if_true] at e3; omega
theorem ctb_one (k : Nat) : ∀ n, ctb (fun p => decide (p = k)) n ≤ 1 ∧ (n ≤ k → ctb (fun p => decide (p = k)) n = 0) := by
  intro n
  induction n with
  | zero => exact ⟨Nat.zero_le _, fun _ => rfl⟩
  | succ n ih =>
    by_cases h : n = k
    · rw [ctb_t (f := fun p => decide (p = k)) (decide_eq_true h)]
      exact ⟨by have := ih.2 (by omega); omega, fun h' => by omega⟩
    · rw [ctb_f (f := fun p => decide (p = k)) (decide_eq_false h)]
      exact ⟨ih.1, fun h' => ih.2 (by omega)⟩
theorem ctb_all {f : Nat → Bool} : ∀ n, (∀ p, p < n → f p = true) → ctb f n = n := by
  intro n
  induction n with
  | zero => intro _; rfl
  | succ n ih => intro h; rw [ctb_t (h n (by omega)), ih (fun p hp => h p (by omega))]
theorem ctb_none {f : Nat → Bool} : ∀ n, (∀ p, p < n → f p = false) → ctb f n = 0 := by
  intro n
  induction n with
  | zero => intro _; rfl
  | succ n ih => intro h; rw [ctb_f (h n (by omega)), ih (fun p hp => h p (by omega))]
def hit (o : Nat → Nat) : Nat → Nat → Bool
  | 0, _ => false
  | n + 1, p => hit o n p || decide (p = o n)
theorem hit_iff {o : Nat → Nat} : ∀ {n p : Nat}, hit o n p = true ↔ ∃ n', n' < n ∧ o n' = p := by
  intro n
  induction n with
  | zero => intro p; exact ⟨fun h => by simp [hit] at h, fun ⟨n', h, _⟩ => by omega⟩
  | succ n ih =>
    intro p
    show (hit o n p || decide (p = o n)) = true ↔ _
    rw [Bool.or_eq_true, ih, decide_eq_true_iff]
    refine ⟨fun h => ?_, fun ⟨n', h1, h2⟩ => ?_⟩
    · rcases h with ⟨n', h1, h2⟩ | h
      · exact ⟨n', by omega, h2⟩
      · exact ⟨n, by omega, h.symm⟩
    · by_cases x : n' = n
      · subst x; exact Or.inr h2.symm
      · exact Or.inl ⟨n', by omega, h2⟩
theorem hit_le (o : Nat → Nat) (P : Nat) : ∀ n, ctb (hit o n) P ≤ n := by
  intro n
  induction n with
  | zero => rw [ctb_none (f := hit o 0) P (fun p _ => rfl)]; omega
  | succ n ih =>
    have h1 := ctb_or (f := hit o n) (g := fun p => decide (p = o n)) (h := hit o (n + 1)) (fun p hp => by
      have : (hit o n p || decide (p = o n)) = true := hp
      rw [Bool.or_eq_true] at this
      exact this) P
    have h2 := (ctb_one (o n) P).1
    omega
/-- n values don't exhaust P > n numbers -/
theorem pigeon {n P : Nat} (h : n < P) (o : Nat → Nat) : ∃ p, p < P ∧ ∀ n', n' < n → o n' ≠ p := by
  apply Classical.byContradiction
  intro hno
  have hall : ∀ p, p < P → hit o n p = true := fun p hp => by
    apply Classical.byContradiction
    intro hn
    exact hno ⟨p, hp, fun n' h1 h2 => hn (hit_iff.mpr ⟨n', h1, h2⟩)⟩
  have h1 := ctb_all P hall
  have h2 := hit_le o P n
  omega
section
variable {D S P F Cn Sz : Nat} {f_arraySide f_statements f_sealed f_distanceCount f_bandFirst f_bandCount f_bandSize f_accepted f_blamed f_prefixLength f_tunedFresh f_scanAt : Int32} {f_rangeLow f_rangeHigh : Int64} {a_limits a_ops a_factors a_given a_subs a_pointX a_numberAt a_cells a_seen a_distances a_matrix a_prefix a_prefixFrom a_prefixTo a_tunedOrder a_tunedKey a_toX a_toZ a_sysCount a_hullLow a_hullHigh a_cursor a_limit a_pin a_echelon a_pivot : Nat → Int32} {a_sysCoef a_sysBound a_cand a_spanLow a_spanHigh : Nat → Int64}
variable {kl : Nat → Nat} {hL hH pn X T B : Nat → Int}
theorem xt_108 {post : SX → Prop} {J : Int32 → Int32 → Int32 → Int32 → Int32 → Int32 → Int32 → Int32 → Int32 → Int32 → Int32 → Int32 → Int32 → Int32 → Int32 → Int64 → Int64 → Int32 → Int32 → Int32 → Int32 → Int32 → (Nat → Int32) → (Nat → Int32) → (Nat → Int32) → (Nat → Int32) → (Nat → Int32) → (Nat → Int32) → (Nat → Int32) → (Nat → Int32) → (Nat → Int32) → (Nat → Int32) → (Nat → Int32) → (Nat → Int32) → (Nat → Int32) → (Nat → Int32) → (Nat → Int32) → (Nat → Int32) → (Nat → Int32) → (Nat → Int32) → (Nat → Int64) → (Nat → Int64) → (Nat → Int32) → (Nat → Int64) → (Nat → Int32) → (Nat → Int32) → (Nat → Int64) → (Nat → Int64) → (Nat → Int32) → (Nat → Int32) → (Nat → Int32) → (Nat → Int32) → (Nat → Int32) → Prop}
    {n L : Nat} {c : Nat → Int} (hn : n < 64) (hL6 : L ≤ 6) (hcu : ∀ j, j < 6 → a_cursor j = zI (c j))
    (K : ∀ key : Nat → Int32, (∀ n' m, n' < n → m < 6 → key (n' * 6 + m) = a_tunedKey (n' * 6 + m)) → (∀ m, m < L → key (n * 6 + m) = zI (c m)) → J (nI (n + 1)) (nI D) (nI S) f_arraySide f_statements f_sealed (nI P) f_distanceCount f_bandFirst f_bandCount f_bandSize f_accepted f_blamed f_prefixLength f_tunedFresh f_rangeLow f_rangeHigh f_scanAt (nI F) (nI Cn) (nI Sz) (nI 0) a_limits a_ops a_factors a_given a_subs a_pointX a_numberAt a_cells a_seen a_distances a_matrix a_prefix a_prefixFrom a_prefixTo a_tunedOrder key a_toX a_toZ a_sysCoef a_sysBound a_sysCount a_cand a_hullLow a_hullHigh a_spanLow a_spanHigh a_cursor a_limit a_pin a_echelon a_pivot) :
    ∃ n108 : Nat, wX_generateTuned_108 post J (nI L) (nI n) (nI D) (nI S) f_arraySide f_statements f_sealed (nI P) f_distanceCount f_bandFirst f_bandCount f_bandSize f_accepted f_blamed f_prefixLength f_tunedFresh f_rangeLow f_rangeHigh f_scanAt (nI F) (nI Cn) (nI Sz) (nI 0) n108 0 a_limits a_ops a_factors a_given a_subs a_pointX a_numberAt a_cells a_seen a_distances a_matrix a_prefix a_prefixFrom a_prefixTo a_tunedOrder a_tunedKey a_toX a_toZ a_sysCoef a_sysBound a_sysCount a_cand a_hullLow a_hullHigh a_spanLow a_spanHigh a_cursor a_limit a_pin a_echelon a_pivot := by
  refine loop_0 (fun i' i s => wX_generateTuned_108 post J (nI L) (nI n) (nI D) (nI S) f_arraySide f_statements f_sealed (nI P) f_distanceCount f_bandFirst f_bandCount f_bandSize f_accepted f_blamed f_prefixLength f_tunedFresh f_rangeLow f_rangeHigh f_scanAt (nI F) (nI Cn) (nI Sz) (nI 0) i' (nI i) a_limits a_ops a_factors a_given a_subs a_pointX a_numberAt a_cells a_seen a_distances a_matrix a_prefix a_prefixFrom a_prefixTo a_tunedOrder s a_toX a_toZ a_sysCoef a_sysBound a_sysCount a_cand a_hullLow a_hullHigh a_spanLow a_spanHigh a_cursor a_limit a_pin a_echelon a_pivot)
    (fun i s => (∀ n' m, n' < n → m < 6 → s (n' * 6 + m) = a_tunedKey (n' * 6 + m)) ∧ ∀ m, m < i → s (n * 6 + m) = zI (c m)) L a_tunedKey ⟨fun _ _ _ _ => rfl, fun m hm => by omega⟩ ?_ ?_
  · intro i' s hs
    exact br_t (nI_le (by omega) (by omega)) (nm_r (nI_1 n) (K s hs.1 hs.2))
  · intro i' i s hi hs hK
    have e : nI n * 6 + nI i = nI (n * 6 + i) := by rw [nx_m6, nI_add]
    have ce : (nI n * 6 + nI i).toNatClampNeg = n * 6 + i := cx_n _ e (by omega)
    have ci : (nI i).toNatClampNeg = i := nI_clamp (by omega)
    refine br_f (nI_ge hi (by omega)) ⟨vp_in_nI (by omega) (by omega), vx_n _ e (by omega) (by omega), nm_r (e' := upd s (n * 6 + i) (zI (c i))) (by rw [ce, ci, hcu i (by omega)]) (nm_r (nI_1 i) (hK _ ⟨fun n' m h1 h2 => ?_, fun m hm => ?_⟩))⟩
    · rw [pk_un (by omega)]; exact hs.1 n' m h1 h2
    · by_cases x : m = i
      · subst x; exact pk_us
      · rw [pk_un (by omega)]; exact hs.2 m (by omega)
theorem xt_61 {post : SX → Prop} (hS : S ≤ 8) (ok : sc_ok D F Cn Sz 0 a_sysCoef a_sysBound a_sysCount a_hullLow a_hullHigh a_pin kl hL hH pn) (hX : ∀ j, j < 9 → a_toX j = zI (X j)) (hi : inv_ok D X T)
    (hp : pts_ok D S B P a_pointX a_numberAt)
    (hin : ∀ z, nest D S B (xr X D z) → sD (D + Cn) (sIn F Cn Sz 0 a_sysCoef a_sysBound kl hL hH pn) (keyOf F Cn Sz z))
    (hout : ∀ c, sD (D + Cn) (sIn F Cn Sz 0 a_sysCoef a_sysBound kl hL hH pn) c → nest D S B (xr X D (fun v => c (pl F Cn v))) ∧ ∀ m, m < D + Cn → c m = keyOf F Cn Sz (fun v => c (pl F Cn v)) m)
    (K : ∀ (ra rb : Int64) (at' : Int32) (sl sh : Nat → Int64) (cu li ord key : Nat → Int32), tun_ok (D + Cn) P (pky D F Cn Sz T a_pointX) ord key →
      post ((nI D), (nI S), f_arraySide, f_statements, f_sealed, (nI P), f_distanceCount, f_bandFirst, f_bandCount, f_bandSize, f_accepted, f_blamed, f_prefixLength, 1, ra, rb, at', (nI F), (nI Cn), (nI Sz), (nI 0), a_limits, a_ops, a_factors, a_given, a_subs, a_pointX, a_numberAt, a_cells, a_seen, a_distances, a_matrix, a_prefix, a_prefixFrom, a_prefixTo, ord, key, a_toX, a_toZ, a_sysCoef, a_sysBound, a_sysCount, a_cand, a_hullLow, a_hullHigh, sl, sh, cu, li, a_pin, a_echelon, a_pivot)) :
    ∀ (d n a : Nat) (ra rb : Int64) (sl sh : Nat → Int64) (cu li ord key : Nat → Int32) (cur lim : Nat → Int) (o : Nat → Nat), n + d = P →
      (∀ j, j < 6 → cu j = zI (cur j)) → (∀ j, j < 6 → li j = zI (lim j)) → sInv (D + Cn) (sIn F Cn Sz 0 a_sysCoef a_sysBound kl hL hH pn) a cur lim → smu (sW F Cn Sz 0 (D + Cn)) cur lim a < 67000000 →
      (∀ n', n' < n → o n' < P ∧ ord n' = nI (o n') ∧ ∀ m, m < D + Cn → key (n' * 6 + m) = zI (pky D F Cn Sz T a_pointX (o n') m)) →
      (∀ n1 n2, n1 < n2 → n2 < n → lexlt (D + Cn) (pky D F Cn Sz T a_pointX (o n1)) (pky D F Cn Sz T a_pointX (o n2))) →
      (∀ n' c, n' < n → sRem (D + Cn) (sIn F Cn Sz 0 a_sysCoef a_sysBound kl hL hH pn) a cur c → lexlt (D + Cn) (pky D F Cn Sz T a_pointX (o n')) c) →
      (∀ c, sD (D + Cn) (sIn F Cn Sz 0 a_sysCoef a_sysBound kl hL hH pn) c → sRem (D + Cn) (sIn F Cn Sz 0 a_sysCoef a_sysBound kl hL hH pn) a cur c ∨ ∃ n', n' < n ∧ ∀ j, j < D + Cn → c j = pky D F Cn Sz T a_pointX (o n') j) →
      wX_generateTuned_61 post (nI (D + Cn)) (d + 1) (nI n) (nI D) (nI S) f_arraySide f_statements f_sealed (nI P) f_distanceCount f_bandFirst f_bandCount f_bandSize f_accepted f_blamed f_prefixLength f_tunedFresh ra rb (sAt a) (nI F) (nI Cn) (nI Sz) (nI 0) a_limits a_ops a_factors a_given a_subs a_pointX a_numberAt a_cells a_seen a_distances a_matrix a_prefix a_prefixFrom a_prefixTo ord key a_toX a_toZ a_sysCoef a_sysBound a_sysCount a_cand a_hullLow a_hullHigh sl sh cu li a_pin a_echelon a_pivot := by
  have hD := ok.1
  have hFC := ok.2.1
  have hPb := hp.1
  intro d
  induction d with
  | zero =>
    intro n a ra rb sl sh cu li ord key cur lim o hn hcu hli hI hM h1 h2 h3 h4
    cases (show n = P by omega)
    exact br_t (nI_le (by omega) (by omega)) (K _ _ _ _ _ _ _ _ _ ⟨o, h1, h2⟩)
  | succ d ih =>
    intro n a ra rb sl sh cu li ord key cur lim o hn hcu hli hI hM h1 h2 h3 h4
    refine br_f (nI_ge (by omega) (by omega)) (br_f (nI_ge (b := 64) (by omega) (by omega)) ?_)
    refine xa_adv (W := sW F Cn Sz 0 (D + Cn)) ok sIn_cg (sIn_bd ok) (sIn_wd ok) hcu hli hI hM ?_ ?_
    · intro ra' rb' sl' sh' cu' li' cur' lim' hcu' hli' hI' hD' hM' hR
      obtain ⟨hN, hkey⟩ := hout cur' hD'
      refine br_f (by decide) (xl_num hD hS hFC hX hcu' hp hN (fun q hq hx => ?_))
      have hky : ∀ m, m < D + Cn → cur' m = pky D F Cn Sz T a_pointX q m := fun m hm => by
        rw [hkey m hm]
        refine key_cg hFC (fun l hl => ?_) hm
        have e := hi.1 (fun v => cur' (pl F Cn v)) l hl
        rw [← e]
        exact dtp_congr (fun _ _ => rfl) (fun v hv => (hx v hv).symm)
      have cnn : (nI n).toNatClampNeg = n := nI_clamp (by omega)
      refine br_t (nI_pos' (by omega)) ⟨vp_in_nI (by omega) (by omega), nm_r (e' := upd ord n (nI q)) (by rw [cnn]) (xt_108 (c := cur') (by omega) (by omega) hcu' (fun key' hk1 hk2 => ?_))⟩
      refine ih (n + 1) (D + Cn) _ _ _ _ _ _ _ _ cur' lim' (fun j => if j = n then q else o j) (by omega) hcu' hli' hI' hM' (fun n' hn' => ?_) (fun n1 n2 hn1 hn2 => ?_) (fun n' c hn' hc => ?_) (fun c hc => ?_)
      · by_cases x : n' = n
        · subst x
          rw [if_pos rfl]
          exact ⟨hq, pk_us, fun m hm => by rw [hk2 m hm, hky m hm]⟩
        · rw [if_neg x]
          obtain ⟨g1, g2, g3⟩ := h1 n' (by omega)
          exact ⟨g1, (pk_un x).trans g2, fun m hm => by rw [hk1 n' m (by omega) (by omega)]; exact g3 m hm⟩
      · rw [if_neg (show n1 ≠ n by omega)]
        by_cases x : n2 = n
        · subst x
          rw [if_pos rfl]
          exact lex_cg (fun _ _ => rfl) hky (h3 n1 cur' hn1 ((hR cur').mpr (Or.inl ⟨hD', fun _ _ => rfl⟩)))
        · rw [if_neg x]
          exact h2 n1 n2 hn1 (by omega)
      · by_cases x : n' = n
        · subst x
          rw [if_pos rfl]
          obtain ⟨_, m, hm, hj, hlt⟩ := hc
          exact lex_cg hky (fun _ _ => rfl) ⟨m, hm, fun j hj' => (hj j hj').symm, hlt⟩
        · rw [if_neg x]
          exact h3 n' c (by omega) ((hR c).mpr (Or.inr hc))
      · rcases h4 c hc with h | ⟨n', hn', he⟩
        · rcases (hR c).mp h with ⟨_, he⟩ | h
          · exact Or.inr ⟨n, by omega, fun j hj => by rw [if_pos rfl, he j hj, hky j hj]⟩
          · exact Or.inl h
        · exact Or.inr ⟨n', by omega, fun j hj => by rw [if_neg (show n' ≠ n by omega)]; exact he j hj⟩
    · intro ra' rb' sl' sh' cu' li' cur' lim' hcu' hli' hno
      exfalso
      obtain ⟨p, hp1, hp2⟩ := pigeon (show n < P by omega) o
      have hpt := (hp.2.1 p hp1).1
      -- the key of p is still to come
      have hz : nest D S B (xr X D (xr T D (ptx a_pointX p))) := (nest_cg (by omega) (fun l hl => hi.2 _ l hl)).mpr hpt
      have hd := hin _ hz
      rcases h4 _ hd with h | ⟨n', hn', he⟩
      · exact hno _ h
      · -- equal keys: equal points
        have hz : ∀ l, l < D → xr T D (ptx a_pointX p) l = xr T D (ptx a_pointX (o n')) l := fun l hl => by
          have e := he (pl F Cn l) (by unfold pl; split <;> omega)
          unfold pky at e
          rw [key_pl, key_pl] at e
          exact e
        have hx : ∀ l, l < D → ptx a_pointX p l = ptx a_pointX (o n') l := fun l hl => by
          rw [← hi.2 (ptx a_pointX p) l hl, ← hi.2 (ptx a_pointX (o n')) l hl]
          exact dtp_congr (fun _ _ => rfl) hz
        have ho := (h1 n' hn').1
        have hc : cod (ptx a_pointX p) = cod (ptx a_pointX (o n')) := by
          unfold cod
          rw [hx 0 (by omega), hx 1 (by omega)]
          rcases hD with rfl | rfl
          · rw [(hp.2.1 p hp1).2.2.1 rfl, (hp.2.1 (o n') ho).2.2.1 rfl]
          · rw [hx 2 (by omega)]
        have hne := hp2 n' hn'
        rcases Nat.lt_or_gt_of_ne hne with h | h
        · have := hp.2.2.2 _ _ h hp1; omega
        · have := hp.2.2.2 _ _ h ho; omega
end
end
section
def tsz (Cn Bs : Nat) : Nat := if Cn = 0 then 1 else Bs
/-- the matrix of the tuning: small, with determinant 1 or -1, padded when the depth is 2 -/
def mat_ok (D : Nat) (T : Nat → Int) (m : Nat → Int32) : Prop := (∀ j, j < 9 → m j = zI (T j) ∧ -8 ≤ T j ∧ T j ≤ 8) ∧ (dtr T 3 = 1 ∨ dtr T 3 = -1) ∧ (D = 2 → T 2 = 0 ∧ T 5 = 0 ∧ T 6 = 0 ∧ T 7 = 0 ∧ T 8 = 1)
def band_ok (D F Cn Bs : Nat) : Prop := F + Cn ≤ D ∧ F < D ∧ ((Cn = 0 ∧ F = 0 ∧ Bs = 0) ∨ (1 ≤ Cn ∧ 2 ≤ Bs ∧ Bs ≤ 8))
def adjX (T : Nat → Int) : Nat → Int := fun j => cof T (j % 3) (j / 3) * dtr T 3
theorem adjX_e {T : Nat → Int} {r c : Nat} (hc : c < 3) : adjX T (r * 3 + c) = cof T c r * dtr T 3 := by
  unfold adjX
  rw [show (r * 3 + c) % 3 = c by omega, show (r * 3 + c) / 3 = r by omega]
theorem adjX_b {T : Nat → Int} (hb : ∀ j, j < 9 → -8 ≤ T j ∧ T j ≤ 8) (hd : dtr T 3 = 1 ∨ dtr T 3 = -1) (j : Nat) : -128 ≤ adjX T j ∧ adjX T j ≤ 128 := by
  have := cof_b hb (j % 3) (j / 3)
  unfold adjX
  rcases hd with h | h <;> rw [h] <;> omega
theorem mat_inv {D : Nat} {T : Nat → Int} {m : Nat → Int32} (hD : D = 2 ∨ D = 3) (h : mat_ok D T m) : inv_ok D (adjX T) T := by
  refine inv_of hD (adj_I rfl h.2.1 (fun r c _ hc => adjX_e hc)) (fun e => ?_)
  obtain ⟨h2, h5, h6, h7, _⟩ := h.2.2 e
  refine ⟨?_, ?_, ?_, ?_⟩
  · show (T 1 * T 5 - T 2 * T 4) * _ = 0
    rw [h2, h5, Int.mul_zero, Int.zero_mul]; omega
  · show (T 2 * T 3 - T 0 * T 5) * _ = 0
    rw [h2, h5, Int.mul_zero, Int.zero_mul]; omega
  · show (T 3 * T 7 - T 4 * T 6) * _ = 0
    rw [h6, h7, Int.mul_zero, Int.mul_zero]; omega
  · show (T 6 * T 1 - T 7 * T 0) * _ = 0
    rw [h6, h7, Int.zero_mul, Int.zero_mul]; omega
section
variable {f_depth f_side f_arraySide f_statements f_sealed f_points f_distanceCount f_bandFirst f_bandCount f_bandSize f_accepted f_blamed f_prefixLength f_tunedFresh f_scanAt f_scanFirst f_scanCount f_scanSize f_scanPins : Int32} {f_rangeLow f_rangeHigh : Int64} {a_limits a_ops a_factors a_given a_subs a_pointX a_numberAt a_cells a_seen a_distances a_matrix a_prefix a_prefixFrom a_prefixTo a_tunedOrder a_tunedKey a_toX a_toZ a_sysCount a_hullLow a_hullHigh a_cursor a_limit a_pin a_echelon a_pivot : Nat → Int32} {a_sysCoef a_sysBound a_cand a_spanLow a_spanHigh : Nat → Int64}
theorem xt_shape {post : SX → Prop} {p0 p1 p2 : Int32} (h : post (f_depth, f_side, f_arraySide, f_statements, f_sealed, f_points, f_distanceCount, f_bandFirst, f_bandCount, f_bandSize, f_accepted, f_blamed, f_prefixLength, f_tunedFresh, f_rangeLow, f_rangeHigh, f_scanAt, p0, p1, p2, 0, a_limits, a_ops, a_factors, a_given, a_subs, a_pointX, a_numberAt, a_cells, a_seen, a_distances, a_matrix, a_prefix, a_prefixFrom, a_prefixTo, a_tunedOrder, a_tunedKey, a_toX, a_toZ, a_sysCoef, a_sysBound, a_sysCount, a_cand, a_hullLow, a_hullHigh, a_spanLow, a_spanHigh, a_cursor, a_limit, a_pin, a_echelon, a_pivot)) : wpX_shapeScan post (f_depth, f_side, f_arraySide, f_statements, f_sealed, f_points, f_distanceCount, f_bandFirst, f_bandCount, f_bandSize, f_accepted, f_blamed, f_prefixLength, f_tunedFresh, f_rangeLow, f_rangeHigh, f_scanAt, f_scanFirst, f_scanCount, f_scanSize, f_scanPins, a_limits, a_ops, a_factors, a_given, a_subs, a_pointX, a_numberAt, a_cells, a_seen, a_distances, a_matrix, a_prefix, a_prefixFrom, a_prefixTo, a_tunedOrder, a_tunedKey, a_toX, a_toZ, a_sysCoef, a_sysBound, a_sysCount, a_cand, a_hullLow, a_hullHigh, a_spanLow, a_spanHigh, a_cursor, a_limit, a_pin, a_echelon, a_pivot) p0 p1 p2 := h
end
section
variable {D S P F Cn Bs : Nat} {f_arraySide f_statements f_sealed f_distanceCount f_accepted f_blamed f_prefixLength f_tunedFresh f_scanAt f_scanFirst f_scanCount f_scanSize f_scanPins : Int32} {f_rangeLow f_rangeHigh : Int64} {a_limits a_ops a_factors a_given a_subs a_pointX a_numberAt a_cells a_seen a_distances a_matrix a_prefix a_prefixFrom a_prefixTo a_tunedOrder a_tunedKey a_toX a_toZ a_sysCount a_hullLow a_hullHigh a_cursor a_limit a_pin a_echelon a_pivot : Nat → Int32} {a_sysCoef a_sysBound a_cand a_spanLow a_spanHigh : Nat → Int64}
variable {T B : Nat → Int}
theorem xt_gen {post : SX → Prop} (hD : D = 2 ∨ D = 3) (hS : 2 ≤ S ∧ S ≤ 8) (hbn : band_ok D F Cn Bs) (hT : mat_ok D T a_matrix) (hB : ∀ j, j < 18 → a_limits j = zI (B j)) (hBb : lim_ok B)
    (hp : pts_ok D S B P a_pointX a_numberAt)
    (hfr : f_tunedFresh ≠ 0 → tun_ok (D + Cn) P (pky D F Cn (tsz Cn Bs) T a_pointX) a_tunedOrder a_tunedKey)
    (K : ∀ (fr : Int32) (ra rb : Int64) (q1 q2 q3 q4 q5 : Int32) (tx tz : Nat → Int32) (sc sb : Nat → Int64) (sk : Nat → Int32) (cd : Nat → Int64) (hl hh : Nat → Int32) (sl sh : Nat → Int64) (cu li ord key : Nat → Int32), fr ≠ 0 →
      tun_ok (D + Cn) P (pky D F Cn (tsz Cn Bs) T a_pointX) ord key →
      post ((nI D), (nI S), f_arraySide, f_statements, f_sealed, (nI P), f_distanceCount, (nI F), (nI Cn), (nI Bs), f_accepted, f_blamed, f_prefixLength, fr, ra, rb, q1, q2, q3, q4, q5, a_limits, a_ops, a_factors, a_given, a_subs, a_pointX, a_numberAt, a_cells, a_seen, a_distances, a_matrix, a_prefix, a_prefixFrom, a_prefixTo, ord, key, tx, tz, sc, sb, sk, cd, hl, hh, sl, sh, cu, li, a_pin, a_echelon, a_pivot)) :
    wpX_generateTuned post ((nI D), (nI S), f_arraySide, f_statements, f_sealed, (nI P), f_distanceCount, (nI F), (nI Cn), (nI Bs), f_accepted, f_blamed, f_prefixLength, f_tunedFresh, f_rangeLow, f_rangeHigh, f_scanAt, f_scanFirst, f_scanCount, f_scanSize, f_scanPins, a_limits, a_ops, a_factors, a_given, a_subs, a_pointX, a_numberAt, a_cells, a_seen, a_distances, a_matrix, a_prefix, a_prefixFrom, a_prefixTo, a_tunedOrder, a_tunedKey, a_toX, a_toZ, a_sysCoef, a_sysBound, a_sysCount, a_cand, a_hullLow, a_hullHigh, a_spanLow, a_spanHigh, a_cursor, a_limit, a_pin, a_echelon, a_pivot) := by
  refine br_c (fun h0 => ?_) (fun h0 => K _ _ _ _ _ _ _ _ _ _ _ _ _ _ _ _ _ _ _ _ _ _ h0 (hfr h0))
  refine xi_inv (T := T) (fun j hj => (hT.1 j hj).1) (fun tx tz htz => ?_)
  have hTb : ∀ j, j < 9 → -8 ≤ T j ∧ T j ≤ 8 := fun j hj => (hT.1 j hj).2
  have hX : ∀ j, j < 9 → tx j = zI (adjX T j) := fun j hj => by
    have := (htz (j / 3) (j % 3) (by omega) (by omega)).1
    rw [show j / 3 * 3 + j % 3 = j by omega] at this
    exact this
  have hZ : ∀ j, j < 9 → tz j = zI (T j) := fun j hj => by
    have := (htz (j / 3) (j % 3) (by omega) (by omega)).2
    rw [show j / 3 * 3 + j % 3 = j by omega] at this
    exact this
  have hXb : ∀ j, j < 9 → -128 ≤ adjX T j ∧ adjX T j ≤ 128 := fun j _ => adjX_b hTb hT.2.1 j
  have hi := mat_inv hD hT
  have hz0 : nest D S B (xr (adjX T) D (xr T D (ptx a_pointX 0))) := (nest_cg (by omega) (fun l hl => hi.2 _ l hl)).mpr (hp.2.1 0 (by have := hp.1; omega)).1
  have hSz : 1 ≤ tsz Cn Bs ∧ tsz Cn Bs ≤ 8 := by
    unfold tsz
    rcases hbn.2.2 with h | h
    · rw [if_pos h.1]; omega
    · rw [if_neg (by omega)]; omega
  have h27 : ∀ z0 : Int32, z0 = nI (tsz Cn Bs) → wX_generateTuned_27 post z0 (nI D) (nI S) f_arraySide f_statements f_sealed (nI P) f_distanceCount (nI F) (nI Cn) (nI Bs) f_accepted f_blamed f_prefixLength f_tunedFresh f_rangeLow f_rangeHigh f_scanAt f_scanFirst f_scanCount f_scanSize f_scanPins a_limits a_ops a_factors a_given a_subs a_pointX a_numberAt a_cells a_seen a_distances a_matrix a_prefix a_prefixFrom a_prefixTo a_tunedOrder a_tunedKey tx tz a_sysCoef a_sysBound a_sysCount a_cand a_hullLow a_hullHigh a_spanLow a_spanHigh a_cursor a_limit a_pin a_echelon a_pivot := by
    intro z0 hz
    subst hz
    refine xt_shape (xb_build (X := adjX T) (Z := T) (B := B) hD hS hX hXb hZ (fun j hj => by have := hTb j hj; omega) hB hBb hz0 ?_)
    intro cd' sc' sb' sk' hL' hH' hsys hhull
    obtain ⟨kl, hL, hH, ok, hin, hout⟩ := sc_mk (F := F) (Cn := Cn) (Sz := tsz Cn Bs) (Pn := 0) (pin := a_pin) (pn := fun _ => 0) hD hS hi hsys hhull (fun j hj => by have := hTb j hj; omega) (Or.inl hTb) hbn.1 hbn.2.1 hSz (by omega) (fun l hl => by omega)
    refine xa_start (W := sW F Cn (tsz Cn Bs) 0 (D + Cn)) ok (sIn_bd ok) sIn_cg (sIn_wd ok) ?_
    intro ra rb sl sh cu li cur lim hcu hli hI hM hR
    refine nm_r (e' := nI (D + Cn)) (nI_add D Cn) ⟨P + 1, ?_⟩
    have hw := sW_0 hD hbn.1 hbn.2.1 hSz
    refine xt_61 (X := adjX T) (T := T) (B := B) hS.2 ok hX hi hp (fun z hz => hin z hz (fun l hl => by omega)) (fun c hc => ⟨(hout c hc).1, (hout c hc).2.2⟩) ?_ P 0 1 ra rb sl sh cu li _ _ cur lim (fun _ => 0) (by omega) hcu hli hI (by omega) (fun n' h => by omega) (fun _ _ _ h => by omega) (fun _ _ h => by omega) (fun c hc => Or.inl ((hR c).mp hc))
    intro ra rb at' sl sh cu li ord key ht
    exact K 1 ra rb at' _ _ _ _ tx tz sc' sb' sk' cd' hL' hH' sl sh cu li ord key (by decide) ht
  have hCn : Cn ≤ 3 := by have := hbn.1; omega
  refine pk_le Cn 0 (fun h => h27 1 ?_) (fun h => h27 _ ?_)
  · unfold tsz; rw [if_pos (by omega)]; rfl
  · unfold tsz; rw [if_neg (by omega)]
end
end
section
/-! solvePins, markDistance -/
def av (Sb : Nat → Int) (base : Nat) (x : Nat → Int) : Int := Sb base * x 0 + Sb (base + 1) * x 1 + Sb (base + 2) * x 2 + Sb (base + 3)
theorem ptx_z (px : Nat → Int32) (q l : Nat) : px (q * 3 + l) = zI (ptx px q l) := zI_of _
section
variable {f_depth f_side f_arraySide f_statements f_sealed f_points f_distanceCount f_bandFirst f_bandCount f_bandSize f_accepted f_blamed f_prefixLength f_tunedFresh f_scanAt f_scanFirst f_scanCount f_scanSize f_scanPins : Int32} {f_rangeLow f_rangeHigh : Int64} {a_limits a_ops a_factors a_given a_subs a_pointX a_numberAt a_cells a_seen a_distances a_matrix a_prefix a_prefixFrom a_prefixTo a_tunedOrder a_tunedKey a_toX a_toZ a_sysCount a_hullLow a_hullHigh a_cursor a_limit a_pin a_echelon a_pivot : Nat → Int32} {a_sysCoef a_sysBound a_cand a_spanLow a_spanHigh : Nat → Int64}
theorem xv_at {post : Int32 → Prop} {Sb : Nat → Int} {base n : Nat} (hs : ∀ j, j < 48 → a_subs j = zI (Sb j)) (hb : base < 45) (hn : n < 64) (K : post (zI (av Sb base (ptx a_pointX n)))) : wpX_valueAt post (f_depth, f_side, f_arraySide, f_statements, f_sealed, f_points, f_distanceCount, f_bandFirst, f_bandCount, f_bandSize, f_accepted, f_blamed, f_prefixLength, f_tunedFresh, f_rangeLow, f_rangeHigh, f_scanAt, f_scanFirst, f_scanCount, f_scanSize, f_scanPins, a_limits, a_ops, a_factors, a_given, a_subs, a_pointX, a_numberAt, a_cells, a_seen, a_distances, a_matrix, a_prefix, a_prefixFrom, a_prefixTo, a_tunedOrder, a_tunedKey, a_toX, a_toZ, a_sysCoef, a_sysBound, a_sysCount, a_cand, a_hullLow, a_hullHigh, a_spanLow, a_spanHigh, a_cursor, a_limit, a_pin, a_echelon, a_pivot) (nI base) (nI n) := by
  have e1 : nI n * 3 = nI (n * 3 + 0) := nx_m3 n
  have e2 : nI n * 3 + 1 = nI (n * 3 + 1) := by rw [nx_m3, nI_1]
  have e3 : nI n * 3 + 2 = nI (n * 3 + 2) := by rw [nx_m3, nx_a2]
  have d1 : (nI n * 3).toNatClampNeg = n * 3 + 0 := cx_n _ e1 (by omega)
  have d2 : (nI n * 3 + 1).toNatClampNeg = n * 3 + 1 := cx_n _ e2 (by omega)
  have d3 : (nI n * 3 + 2).toNatClampNeg = n * 3 + 2 := cx_n _ e3 (by omega)
  have b0 : (nI base).toNatClampNeg = base := nI_clamp (by omega)
  have b1 : (nI base + 1).toNatClampNeg = base + 1 := cx_n _ (nI_1 _) (by omega)
  have b2 : (nI base + 2).toNatClampNeg = base + 2 := cx_n _ (nx_a2 _) (by omega)
  have b3 : (nI base + 3).toNatClampNeg = base + 3 := cx_n _ (nx_a3 _) (by omega)
  refine ⟨vp_in_nI (by omega) (by omega), vx_n _ e1 (by omega) (by omega), vx_n _ (nI_1 _) (by omega) (by omega), vx_n _ e2 (by omega) (by omega), vx_n _ (nx_a2 _) (by omega) (by omega), vx_n _ e3 (by omega) (by omega), vx_n _ (nx_a3 _) (by omega) (by omega), ?_⟩
  rw [d1, d2, d3, b0, b1, b2, b3, hs _ (by omega), hs _ (by omega), hs _ (by omega), hs _ (by omega), ptx_z a_pointX, ptx_z a_pointX, ptx_z a_pointX, zI_mul, zI_mul, zI_mul, zI_add, zI_add, zI_add]
  exact K
/-- one row of the pins -/
theorem xp_row {post : Int32 → SX → Prop} {J : Int32 → Int32 → (Nat → Int32) → (Nat → Int32) → (Nat → Int32) → (Nat → Int32) → (Nat → Int32) → (Nat → Int32) → (Nat → Int32) → (Nat → Int32) → (Nat → Int32) → (Nat → Int32) → (Nat → Int32) → (Nat → Int32) → (Nat → Int32) → (Nat → Int32) → (Nat → Int32) → (Nat → Int32) → (Nat → Int32) → (Nat → Int32) → (Nat → Int64) → (Nat → Int64) → (Nat → Int32) → (Nat → Int64) → (Nat → Int32) → (Nat → Int32) → (Nat → Int64) → (Nat → Int64) → (Nat → Int32) → (Nat → Int32) → (Nat → Int32) → (Nat → Int32) → (Nat → Int32) → Prop}
    {x1 x2 x3 : Int32} {r u : Nat} {ρ c : Int} {n : Nat} (hr : r < 2) (hu : u < 2) (hρ : -1000000 ≤ ρ ∧ ρ ≤ 1000000) (hc : -1000000 ≤ c ∧ c ≤ 1000000) (he : a_echelon (r * 3 + u) = zI c) (hpv : a_pivot r = pvt c)
    (KF : (∀ q : Int, ρ ≠ c * q) → post 0 (f_depth, f_side, f_arraySide, f_statements, f_sealed, f_points, f_distanceCount, f_bandFirst, f_bandCount, f_bandSize, f_accepted, f_blamed, f_prefixLength, f_tunedFresh, f_rangeLow, f_rangeHigh, f_scanAt, f_scanFirst, f_scanCount, f_scanSize, f_scanPins, a_limits, a_ops, a_factors, a_given, a_subs, a_pointX, a_numberAt, a_cells, a_seen, a_distances, a_matrix, a_prefix, a_prefixFrom, a_prefixTo, a_tunedOrder, a_tunedKey, a_toX, a_toZ, a_sysCoef, a_sysBound, a_sysCount, a_cand, a_hullLow, a_hullHigh, a_spanLow, a_spanHigh, a_cursor, a_limit, a_pin, a_echelon, a_pivot)) (K0 : c = 0 → ρ = 0 → J (nI u) (nI (r + 1)) a_limits a_ops a_factors a_given a_subs a_pointX a_numberAt a_cells a_seen a_distances a_matrix a_prefix a_prefixFrom a_prefixTo a_tunedOrder a_tunedKey a_toX a_toZ a_sysCoef a_sysBound a_sysCount a_cand a_hullLow a_hullHigh a_spanLow a_spanHigh a_cursor a_limit a_pin a_echelon a_pivot) (K1 : c ≠ 0 → ∀ q : Int, ρ = c * q → (-1000000 ≤ q ∧ q ≤ 1000000) → J (nI (u + 1)) (nI (r + 1)) a_limits a_ops a_factors a_given a_subs a_pointX a_numberAt a_cells a_seen a_distances a_matrix a_prefix a_prefixFrom a_prefixTo a_tunedOrder a_tunedKey a_toX a_toZ a_sysCoef a_sysBound a_sysCount a_cand a_hullLow a_hullHigh a_spanLow a_spanHigh a_cursor a_limit (upd a_pin u (zI q)) a_echelon a_pivot) :
    wX_solvePins_52 post J x1 x2 x3 (nI u) (nI r) f_depth f_side f_arraySide f_statements f_sealed f_points f_distanceCount f_bandFirst f_bandCount f_bandSize f_accepted f_blamed f_prefixLength f_tunedFresh f_rangeLow f_rangeHigh f_scanAt f_scanFirst f_scanCount f_scanSize f_scanPins a_limits a_ops a_factors a_given a_subs a_pointX a_numberAt a_cells a_seen a_distances a_matrix a_prefix a_prefixFrom a_prefixTo a_tunedOrder a_tunedKey a_toX a_toZ a_sysCoef a_sysBound a_sysCount a_cand a_hullLow a_hullHigh a_spanLow a_spanHigh a_cursor a_limit a_pin a_echelon a_pivot (n + 1) (zI ρ) (nI u) := by
  have cr : (nI r).toNatClampNeg = r := nI_clamp (by omega)
  have cu : (nI u).toNatClampNeg = u := nI_clamp (by omega)
  have e : nI r * 3 + nI u = nI (r * 3 + u) := by rw [nx_m3, nI_add]
  have ce : (nI r * 3 + nI u).toNatClampNeg = r * 3 + u := cx_n _ e (by omega)
  refine br_t (nI_le (by omega) (by omega)) ⟨vp_in_nI (by omega) (by omega), ?_⟩
  rw [cr, hpv]
  by_cases hc0 : c = 0
  · refine br_t (pvt_0 hc0) (br_c (fun h => nm_r (nI_1 r) (K0 hc0 ?_)) (fun h => KF (fun q hq => h ?_)))
    · rw [zI_0, zI_eq (by omega) (by omega) (by omega) (by omega)] at h; exact h
    · rw [hq, hc0, Int.zero_mul]; rfl
  · have hne : ¬ zI c = 0 := by rw [zI_0, zI_eq (by omega) (by omega) (by omega) (by omega)]; exact hc0
    refine br_f (by rw [pvt_1 hc0]; decide) ⟨vx_n _ e (by omega) (by omega), nm_r (e' := zI c) (by rw [ce]; exact he) (br_f hne ⟨hne, ?_⟩)⟩
    have hq : (ρ.tdiv c).natAbs = ρ.natAbs / c.natAbs := Int.natAbs_tdiv ρ c
    have hq2 := Nat.div_le_self ρ.natAbs c.natAbs
    have hm : (ρ.tmod c).natAbs = ρ.natAbs % c.natAbs := Int.natAbs_tmod ρ c
    have hm2 := Nat.mod_le ρ.natAbs c.natAbs
    rw [zI_rem (by omega) (by omega) (by omega) (by omega)]
    refine br_c (fun h => ?_) (fun h => KF (fun q hq' => h ?_))
    · rw [zI_0, zI_eq (by omega) (by omega) (by omega) (by omega)] at h
      have hd : ρ = c * ρ.tdiv c := by have := Int.mul_tdiv_add_tmod ρ c; omega
      refine ⟨hne, vp_in_nI (by omega) (by omega), nm_r (e' := upd a_pin u (zI (ρ.tdiv c))) (by rw [cu, zI_div (by omega) (by omega) (by omega) (by omega)]) (nm_r (nI_1 u) (nm_r (nI_1 r) (K1 hc0 _ hd (by omega))))⟩
    · have : ρ.tmod c = 0 := by rw [hq']; exact Int.mul_tmod_right c q
      rw [this]; rfl
theorem xp_solve {post : Int32 → SX → Prop} {Sb : Nat → Int} {C : Nat → Nat → Int} {a b p : Nat} {t0 t1 : Int} (ha : a < 6) (hb : b < 6) (hp : p < 64) (hs : ∀ j, j < 48 → a_subs j = zI (Sb j))
    (ht0 : t0 = av Sb (a * 8) (ptx a_pointX p) - Sb (b * 8 + 3)) (ht1 : t1 = av Sb (a * 8 + 4) (ptx a_pointX p) - Sb (b * 8 + 7)) (hb0 : -1000 ≤ t0 ∧ t0 ≤ 1000) (hb1 : -1000 ≤ t1 ∧ t1 ≤ 1000)
    (hE : ∀ j, j < 3 → ∀ r, r < 2 → a_echelon (r * 3 + j) = zI (C j r)) (hCb : ∀ j r, j < 3 → r < 2 → -150 ≤ C j r ∧ C j r ≤ 150) (hz0 : C 0 0 = 0 → C 1 1 = 0)
    (hpv0 : a_pivot 0 = pvt (C 0 0)) (hpv1 : a_pivot 1 = if C 0 0 = 0 then pvt (C 0 1) else pvt (C 1 1))
    (KF : (∀ z0 z1 : Int, ¬ (C 0 0 * z0 = t0 ∧ C 0 1 * z0 + C 1 1 * z1 = t1)) → ∀ pin' : Nat → Int32, post 0 (f_depth, f_side, f_arraySide, f_statements, f_sealed, f_points, f_distanceCount, f_bandFirst, f_bandCount, f_bandSize, f_accepted, f_blamed, f_prefixLength, f_tunedFresh, f_rangeLow, f_rangeHigh, f_scanAt, f_scanFirst, f_scanCount, f_scanSize, f_scanPins, a_limits, a_ops, a_factors, a_given, a_subs, a_pointX, a_numberAt, a_cells, a_seen, a_distances, a_matrix, a_prefix, a_prefixFrom, a_prefixTo, a_tunedOrder, a_tunedKey, a_toX, a_toZ, a_sysCoef, a_sysBound, a_sysCount, a_cand, a_hullLow, a_hullHigh, a_spanLow, a_spanHigh, a_cursor, a_limit, pin', a_echelon, a_pivot))
    (K1 : ∀ (Pn : Nat) (pn : Nat → Int) (pin' : Nat → Int32), Pn ≤ 2 → (C 0 0 ≠ 0 → C 1 1 ≠ 0 → Pn = 2) → (∀ l, l < Pn → pin' l = zI (pn l) ∧ -2147483648 ≤ pn l ∧ pn l < 2147483648) →
      (∀ z : Nat → Int, (C 0 0 * z 0 = t0 ∧ C 0 1 * z 0 + C 1 1 * z 1 = t1) ↔ ∀ l, l < Pn → z l = pn l) → post 1 (f_depth, f_side, f_arraySide, f_statements, f_sealed, f_points, f_distanceCount, f_bandFirst, f_bandCount, f_bandSize, f_accepted, f_blamed, f_prefixLength, f_tunedFresh, f_rangeLow, f_rangeHigh, f_scanAt, f_scanFirst, f_scanCount, f_scanSize, nI Pn, a_limits, a_ops, a_factors, a_given, a_subs, a_pointX, a_numberAt, a_cells, a_seen, a_distances, a_matrix, a_prefix, a_prefixFrom, a_prefixTo, a_tunedOrder, a_tunedKey, a_toX, a_toZ, a_sysCoef, a_sysBound, a_sysCount, a_cand, a_hullLow, a_hullHigh, a_spanLow, a_spanHigh, a_cursor, a_limit, pin', a_echelon, a_pivot)) :
    wpX_solvePins post (f_depth, f_side, f_arraySide, f_statements, f_sealed, f_points, f_distanceCount, f_bandFirst, f_bandCount, f_bandSize, f_accepted, f_blamed, f_prefixLength, f_tunedFresh, f_rangeLow, f_rangeHigh, f_scanAt, f_scanFirst, f_scanCount, f_scanSize, f_scanPins, a_limits, a_ops, a_factors, a_given, a_subs, a_pointX, a_numberAt, a_cells, a_seen, a_distances, a_matrix, a_prefix, a_prefixFrom, a_prefixTo, a_tunedOrder, a_tunedKey, a_toX, a_toZ, a_sysCoef, a_sysBound, a_sysCount, a_cand, a_hullLow, a_hullHigh, a_spanLow, a_spanHigh, a_cursor, a_limit, a_pin, a_echelon, a_pivot) (nI a) (nI b) (nI p) := by
  have b00 := hCb 0 0 (by omega) (by omega)
  have b01 := hCb 0 1 (by omega) (by omega)
  have b11 := hCb 1 1 (by omega) (by omega)
  have eb : ∀ r, r < 2 → nI a * 8 + nI r * 4 = nI (a * 8 + r * 4) := fun r _ => by rw [nx_m8, nx_m4, nI_add]
  have e3 : ∀ r, r < 2 → nI b * 8 + nI r * 4 + 3 = nI (b * 8 + r * 4 + 3) := fun r _ => by rw [nx_m8, nx_m4, nI_add, nx_a3]
  refine ⟨3, br_f (by decide) ?_⟩
  -- row 0
  rw [show (0 : Int32) = nI 0 from rfl]
  have goal0 : wpX_valueAt (fun r_2 => vp_in (nI b * 8 + nI 0 * 4 + 3) 48 ∧ (∀ x6 : Int32, x6 = r_2 - a_subs (nI b * 8 + nI 0 * 4 + 3).toNatClampNeg → ∃ n52 : Nat, wX_solvePins_52 post (wX_solvePins_6 post (nI a) (nI b) (nI p) f_depth f_side f_arraySide f_statements f_sealed f_points f_distanceCount f_bandFirst f_bandCount f_bandSize f_accepted f_blamed f_prefixLength f_tunedFresh f_rangeLow f_rangeHigh f_scanAt f_scanFirst f_scanCount f_scanSize f_scanPins 2) (nI a) (nI b) (nI p) (nI 0) (nI 0) f_depth f_side f_arraySide f_statements f_sealed f_points f_distanceCount f_bandFirst f_bandCount f_bandSize f_accepted f_blamed f_prefixLength f_tunedFresh f_rangeLow f_rangeHigh f_scanAt f_scanFirst f_scanCount f_scanSize f_scanPins a_limits a_ops a_factors a_given a_subs a_pointX a_numberAt a_cells a_seen a_distances a_matrix a_prefix a_prefixFrom a_prefixTo a_tunedOrder a_tunedKey a_toX a_toZ a_sysCoef a_sysBound a_sysCount a_cand a_hullLow a_hullHigh a_spanLow a_spanHigh a_cursor a_limit a_pin a_echelon a_pivot n52 x6 (nI 0))) (f_depth, f_side, f_arraySide, f_statements, f_sealed, f_points, f_distanceCount, f_bandFirst, f_bandCount, f_bandSize, f_accepted, f_blamed, f_prefixLength, f_tunedFresh, f_rangeLow, f_rangeHigh, f_scanAt, f_scanFirst, f_scanCount, f_scanSize, f_scanPins, a_limits, a_ops, a_factors, a_given, a_subs, a_pointX, a_numberAt, a_cells, a_seen, a_distances, a_matrix, a_prefix, a_prefixFrom, a_prefixTo, a_tunedOrder, a_tunedKey, a_toX, a_toZ, a_sysCoef, a_sysBound, a_sysCount, a_cand, a_hullLow, a_hullHigh, a_spanLow, a_spanHigh, a_cursor, a_limit, a_pin, a_echelon, a_pivot) (nI a * 8 + nI 0 * 4) (nI p) := by
    rw [eb 0 (by omega)]
    refine xv_at hs (by omega) hp ⟨vx_n _ (e3 0 (by omega)) (by omega) (by omega), nm_r (e' := zI t0) (by rw [cx_n _ (e3 0 (by omega)) (by omega), hs _ (by omega), zI_sub]; exact congrArg zI ht0.symm) ⟨1, ?_⟩⟩
    refine xp_row (c := C 0 0) (by omega) (by omega) (by omega) (by omega) (hE 0 (by omega) 0 (by omega)) hpv0 (fun h => KF (fun z0 z1 hz => h z0 hz.1.symm) _) (fun h0 h1 => ?_) (fun h0 q hq hqb => ?_)
    · -- no pivot in row 0
      have hpv1' : a_pivot 1 = pvt (C 0 1) := by rw [hpv1, if_pos h0]
      have h11 := hz0 h0
      refine br_f (by decide) ?_
      rw [eb 1 (by omega)]
      refine xv_at hs (by omega) hp ⟨vx_n _ (e3 1 (by omega)) (by omega) (by omega), nm_r (e' := zI t1) (by rw [cx_n _ (e3 1 (by omega)) (by omega), hs _ (by omega), zI_sub]; exact congrArg zI ht1.symm) ⟨1, ?_⟩⟩
      refine xp_row (c := C 0 1) (by omega) (by omega) (by omega) (by omega) (hE 0 (by omega) 1 (by omega)) hpv1' (fun h => KF (fun z0 z1 hz => h z0 ?_) _) (fun g0 g1 => ?_) (fun g0 q hq hqb => ?_)
      · have := hz.2; rw [h11, Int.zero_mul] at this; omega
      · refine br_t (by decide) (K1 0 (fun _ => 0) a_pin (by omega) (fun hh => absurd h0 hh) (fun l hl => by omega) (fun z => ⟨fun _ l hl => by omega, fun _ => ?_⟩))
        rw [h0, h11, g0, h1, g1, Int.zero_mul, Int.zero_mul]; exact ⟨rfl, rfl⟩
      · refine br_t (by decide) (K1 1 (fun _ => q) _ (by omega) (fun hh => absurd h0 hh) (fun l hl => ?_) (fun z => ⟨fun hz l hl => ?_, fun hz => ?_⟩))
        · cases (show l = 0 by omega); exact ⟨pk_us, by omega⟩
        · cases (show l = 0 by omega)
          have := hz.2
          rw [h11, Int.zero_mul, Int.add_zero, hq] at this
          exact Int.eq_of_mul_eq_mul_left g0 this
        · have := hz 0 (by omega)
          rw [h0, h11, h1, hq, this, Int.zero_mul, Int.zero_mul]; exact ⟨rfl, by omega⟩
    · -- a pivot in row 0
      have hpv1' : a_pivot 1 = pvt (C 1 1) := by rw [hpv1, if_neg h0]
      have hq1 : q.natAbs ≤ 1000 := by
        have h1 : t0.natAbs = (C 0 0).natAbs * q.natAbs := by rw [hq, Int.natAbs_mul]
        have h2 : 1 * q.natAbs ≤ (C 0 0).natAbs * q.natAbs := Nat.mul_le_mul_right _ (by omega)
        omega
      have hq2 := ab_mul b01.1 b01.2 (b := q) (B := 1000) (by omega) (by omega)
      refine br_f (by decide) ?_
      rw [eb 1 (by omega)]
      refine xv_at hs (by omega) hp ⟨vx_n _ (e3 1 (by omega)) (by omega) (by omega), nm_r (e' := zI t1) (by rw [cx_n _ (e3 1 (by omega)) (by omega), hs _ (by omega), zI_sub]; exact congrArg zI ht1.symm) ⟨2, ?_⟩⟩
      refine br_f (by decide) ⟨vx_n 3 (by decide) (by omega) (by omega), vx_n 0 rfl (by omega) (by omega), nm_r (e' := zI (t1 - C 0 1 * q)) ?_ (nm_r (e' := nI 1) (by decide) ?_)⟩
      · have e0 := hE 0 (by omega) 1 (by omega)
        show zI t1 - a_echelon 3 * upd a_pin 0 (zI q) 0 = _
        rw [show a_echelon 3 = zI (C 0 1) from e0, pk_us, zI_mul, zI_sub]
      refine xp_row (c := C 1 1) (by omega) (by omega) (by omega) (by omega) (hE 1 (by omega) 1 (by omega)) hpv1' (fun h => KF (fun z0 z1 hz => h z1 ?_) _) (fun g0 g1 => ?_) (fun g0 q' hq' hqb' => ?_)
      · have e0 : z0 = q := Int.eq_of_mul_eq_mul_left h0 (by rw [hz.1, hq])
        have := hz.2
        rw [e0] at this
        omega
      · refine br_t (by decide) (K1 1 (fun _ => q) _ (by omega) (fun _ hh => absurd g0 hh) (fun l hl => ?_) (fun z => ⟨fun hz l hl => ?_, fun hz => ?_⟩))
        · cases (show l = 0 by omega); exact ⟨pk_us, by omega⟩
        · cases (show l = 0 by omega)
          exact Int.eq_of_mul_eq_mul_left h0 (by rw [hz.1, hq])
        · have := hz 0 (by omega)
          rw [this, g0, Int.zero_mul]; exact ⟨hq.symm, by omega⟩
      · refine br_t (by decide) (K1 2 (fun l => if l = 0 then q else q') _ (by omega) (fun _ _ => rfl) (fun l hl => ?_) (fun z => ⟨fun hz l hl => ?_, fun hz => ?_⟩))
        · rcases (show l = 0 ∨ l = 1 by omega) with rfl | rfl
          · exact ⟨by rw [pk_un (by omega), pk_us]; rfl, by show -2147483648 ≤ q ∧ q < 2147483648; omega⟩
          · exact ⟨by rw [pk_us]; rfl, by show -2147483648 ≤ q' ∧ q' < 2147483648; omega⟩
        · have e0 : z 0 = q := Int.eq_of_mul_eq_mul_left h0 (by rw [hz.1, hq])
          rcases (show l = 0 ∨ l = 1 by omega) with rfl | rfl
          · exact e0
          · have := hz.2
            rw [e0] at this
            exact Int.eq_of_mul_eq_mul_left g0 (by show C 1 1 * z 1 = C 1 1 * q'; omega)
        · have z0 : z 0 = q := hz 0 (by omega)
          have z1 : z 1 = q' := hz 1 (by omega)
          rw [z0, z1]; exact ⟨hq.symm, by omega⟩
  exact goal0
def dcode (px : Nat → Int32) (p q : Nat) : Int := (ptx px q 0 - ptx px p 0 + 7) * 225 + (ptx px q 1 - ptx px p 1 + 7) * 15 + (ptx px q 2 - ptx px p 2 + 7)
theorem xm_mark {post : SX → Prop} {p q : Nat} (hp : p < 64) (hq : q < 64) (hb : 0 ≤ dcode a_pointX p q ∧ dcode a_pointX p q < 3375)
    (K : post (f_depth, f_side, f_arraySide, f_statements, f_sealed, f_points, f_distanceCount, f_bandFirst, f_bandCount, f_bandSize, f_accepted, f_blamed, f_prefixLength, f_tunedFresh, f_rangeLow, f_rangeHigh, f_scanAt, f_scanFirst, f_scanCount, f_scanSize, f_scanPins, a_limits, a_ops, a_factors, a_given, a_subs, a_pointX, a_numberAt, a_cells, upd a_seen (dcode a_pointX p q).toNat 1, a_distances, a_matrix, a_prefix, a_prefixFrom, a_prefixTo, a_tunedOrder, a_tunedKey, a_toX, a_toZ, a_sysCoef, a_sysBound, a_sysCount, a_cand, a_hullLow, a_hullHigh, a_spanLow, a_spanHigh, a_cursor, a_limit, a_pin, a_echelon, a_pivot)) : wpX_markDistance post (f_depth, f_side, f_arraySide, f_statements, f_sealed, f_points, f_distanceCount, f_bandFirst, f_bandCount, f_bandSize, f_accepted, f_blamed, f_prefixLength, f_tunedFresh, f_rangeLow, f_rangeHigh, f_scanAt, f_scanFirst, f_scanCount, f_scanSize, f_scanPins, a_limits, a_ops, a_factors, a_given, a_subs, a_pointX, a_numberAt, a_cells, a_seen, a_distances, a_matrix, a_prefix, a_prefixFrom, a_prefixTo, a_tunedOrder, a_tunedKey, a_toX, a_toZ, a_sysCoef, a_sysBound, a_sysCount, a_cand, a_hullLow, a_hullHigh, a_spanLow, a_spanHigh, a_cursor, a_limit, a_pin, a_echelon, a_pivot) (nI p) (nI q) := by
  have go : ∀ (d c : Nat) (v w : Int), c + d = 3 → (c = 0 → v = 0) → w = (v * 15 + ptx a_pointX q c - ptx a_pointX p c + 7) → (c < 3 → wX_markDistance_5 post (nI p) (nI q) f_depth f_side f_arraySide f_statements f_sealed f_points f_distanceCount f_bandFirst f_bandCount f_bandSize f_accepted f_blamed f_prefixLength f_tunedFresh f_rangeLow f_rangeHigh f_scanAt f_scanFirst f_scanCount f_scanSize f_scanPins a_limits a_ops a_factors a_given a_subs a_pointX a_numberAt a_cells a_seen a_distances a_matrix a_prefix a_prefixFrom a_prefixTo a_tunedOrder a_tunedKey a_toX a_toZ a_sysCoef a_sysBound a_sysCount a_cand a_hullLow a_hullHigh a_spanLow a_spanHigh a_cursor a_limit a_pin a_echelon a_pivot d (zI w) (nI (c + 1))) → c < 3 → wX_markDistance_5 post (nI p) (nI q) f_depth f_side f_arraySide f_statements f_sealed f_points f_distanceCount f_bandFirst f_bandCount f_bandSize f_accepted f_blamed f_prefixLength f_tunedFresh f_rangeLow f_rangeHigh f_scanAt f_scanFirst f_scanCount f_scanSize f_scanPins a_limits a_ops a_factors a_given a_subs a_pointX a_numberAt a_cells a_seen a_distances a_matrix a_prefix a_prefixFrom a_prefixTo a_tunedOrder a_tunedKey a_toX a_toZ a_sysCoef a_sysBound a_sysCount a_cand a_hullLow a_hullHigh a_spanLow a_spanHigh a_cursor a_limit a_pin a_echelon a_pivot (d + 1) (zI v) (nI c) := by
    intro d c v w hd h0 hw hK hc
    have e1 : nI q * 3 + nI c = nI (q * 3 + c) := by rw [nx_m3, nI_add]
    have e2 : nI p * 3 + nI c = nI (p * 3 + c) := by rw [nx_m3, nI_add]
    have c1 : (nI q * 3 + nI c).toNatClampNeg = q * 3 + c := cx_n _ e1 (by omega)
    have c2 : (nI p * 3 + nI c).toNatClampNeg = p * 3 + c := cx_n _ e2 (by omega)
    refine br_f (nI_ge (b := 3) hc (by omega)) ⟨vx_n _ e1 (by omega) (by omega), vx_n _ e2 (by omega) (by omega), nm_r (e' := zI w) ?_ (nm_r (nI_1 c) (hK hc))⟩
    rw [c1, c2, ptx_z a_pointX, ptx_z a_pointX, show (15 : Int32) = zI 15 from by decide, show (7 : Int32) = zI 7 from by decide, zI_mul, zI_add, zI_sub, zI_add, hw]
  refine ⟨4, ?_⟩
  refine go 3 0 0 _ rfl (fun _ => rfl) rfl (fun _ => go 2 1 _ _ rfl (fun h => by omega) rfl (fun _ => go 1 2 _ (dcode a_pointX p q) rfl (fun h => by omega) ?_ (fun _ => ?_) (by omega)) (by omega)) (by omega)
  · unfold dcode; omega
  · refine br_t (by decide) ⟨vx_z hb.1 hb.2 (by omega), nm_r (e' := upd a_seen (dcode a_pointX p q).toNat 1) (by rw [zI_cl (by omega) (by omega)]; rfl) K⟩
end
end
section
/-! matchAccesses -/
def rX (C : Nat → Nat → Int) : Nat → Int := fun j => C (j % 3) (2 + j / 3)
def rZ (C : Nat → Nat → Int) : Nat → Int := fun j => C (j / 3) (5 + j % 3)
theorem rX_e {C : Nat → Nat → Int} {r c : Nat} (hc : c < 3) : rX C (r * 3 + c) = C c (2 + r) := by
  unfold rX; rw [show (r * 3 + c) % 3 = c by omega, show (r * 3 + c) / 3 = r by omega]
theorem rZ_e {C : Nat → Nat → Int} {r c : Nat} (hc : c < 3) : rZ C (r * 3 + c) = C r (5 + c) := by
  unfold rZ; rw [show (r * 3 + c) % 3 = c by omega, show (r * 3 + c) / 3 = r by omega]
theorem rd_mat {m : Nat → Int} {C : Nat → Nat → Int} (h : rdI m C) : matI (rX C) (rZ C) := by
  refine ⟨fun a b ha hb => ?_, fun a b ha hb => ?_⟩
  · have e := h.1 a b ha hb
    rcases (show a = 0 ∨ a = 1 ∨ a = 2 by omega) with rfl | rfl | rfl <;> rcases (show b = 0 ∨ b = 1 ∨ b = 2 by omega) with rfl | rfl | rfl <;> exact e
  · have e := h.2.1 a b ha hb
    rcases (show a = 0 ∨ a = 1 ∨ a = 2 by omega) with rfl | rfl | rfl <;> rcases (show b = 0 ∨ b = 1 ∨ b = 2 by omega) with rfl | rfl | rfl <;> exact e
theorem rd_pad {m : Nat → Int} (hm : ∀ j, j < 6 → -2 ≤ m j ∧ m j ≤ 2) (h2 : m 2 = 0) (h5 : m 5 = 0) : rdF m 2 2 = 0 ∧ rdF m 2 3 = 0 ∧ rdF m 0 4 = 0 ∧ rdF m 1 4 = 0 := by
  have e2 : rd2 m = rd1 m := euR_z (by rw [rd1_2]; exact h2)
  have z1 := eu_zero (r := 0) (k := 0) (o := 1) (i := 4) (by omega) (by omega) 8 (rd0 m) ⟨rfl, rfl⟩
  have c2 : rd1 m 2 = rd0 m 2 := eu_t (by omega) (by omega) 8 _
  unfold rdF
  by_cases h : rd2 m 0 0 = 0
  · rw [if_pos h]
    have w2 := (rd_specB hm h).2.2.1
    rw [euR_z (by rw [w2]; exact h5)]
    have z2 := eu_zero (r := 1) (k := 0) (o := 1) (i := 4) (by omega) (by omega) 8 (rd2 m) (by rw [e2]; exact z1)
    have c3 : rd3 m 2 = rd2 m 2 := eu_t (by omega) (by omega) 8 _
    rw [c3, e2, c2]
    exact ⟨rfl, rfl, z2.1, z2.2⟩
  · rw [if_neg h, e2, euR_z (by rw [c2]; exact h5), c2]
    exact ⟨rfl, rfl, z1.1, z1.2⟩
theorem rd_inv {D : Nat} {m : Nat → Int} (hD : D = 2 ∨ D = 3) (hm : ∀ j, j < 6 → -2 ≤ m j ∧ m j ≤ 2) (hm2 : D = 2 → m 2 = 0 ∧ m 5 = 0) : inv_ok D (rX (rdF m)) (rZ (rdF m)) := by
  refine inv_of hD (rd_mat (rd_spec hm).1) (fun e => ?_)
  have := rd_pad hm (hm2 e).1 (hm2 e).2
  exact ⟨this.1, this.2.1, this.2.2.1, this.2.2.2⟩
def hitAB (Sb : Nat → Int) (px : Nat → Int32) (a b p q : Nat) : Prop := av Sb (a * 8) (ptx px p) = av Sb (b * 8) (ptx px q) ∧ av Sb (a * 8 + 4) (ptx px p) = av Sb (b * 8 + 4) (ptx px q)
def accM (Sb : Nat → Int) (b : Nat) : Nat → Int := fun j => if j < 3 then Sb (b * 8 + j) else Sb (b * 8 + 4 + (j - 3))
/-- an access in the coordinates z -/
theorem ab_lin {D : Nat} {Sb : Nat → Int} {b : Nat} {C : Nat → Nat → Int} (hD : D = 2 ∨ D = 3) (hC : rdS (accM Sb b) C) (hm2 : D = 2 → accM Sb b 2 = 0 ∧ accM Sb b 5 = 0) {x z : Nat → Int} (hx : ∀ l, l < D → x l = xr (rX C) D z l) :
    av Sb (b * 8) x = C 0 0 * z 0 + Sb (b * 8 + 3) ∧ av Sb (b * 8 + 4) x = C 0 1 * z 0 + C 1 1 * z 1 + Sb (b * 8 + 7) := by
  obtain ⟨hI, _, h10, h20, h21, _⟩ := hC
  have q0 := hI.2.2 0 (by omega)
  have q1 := hI.2.2 1 (by omega)
  have q2 := hI.2.2 2 (by omega)
  rw [h10] at q1
  rw [h20, h21] at q2
  have m0 : accM Sb b 0 = Sb (b * 8) := rfl
  have m1 : accM Sb b 1 = Sb (b * 8 + 1) := rfl
  have m2 : accM Sb b 2 = Sb (b * 8 + 2) := rfl
  have m3 : accM Sb b 3 = Sb (b * 8 + 4) := rfl
  have m4 : accM Sb b 4 = Sb (b * 8 + 4 + 1) := rfl
  have m5 : accM Sb b 5 = Sb (b * 8 + 4 + 2) := rfl
  have m6 : Sb (b * 8 + 7) = Sb (b * 8 + 4 + 3) := rfl
  unfold av
  rw [m6, ← m0, ← m1, ← m2, ← m3, ← m4, ← m5]
  rcases hD with rfl | rfl
  · obtain ⟨p2, p5⟩ := hm2 rfl
    have x0 : x 0 = 0 + C 0 2 * z 0 + C 1 2 * z 1 := hx 0 (by omega)
    have x1 : x 1 = 0 + C 0 3 * z 0 + C 1 3 * z 1 := hx 1 (by omega)
    rw [p2, p5] at q0 q1
    rw [p2, p5, x0, x1]
    refine ⟨?_, ?_⟩
    · have e : accM Sb b 0 * (0 + C 0 2 * z 0 + C 1 2 * z 1) + accM Sb b 1 * (0 + C 0 3 * z 0 + C 1 3 * z 1) + 0 * x 2 + Sb (b * 8 + 3) = (accM Sb b 0 * C 0 2 + accM Sb b 1 * C 0 3 + 0 * C 0 4) * z 0 + (accM Sb b 0 * C 1 2 + accM Sb b 1 * C 1 3 + 0 * C 1 4) * z 1 + Sb (b * 8 + 3) := by grind
      rw [e, q0.1, q1.1]; omega
    · have e : accM Sb b 3 * (0 + C 0 2 * z 0 + C 1 2 * z 1) + accM Sb b 4 * (0 + C 0 3 * z 0 + C 1 3 * z 1) + 0 * x 2 + Sb (b * 8 + 4 + 3) = (accM Sb b 3 * C 0 2 + accM Sb b 4 * C 0 3 + 0 * C 0 4) * z 0 + (accM Sb b 3 * C 1 2 + accM Sb b 4 * C 1 3 + 0 * C 1 4) * z 1 + Sb (b * 8 + 4 + 3) := by grind
      rw [e, q0.2, q1.2]
  · have x0 : x 0 = 0 + C 0 2 * z 0 + C 1 2 * z 1 + C 2 2 * z 2 := hx 0 (by omega)
    have x1 : x 1 = 0 + C 0 3 * z 0 + C 1 3 * z 1 + C 2 3 * z 2 := hx 1 (by omega)
    have x2 : x 2 = 0 + C 0 4 * z 0 + C 1 4 * z 1 + C 2 4 * z 2 := hx 2 (by omega)
    rw [x0, x1, x2]
    refine ⟨?_, ?_⟩
    · have e : accM Sb b 0 * (0 + C 0 2 * z 0 + C 1 2 * z 1 + C 2 2 * z 2) + accM Sb b 1 * (0 + C 0 3 * z 0 + C 1 3 * z 1 + C 2 3 * z 2) + accM Sb b 2 * (0 + C 0 4 * z 0 + C 1 4 * z 1 + C 2 4 * z 2) + Sb (b * 8 + 3)
        = (accM Sb b 0 * C 0 2 + accM Sb b 1 * C 0 3 + accM Sb b 2 * C 0 4) * z 0 + (accM Sb b 0 * C 1 2 + accM Sb b 1 * C 1 3 + accM Sb b 2 * C 1 4) * z 1 + (accM Sb b 0 * C 2 2 + accM Sb b 1 * C 2 3 + accM Sb b 2 * C 2 4) * z 2 + Sb (b * 8 + 3) := by grind
      rw [e, q0.1, q1.1, q2.1]; omega
    · have e : accM Sb b 3 * (0 + C 0 2 * z 0 + C 1 2 * z 1 + C 2 2 * z 2) + accM Sb b 4 * (0 + C 0 3 * z 0 + C 1 3 * z 1 + C 2 3 * z 2) + accM Sb b 5 * (0 + C 0 4 * z 0 + C 1 4 * z 1 + C 2 4 * z 2) + Sb (b * 8 + 4 + 3)
        = (accM Sb b 3 * C 0 2 + accM Sb b 4 * C 0 3 + accM Sb b 5 * C 0 4) * z 0 + (accM Sb b 3 * C 1 2 + accM Sb b 4 * C 1 3 + accM Sb b 5 * C 1 4) * z 1 + (accM Sb b 3 * C 2 2 + accM Sb b 4 * C 2 3 + accM Sb b 5 * C 2 4) * z 2 + Sb (b * 8 + 4 + 3) := by grind
      rw [e, q0.2, q1.2, q2.2]; omega
theorem pt_inj {D S P : Nat} {B : Nat → Int} {px num : Nat → Int32} (hD : D = 2 ∨ D = 3) (hp : pts_ok D S B P px num) {p q : Nat} (h1 : p < P) (h2 : q < P) (hx : ∀ l, l < D → ptx px p l = ptx px q l) : p = q := by
  have hc : cod (ptx px p) = cod (ptx px q) := by
    unfold cod
    rw [hx 0 (by omega), hx 1 (by omega)]
    rcases hD with rfl | rfl
    · rw [(hp.2.1 p h1).2.2.1 rfl, (hp.2.1 q h2).2.2.1 rfl]
    · rw [hx 2 (by omega)]
  apply Classical.byContradiction
  intro hne
  rcases Nat.lt_or_gt_of_ne hne with h | h
  · have := hp.2.2.2 _ _ h h2; omega
  · have := hp.2.2.2 _ _ h h1; omega
theorem ctb_lt {f g : Nat → Bool} (hfg : ∀ p, f p = true → g p = true) {k : Nat} (hf : f k = false) (hg : g k = true) : ∀ n, ctb f n ≤ ctb g n ∧ (k < n → ctb f n + 1 ≤ ctb g n) := by
  intro n
  induction n with
  | zero => exact ⟨Nat.le_refl _, fun h => by omega⟩
  | succ n ih =>
    have e1 : ctb f (n + 1) = ctb f n + (if f n then 1 else 0) := rfl
    have e2 : ctb g (n + 1) = ctb g n + (if g n then 1 else 0) := rfl
    by_cases x : k = n
    · subst x
      rw [ctb_f hf, ctb_t hg]
      exact ⟨by omega, fun _ => by omega⟩
    · cases h : f n
      · rw [ctb_f h]
        split at e2
        · exact ⟨by omega, fun h' => by have := ih.2 (by omega); omega⟩
        · exact ⟨by omega, fun h' => by have := ih.2 (by omega); omega⟩
      · rw [ctb_t h, ctb_t (hfg n h)]
        exact ⟨by omega, fun h' => by have := ih.2 (by omega); omega⟩
theorem inj_le {o : Nat → Nat} {P : Nat} : ∀ n, (∀ i, i < n → o i < P) → (∀ i j, i < j → j < n → o i ≠ o j) → n ≤ ctb (hit o n) P := by
  intro n
  induction n with
  | zero => intro _ _; omega
  | succ n ih =>
    intro h1 h2
    have h := ih (fun i hi => h1 i (by omega)) (fun i j hi hj => h2 i j hi (by omega))
    have hf : hit o n (o n) = false := by
      cases hh : hit o n (o n)
      · rfl
      · obtain ⟨n', a, b⟩ := hit_iff.mp hh
        exact absurd b (h2 n' n a (by omega))
    have := (ctb_lt (f := hit o n) (g := hit o (n + 1)) (fun p hp => by
      obtain ⟨n', a, b⟩ := hit_iff.mp hp
      exact hit_iff.mpr ⟨n', by omega, b⟩) hf (hit_iff.mpr ⟨n, by omega, rfl⟩) P).2 (h1 n (by omega))
    omega
theorem ctb_len {f : Nat → Bool} : ∀ n, ctb f n ≤ n := by
  intro n
  induction n with
  | zero => exact Nat.le_refl _
  | succ n ih =>
    have e1 : ctb f (n + 1) = ctb f n + (if f n then 1 else 0) := rfl
    split at e1 <;> omega
theorem dc_b {D S P : Nat} {B : Nat → Int} {px num : Nat → Int32} (hS : S ≤ 8) (hp : pts_ok D S B P px num) {p q : Nat} (h1 : p < P) (h2 : q < P) : 0 ≤ dcode px p q ∧ dcode px p q < 3375 := by
  have a0 := (hp.2.1 p h1).2.1 0 (by omega)
  have a1 := (hp.2.1 p h1).2.1 1 (by omega)
  have a2 := (hp.2.1 p h1).2.1 2 (by omega)
  have b0 := (hp.2.1 q h2).2.1 0 (by omega)
  have b1 := (hp.2.1 q h2).2.1 1 (by omega)
  have b2 := (hp.2.1 q h2).2.1 2 (by omega)
  unfold dcode
  omega
section
variable {D S P Pn : Nat} {f_arraySide f_statements f_sealed f_distanceCount f_bandFirst f_bandCount f_bandSize f_accepted f_blamed f_prefixLength f_tunedFresh f_scanAt : Int32} {f_rangeLow f_rangeHigh : Int64} {a_limits a_ops a_factors a_given a_subs a_pointX a_numberAt a_cells a_seen a_distances a_matrix a_prefix a_prefixFrom a_prefixTo a_tunedOrder a_tunedKey a_toX a_toZ a_sysCount a_hullLow a_hullHigh a_cursor a_limit a_pin a_echelon a_pivot : Nat → Int32} {a_sysCoef a_sysBound a_cand a_spanLow a_spanHigh : Nat → Int64}
variable {kl : Nat → Nat} {hL hH pn X Z B Sb : Nat → Int}
theorem xm_27 {post : SX → Prop} {J : Int32 → Int32 → Int32 → Int32 → Int32 → Int32 → Int32 → Int32 → Int32 → Int32 → Int32 → Int32 → Int32 → Int32 → Int32 → Int64 → Int64 → Int32 → Int32 → Int32 → Int32 → Int32 → (Nat → Int32) → (Nat → Int32) → (Nat → Int32) → (Nat → Int32) → (Nat → Int32) → (Nat → Int32) → (Nat → Int32) → (Nat → Int32) → (Nat → Int32) → (Nat → Int32) → (Nat → Int32) → (Nat → Int32) → (Nat → Int32) → (Nat → Int32) → (Nat → Int32) → (Nat → Int32) → (Nat → Int32) → (Nat → Int32) → (Nat → Int64) → (Nat → Int64) → (Nat → Int32) → (Nat → Int64) → (Nat → Int32) → (Nat → Int32) → (Nat → Int64) → (Nat → Int64) → (Nat → Int32) → (Nat → Int32) → (Nat → Int32) → (Nat → Int32) → (Nat → Int32) → Prop}
    {a b p : Nat} {seen0 : Nat → Int32} (hS : S ≤ 8) (hpP : p < P) (ok : sc_ok D 0 0 1 Pn a_sysCoef a_sysBound a_sysCount a_hullLow a_hullHigh a_pin kl hL hH pn) (hX : ∀ j, j < 9 → a_toX j = zI (X j)) (hi : inv_ok D X Z)
    (hp : pts_ok D S B P a_pointX a_numberAt)
    (hout : ∀ c, sD (D + 0) (sIn 0 0 1 Pn a_sysCoef a_sysBound kl hL hH pn) c → nest D S B (xr X D (fun v => c (pl 0 0 v))))
    (hH' : ∀ c q, sD (D + 0) (sIn 0 0 1 Pn a_sysCoef a_sysBound kl hL hH pn) c → q < P → (∀ l, l < D → ptx a_pointX q l = xr X D (fun v => c (pl 0 0 v)) l) → hitAB Sb a_pointX a b p q)
    (K : ∀ (ra rb : Int64) (at' : Int32) (sl sh : Nat → Int64) (cu li seen : Nat → Int32),
      (∀ j, seen j = seen0 j ∨ (seen j = 1 ∧ ∃ q, p < q ∧ q < P ∧ hitAB Sb a_pointX a b p q ∧ (dcode a_pointX p q).toNat = j)) →
      (∀ c, sD (D + 0) (sIn 0 0 1 Pn a_sysCoef a_sysBound kl hL hH pn) c → ∀ q, q < P → (∀ l, l < D → ptx a_pointX q l = xr X D (fun v => c (pl 0 0 v)) l) → p < q → seen (dcode a_pointX p q).toNat = 1) →
      J (nI (p + 1)) (nI D) (nI S) f_arraySide f_statements f_sealed (nI P) f_distanceCount f_bandFirst f_bandCount f_bandSize f_accepted f_blamed f_prefixLength f_tunedFresh ra rb at' (nI 0) (nI 0) (nI 1) (nI Pn) a_limits a_ops a_factors a_given a_subs a_pointX a_numberAt a_cells seen a_distances a_matrix a_prefix a_prefixFrom a_prefixTo a_tunedOrder a_tunedKey a_toX a_toZ a_sysCoef a_sysBound a_sysCount a_cand a_hullLow a_hullHigh sl sh cu li a_pin a_echelon a_pivot) :
    ∀ (d n k : Nat) (ra rb : Int64) (sl sh : Nat → Int64) (cu li seen : Nat → Int32) (cur lim : Nat → Int) (o : Nat → Nat), n + d = 64 →
      (∀ j, j < 6 → cu j = zI (cur j)) → (∀ j, j < 6 → li j = zI (lim j)) → sInv (D + 0) (sIn 0 0 1 Pn a_sysCoef a_sysBound kl hL hH pn) k cur lim → smu (sW 0 0 1 Pn (D + 0)) cur lim k < 67000000 →
      (∀ j, seen j = seen0 j ∨ (seen j = 1 ∧ ∃ q, p < q ∧ q < P ∧ hitAB Sb a_pointX a b p q ∧ (dcode a_pointX p q).toNat = j)) →
      (∀ c, sD (D + 0) (sIn 0 0 1 Pn a_sysCoef a_sysBound kl hL hH pn) c → sRem (D + 0) (sIn 0 0 1 Pn a_sysCoef a_sysBound kl hL hH pn) k cur c ∨ ∀ q, q < P → (∀ l, l < D → ptx a_pointX q l = xr X D (fun v => c (pl 0 0 v)) l) → p < q → seen (dcode a_pointX p q).toNat = 1) →
      (∀ i, i < n → o i < P) → (∀ i j, i < j → j < n → o i ≠ o j) →
      (∀ i c q, i < n → sRem (D + 0) (sIn 0 0 1 Pn a_sysCoef a_sysBound kl hL hH pn) k cur c → q < P → (∀ l, l < D → ptx a_pointX q l = xr X D (fun v => c (pl 0 0 v)) l) → q ≠ o i) →
      wX_matchAccesses_27 post J (nI a) (nI b) (nI p) (d + 1) (nI n) (nI D) (nI S) f_arraySide f_statements f_sealed (nI P) f_distanceCount f_bandFirst f_bandCount f_bandSize f_accepted f_blamed f_prefixLength f_tunedFresh ra rb (sAt k) (nI 0) (nI 0) (nI 1) (nI Pn) a_limits a_ops a_factors a_given a_subs a_pointX a_numberAt a_cells seen a_distances a_matrix a_prefix a_prefixFrom a_prefixTo a_tunedOrder a_tunedKey a_toX a_toZ a_sysCoef a_sysBound a_sysCount a_cand a_hullLow a_hullHigh sl sh cu li a_pin a_echelon a_pivot := by
  have hD := ok.1
  have hPb := hp.1
  have plv : ∀ v, pl 0 0 v = v := fun v => by unfold pl; rw [if_neg (by omega)]; omega
  intro d
  induction d with
  | zero =>
    intro n k ra rb sl sh cu li seen cur lim o hn hcu hli hI hM h1 h2 h3 h4 h5
    refine br_t (nI_le (a := 64) (by omega) (by omega)) (nm_r (nI_1 p) (K _ _ _ _ _ _ _ _ h1 (fun c hc => ?_)))
    rcases h2 c hc with h | h
    · exfalso
      obtain ⟨q, hq, he⟩ := hp.2.2.1 _ (hout c hc)
      have hl := inj_le (o := fun i => if i = n then q else o i) (P := P) (n + 1) (fun i hi => by
        by_cases x : i = n
        · rw [if_pos x]; exact hq
        · rw [if_neg x]; exact h3 i (by omega)) (fun i j hi hj => by
        rw [if_neg (show i ≠ n by omega)]
        by_cases x : j = n
        · rw [if_pos x]; exact fun e => h5 i c q (by omega) h hq he e.symm
        · rw [if_neg x]; exact h4 i j hi (by omega))
      have := ctb_len (f := hit (fun i => if i = n then q else o i) (n + 1)) P
      omega
    · exact h
  | succ d ih =>
    intro n k ra rb sl sh cu li seen cur lim o hn hcu hli hI hM h1 h2 h3 h4 h5
    refine br_f (nI_ge (b := 64) (by omega) (by omega)) ?_
    refine xa_adv (W := sW 0 0 1 Pn (D + 0)) ok sIn_cg (sIn_bd ok) (sIn_wd ok) hcu hli hI hM ?_ ?_
    · intro ra' rb' sl' sh' cu' li' cur' lim' hcu' hli' hI' hD' hM' hR
      refine br_f (by decide) (xl_num hD hS (by omega) hX hcu' hp (hout cur' hD') (fun q hq hx => ?_))
      have hcur : sRem (D + 0) (sIn 0 0 1 Pn a_sysCoef a_sysBound kl hL hH pn) k cur cur' := (hR cur').mpr (Or.inl ⟨hD', fun _ _ => rfl⟩)
      -- what holds for the next round, whatever was written
      have next : ∀ seen' : Nat → Int32, (∀ j, seen' j = seen j ∨ (seen' j = 1 ∧ p < q ∧ (dcode a_pointX p q).toNat = j)) → (p < q → seen' (dcode a_pointX p q).toNat = 1) →
          wX_matchAccesses_27 post J (nI a) (nI b) (nI p) (d + 1) (nI (n + 1)) (nI D) (nI S) f_arraySide f_statements f_sealed (nI P) f_distanceCount f_bandFirst f_bandCount f_bandSize f_accepted f_blamed f_prefixLength f_tunedFresh ra' rb' (sAt (D + 0)) (nI 0) (nI 0) (nI 1) (nI Pn) a_limits a_ops a_factors a_given a_subs a_pointX a_numberAt a_cells seen' a_distances a_matrix a_prefix a_prefixFrom a_prefixTo a_tunedOrder a_tunedKey a_toX a_toZ a_sysCoef a_sysBound a_sysCount a_cand a_hullLow a_hullHigh sl' sh' cu' li' a_pin a_echelon a_pivot := by
        intro seen' g1 g2
        refine ih (n + 1) (D + 0) _ _ _ _ _ _ _ cur' lim' (fun i => if i = n then q else o i) (by omega) hcu' hli' hI' hM' (fun j => ?_) (fun c hc => ?_) (fun i hi => ?_) (fun i j hi hj => ?_) (fun i c q' hi' hc hq' hx' => ?_)
        · rcases g1 j with e | ⟨e1, e2, e3⟩
          · rw [e]; exact h1 j
          · exact Or.inr ⟨e1, q, e2, hq, hH' cur' q hD' hq hx, e3⟩
        · rcases h2 c hc with h | h
          · rcases (hR c).mp h with ⟨_, he⟩ | h
            · right
              intro q' hq' hx' hlt
              have : q' = q := pt_inj hD hp hq' hq (fun l hl => by
                rw [hx' l hl, hx l hl]
                exact dtp_congr (fun _ _ => rfl) (fun v hv => by rw [plv]; exact he v (by omega)))
              subst this
              exact g2 hlt
            · exact Or.inl h
          · right
            intro q' hq' hx' hlt
            rcases g1 (dcode a_pointX p q').toNat with e | e
            · rw [e]; exact h q' hq' hx' hlt
            · exact e.1
        · by_cases x : i = n
          · rw [if_pos x]; exact hq
          · rw [if_neg x]; exact h3 i (by omega)
        · rw [if_neg (show i ≠ n by omega)]
          by_cases x : j = n
          · rw [if_pos x]; exact fun e => h5 i cur' q (by omega) hcur hq hx e.symm
          · rw [if_neg x]; exact h4 i j hi (by omega)
        · by_cases x : i = n
          · rw [if_pos x]
            intro e
            subst e
            obtain ⟨_, m, hm, _, hlt⟩ := hc
            have hz : c m = cur' m := by
              have e1 := hi.1 (fun v => c (pl 0 0 v)) m (by omega)
              have e2 := hi.1 (fun v => cur' (pl 0 0 v)) m (by omega)
              rw [plv] at e1 e2
              rw [← e1, ← e2]
              exact dtp_congr (fun _ _ => rfl) (fun v hv => by rw [← hx' v hv, ← hx v hv])
            omega
          · rw [if_neg x]
            exact h5 i c q' (by omega) ((hR c).mpr (Or.inr hc)) hq' hx'
      refine pk_le q p (fun h => nm_r (nI_1 n) (next seen (fun j => Or.inl rfl) (fun h' => by omega))) (fun h => ?_)
      have hdc := dc_b hS hp hpP hq
      refine xm_mark (by omega) (by omega) hdc (nm_r (nI_1 n) (next _ (fun j => ?_) (fun _ => pk_us)))
      by_cases x : j = (dcode a_pointX p q).toNat
      · subst x; exact Or.inr ⟨pk_us, h, rfl⟩
      · exact Or.inl (pk_un x)
    · intro ra' rb' sl' sh' cu' li' cur' lim' hcu' hli' hno
      refine br_t rfl (nm_r (nI_1 p) (K _ _ _ _ _ _ _ _ h1 (fun c hc => ?_)))
      rcases h2 c hc with h | h
      · exact absurd h (hno c)
      · exact h
end
end
section
/-- the subscripts' coefficients are small; the third is 0 when the depth is 2 -/
def sub_ok (D : Nat) (Sb : Nat → Int) : Prop := ∀ j, j < 48 → (j % 4 ≠ 3 → -2 ≤ Sb j ∧ Sb j ≤ 2) ∧ (-15 ≤ Sb j ∧ Sb j ≤ 15) ∧ (D = 2 → j % 4 = 2 → Sb j = 0)
theorem av_b {D : Nat} {Sb x : Nat → Int} {base : Nat} (h : sub_ok D Sb) (hb : base < 45) (hb4 : base % 4 = 0) (hx : ∀ l, l < 3 → 0 ≤ x l ∧ x l ≤ 7) : -60 ≤ av Sb base x ∧ av Sb base x ≤ 60 := by
  have m0 := ab_mul ((h base (by omega)).1 (by omega)).1 ((h base (by omega)).1 (by omega)).2 (b := x 0) (B := 7) (by have := hx 0 (by omega); omega) (by have := hx 0 (by omega); omega)
  have m1 := ab_mul ((h (base + 1) (by omega)).1 (by omega)).1 ((h (base + 1) (by omega)).1 (by omega)).2 (b := x 1) (B := 7) (by have := hx 1 (by omega); omega) (by have := hx 1 (by omega); omega)
  have m2 := ab_mul ((h (base + 2) (by omega)).1 (by omega)).1 ((h (base + 2) (by omega)).1 (by omega)).2 (b := x 2) (B := 7) (by have := hx 2 (by omega); omega) (by have := hx 2 (by omega); omega)
  have m3 := (h (base + 3) (by omega)).2.1
  unfold av
  omega
theorem acc_b {D : Nat} {Sb : Nat → Int} {b : Nat} (h : sub_ok D Sb) (hb : b < 6) : (∀ j, j < 6 → -2 ≤ accM Sb b j ∧ accM Sb b j ≤ 2) ∧ (D = 2 → accM Sb b 2 = 0 ∧ accM Sb b 5 = 0) := by
  refine ⟨fun j hj => ?_, fun e => ⟨(h (b * 8 + 2) (by omega)).2.2 e (by omega), (h (b * 8 + 4 + 2) (by omega)).2.2 e (by omega)⟩⟩
  unfold accM
  split
  · exact (h _ (by omega)).1 (by omega)
  · exact (h _ (by omega)).1 (by omega)
theorem rd_eb {m : Nat → Int} {C : Nat → Nat → Int} (hm : ∀ j, j < 6 → -2 ≤ m j ∧ m j ≤ 2) (h : rdS m C) : ∀ j r, j < 3 → r < 2 → -150 ≤ C j r ∧ C j r ≤ 150 := by
  intro j r hj hr
  have q := h.1.2.2 j hj
  have b : ∀ i u, i < 6 → u < 3 → -48 ≤ m i * C j (2 + u) ∧ m i * C j (2 + u) ≤ 48 := fun i u hi hu => by
    have hx := (h.2.1 j u hj hu).1
    have := ab_mul (hm i hi).1 (hm i hi).2 (b := C j (2 + u)) (B := 24) (by omega) (by omega)
    omega
  have b0 : -48 ≤ m 0 * C j 2 ∧ m 0 * C j 2 ≤ 48 := b 0 0 (by omega) (by omega)
  have b1 : -48 ≤ m 1 * C j 3 ∧ m 1 * C j 3 ≤ 48 := b 1 1 (by omega) (by omega)
  have b2 : -48 ≤ m 2 * C j 4 ∧ m 2 * C j 4 ≤ 48 := b 2 2 (by omega) (by omega)
  have b3 : -48 ≤ m 3 * C j 2 ∧ m 3 * C j 2 ≤ 48 := b 3 0 (by omega) (by omega)
  have b4 : -48 ≤ m 4 * C j 3 ∧ m 4 * C j 3 ≤ 48 := b 4 1 (by omega) (by omega)
  have b5 : -48 ≤ m 5 * C j 4 ∧ m 5 * C j 4 ≤ 48 := b 5 2 (by omega) (by omega)
  rcases (show r = 0 ∨ r = 1 by omega) with rfl | rfl
  · rw [← q.1]; omega
  · rw [← q.2]; omega
section
variable {D S P : Nat} {f_arraySide f_statements f_sealed f_distanceCount f_bandFirst f_bandCount f_bandSize f_accepted f_blamed f_prefixLength f_tunedFresh f_scanAt f_scanPins : Int32} {f_rangeLow f_rangeHigh : Int64} {a_limits a_ops a_factors a_given a_subs a_pointX a_numberAt a_cells a_seen a_distances a_matrix a_prefix a_prefixFrom a_prefixTo a_tunedOrder a_tunedKey a_toX a_toZ a_sysCount a_hullLow a_hullHigh a_cursor a_limit a_pin a_echelon a_pivot : Nat → Int32} {a_sysCoef a_sysBound a_cand a_spanLow a_spanHigh : Nat → Int64}
variable {B Sb : Nat → Int}
theorem xm_match {post : SX → Prop} {a b : Nat} (hD : D = 2 ∨ D = 3) (hS : 2 ≤ S ∧ S ≤ 8) (ha : a < 6) (hb : b < 6) (hs : ∀ j, j < 48 → a_subs j = zI (Sb j)) (hsb : sub_ok D Sb)
    (hA : rdA a_echelon a_toX a_toZ (rdF (accM Sb b))) (hpv0 : a_pivot 0 = pvt (rdF (accM Sb b) 0 0)) (hpv1 : a_pivot 1 = (if rdF (accM Sb b) 0 0 = 0 then pvt (rdF (accM Sb b) 0 1) else pvt (rdF (accM Sb b) 1 1)))
    (hsys : xs_Sys D a_sysCoef a_sysBound a_sysCount (fun z => nest D S B (xr (rX (rdF (accM Sb b))) D z))) (hhull : ∀ l, l < D → a_hullLow l = zI (hlo (rZ (rdF (accM Sb b))) S l D) ∧ a_hullHigh l = zI (hhi (rZ (rdF (accM Sb b))) S l D))
    (hp : pts_ok D S B P a_pointX a_numberAt)
    (K : ∀ (ra rb : Int64) (at' sp : Int32) (sl sh : Nat → Int64) (cu li pin seen : Nat → Int32),
      (∀ j, seen j = a_seen j ∨ (seen j = 1 ∧ ∃ p q, p < q ∧ q < P ∧ hitAB Sb a_pointX a b p q ∧ (dcode a_pointX p q).toNat = j)) →
      (∀ p q, p < q → q < P → hitAB Sb a_pointX a b p q → seen (dcode a_pointX p q).toNat = 1) →
      post ((nI D), (nI S), f_arraySide, f_statements, f_sealed, (nI P), f_distanceCount, f_bandFirst, f_bandCount, f_bandSize, f_accepted, f_blamed, f_prefixLength, f_tunedFresh, ra, rb, at', (nI 0), (nI 0), (nI 1), sp, a_limits, a_ops, a_factors, a_given, a_subs, a_pointX, a_numberAt, a_cells, seen, a_distances, a_matrix, a_prefix, a_prefixFrom, a_prefixTo, a_tunedOrder, a_tunedKey, a_toX, a_toZ, a_sysCoef, a_sysBound, a_sysCount, a_cand, a_hullLow, a_hullHigh, sl, sh, cu, li, pin, a_echelon, a_pivot)) : wpX_matchAccesses post ((nI D), (nI S), f_arraySide, f_statements, f_sealed, (nI P), f_distanceCount, f_bandFirst, f_bandCount, f_bandSize, f_accepted, f_blamed, f_prefixLength, f_tunedFresh, f_rangeLow, f_rangeHigh, f_scanAt, (nI 0), (nI 0), (nI 1), f_scanPins, a_limits, a_ops, a_factors, a_given, a_subs, a_pointX, a_numberAt, a_cells, a_seen, a_distances, a_matrix, a_prefix, a_prefixFrom, a_prefixTo, a_tunedOrder, a_tunedKey, a_toX, a_toZ, a_sysCoef, a_sysBound, a_sysCount, a_cand, a_hullLow, a_hullHigh, a_spanLow, a_spanHigh, a_cursor, a_limit, a_pin, a_echelon, a_pivot) (nI a) (nI b) := by
  have hPb := hp.1
  obtain ⟨hm, hm2⟩ := acc_b (b := b) hsb hb
  have hC := rd_spec hm
  have hi := rd_inv hD hm hm2
  generalize hCe : rdF (accM Sb b) = C at *
  have hX : ∀ j, j < 9 → a_toX j = zI (rX C j) := fun j hj => by
    have := (hA (j % 3) (by omega)).2.1 (j / 3) (by omega)
    rw [show j / 3 * 3 + j % 3 = j by omega] at this
    exact this
  have hZb : ∀ j, j < 9 → -24 ≤ rZ C j ∧ rZ C j ≤ 24 := fun j hj => by
    have := (hC.2.1 (j / 3) (j % 3) (by omega) (by omega)).2
    unfold rZ; omega
  have hZ8 : (C 0 0 ≠ 0 ∧ C 1 1 ≠ 0) ∨ ∀ j, j < 9 → -8 ≤ rZ C j ∧ rZ C j ≤ 8 := by
    rcases hC.2.2.2.2.2.2 with h | h
    · exact Or.inl h
    · right
      intro j hj
      have := h (j / 3) (j % 3) (by omega) (by omega)
      unfold rZ; omega
  refine ⟨P + 1, ?_⟩
  have go : ∀ (d p : Nat) (ra rb : Int64) (at' sp : Int32) (sl sh : Nat → Int64) (cu li pin seen : Nat → Int32), p + d = P →
      (∀ j, seen j = a_seen j ∨ (seen j = 1 ∧ ∃ p' q, p' < q ∧ q < P ∧ hitAB Sb a_pointX a b p' q ∧ (dcode a_pointX p' q).toNat = j)) →
      (∀ p' q, p' < p → p' < q → q < P → hitAB Sb a_pointX a b p' q → seen (dcode a_pointX p' q).toNat = 1) →
      wX_matchAccesses_2 post (nI a) (nI b) (d + 1) (nI p) (nI D) (nI S) f_arraySide f_statements f_sealed (nI P) f_distanceCount f_bandFirst f_bandCount f_bandSize f_accepted f_blamed f_prefixLength f_tunedFresh ra rb at' (nI 0) (nI 0) (nI 1) sp a_limits a_ops a_factors a_given a_subs a_pointX a_numberAt a_cells seen a_distances a_matrix a_prefix a_prefixFrom a_prefixTo a_tunedOrder a_tunedKey a_toX a_toZ a_sysCoef a_sysBound a_sysCount a_cand a_hullLow a_hullHigh sl sh cu li pin a_echelon a_pivot := by
    intro d
    induction d with
    | zero =>
      intro p ra rb at' sp sl sh cu li pin seen hd h1 h2
      exact br_t (nI_le (by omega) (by omega)) (K _ _ _ _ _ _ _ _ _ _ h1 (fun p' q hpq hq => h2 p' q (by omega) hpq hq))
    | succ d ih =>
      intro p ra rb at' sp sl sh cu li pin seen hd h1 h2
      have hpP : p < P := by omega
      have hxp : ∀ l, l < 3 → 0 ≤ ptx a_pointX p l ∧ ptx a_pointX p l ≤ 7 := fun l hl => by have := (hp.2.1 p hpP).2.1 l hl; omega
      have bt0 := av_b (base := a * 8) hsb (by omega) (by omega) hxp
      have bt1 := av_b (base := a * 8 + 4) hsb (by omega) (by omega) hxp
      have bc0 := (hsb (b * 8 + 3) (by omega)).2.1
      have bc1 := (hsb (b * 8 + 7) (by omega)).2.1
      -- a point that hits solves the equations, and back
      have lin : ∀ z q, q < P → (∀ l, l < D → ptx a_pointX q l = xr (rX C) D z l) → (hitAB Sb a_pointX a b p q ↔ (C 0 0 * z 0 = av Sb (a * 8) (ptx a_pointX p) - Sb (b * 8 + 3) ∧ C 0 1 * z 0 + C 1 1 * z 1 = av Sb (a * 8 + 4) (ptx a_pointX p) - Sb (b * 8 + 7))) := by
        intro z q hq hx
        have e := ab_lin (b := b) hD hC hm2 hx
        unfold hitAB
        rw [e.1, e.2]
        omega
      have zof : ∀ q, q < P → ∀ l, l < D → ptx a_pointX q l = xr (rX C) D (xr (rZ C) D (ptx a_pointX q)) l := fun q hq l hl => (hi.2 _ l hl).symm
      refine br_f (nI_ge (by omega) (by omega)) ?_
      refine xp_solve (Sb := Sb) (C := C) ha hb (by omega) hs rfl rfl (by omega) (by omega) (fun j hj => (hA j hj).1) (rd_eb hm hC) hC.2.2.2.2.2.1 hpv0 hpv1 (fun hno pin' => ?_) (fun Pn pn pin' hPn2 hPn hpn hiff => ?_)
      · refine br_t rfl (nm_r (nI_1 p) (ih (p + 1) _ _ _ _ _ _ _ _ _ _ (by omega) h1 (fun p' q hp' hpq hq hh => ?_)))
        by_cases x : p' = p
        · subst x
          exact absurd ((lin _ q hq (zof q hq)).mp hh) (hno _ _)
        · exact h2 p' q (by omega) hpq hq hh
      · obtain ⟨kl, hL, hH, ok, hin, hout⟩ := sc_mk (F := 0) (Cn := 0) (Sz := 1) (Pn := Pn) (pin := pin') (pn := pn) hD hS hi hsys hhull hZb (by
          rcases hZ8 with h | h
          · exact Or.inr ⟨hPn h.1 h.2, rfl, rfl⟩
          · exact Or.inl h) (by omega) (by omega) (by omega) hPn2 hpn
        have hw := sW_1 hD hPn2
        refine br_f (by decide) (xa_start (W := sW 0 0 1 Pn (D + 0)) ok (sIn_bd ok) sIn_cg (sIn_wd ok) ?_)
        intro ra1 rb1 sl1 sh1 cu1 li1 cur lim hcu hli hI hM hR
        have plv : ∀ v, pl 0 0 v = v := fun v => by unfold pl; rw [if_neg (by omega)]; omega
        refine ⟨65, xm_27 (Sb := Sb) (a := a) (b := b) (B := B) (X := rX C) (Z := rZ C) (seen0 := seen) hS.2 hpP ok hX hi hp (fun c hc => (hout c hc).1) (fun c q hc hq hx => ?_) ?_ 64 0 1 ra1 rb1 sl1 sh1 cu1 li1 seen cur lim (fun _ => 0) (by omega) hcu hli hI (by omega) (fun j => Or.inl rfl) (fun c hc => Or.inl ((hR c).mp hc)) (fun i h => by omega) (fun i j h h' => by omega) (fun i c q h => by omega)⟩
        · refine (lin (fun v => c (pl 0 0 v)) q hq hx).mpr ((hiff _).mpr (fun l hl => ?_))
          exact (hout c hc).2.1 l hl
        · intro ra2 rb2 at2 sl2 sh2 cu2 li2 seen2 g1 g2
          refine ih (p + 1) _ _ _ _ _ _ _ _ _ _ (by omega) (fun j => ?_) (fun p' q hp' hpq hq hh => ?_)
          · rcases g1 j with e | ⟨e1, q, e2, e3, e4, e5⟩
            · rw [e]; exact h1 j
            · exact Or.inr ⟨e1, p, q, e2, e3, e4, e5⟩
          · by_cases x : p' = p
            · subst x
              have hN : nest D S B (xr (rX C) D (xr (rZ C) D (ptx a_pointX q))) := (nest_cg (by omega) (fun l hl => hi.2 _ l hl)).mpr (hp.2.1 q hq).1
              have hd := hin _ hN ((hiff _).mp ((lin _ q hq (zof q hq)).mp hh))
              refine g2 _ hd q hq (fun l hl => ?_) hpq
              rw [zof q hq l hl]
              exact dtp_congr (fun _ _ => rfl) (fun v hv => (key_pl v).symm)
            · have := h2 p' q (by omega) hpq hq hh
              rcases g1 (dcode a_pointX p' q).toNat with e | e
              · rw [e]; exact this
              · exact e.1
  exact go P 0 _ _ _ _ _ _ _ _ _ _ (by omega) (fun j => Or.inl rfl) (fun p' q h => by omega)
end
end
section
/-! findDistances -/
def nds (o : Int32) : Nat := if o = 0 then 2 else if o = 1 then 4 else 6
def accE (St : Nat) (ops : Nat → Int32) (k : Nat) : Prop := k / 3 < St ∧ 2 * (k % 3) < nds (ops (k / 3))
/-- p and q touch one cell, and one of them writes it -/
def confl (St : Nat) (ops : Nat → Int32) (Sb : Nat → Int) (px : Nat → Int32) (p q : Nat) : Prop :=
  ∃ a b, a < 6 ∧ b < 6 ∧ accE St ops a ∧ accE St ops b ∧ (a % 3 = 0 ∨ b % 3 = 0) ∧ hitAB Sb px a b p q
def nzb (sn : Nat → Int32) : Nat → Bool := fun j => decide (sn j ≠ 0)
/-- ds lists the codes in sn in order -/
def dist_ok (D : Nat) (sn : Nat → Int32) (cnt : Nat) (ds : Nat → Int32) : Prop := cnt = ctb (nzb sn) 3375 ∧ cnt < 1688 ∧ (∀ j, j < 3375 → sn j ≠ 0 → ds (ctb (nzb sn) j) = nI j) ∧ (∀ j, j < 3375 → sn j ≠ 0 → 1688 ≤ j ∧ (D = 2 → j % 15 = 7))
theorem ctb_sub {f : Nat → Bool} {k : Nat} (h : ∀ j, j < k → f j = false) : ∀ n, ctb f n ≤ n - k := by
  intro n
  induction n with
  | zero => exact Nat.zero_le _
  | succ n ih =>
    by_cases x : n < k
    · rw [ctb_f (h n x)]; omega
    · have e1 : ctb f (n + 1) = ctb f n + (if f n then 1 else 0) := rfl
      split at e1 <;> omega
theorem dc_lo {D S P : Nat} {B : Nat → Int} {px num : Nat → Int32} (hS : S ≤ 8) (hp : pts_ok D S B P px num) {p q : Nat} (h1 : p < q) (h2 : q < P) : 1688 ≤ (dcode px p q).toNat ∧ (dcode px p q).toNat < 3375 ∧ (D = 2 → (dcode px p q).toNat % 15 = 7) := by
  have a0 := (hp.2.1 p (by omega)).2.1 0 (by omega)
  have a1 := (hp.2.1 p (by omega)).2.1 1 (by omega)
  have a2 := (hp.2.1 p (by omega)).2.1 2 (by omega)
  have b0 := (hp.2.1 q h2).2.1 0 (by omega)
  have b1 := (hp.2.1 q h2).2.1 1 (by omega)
  have b2 := (hp.2.1 q h2).2.1 2 (by omega)
  have hc := hp.2.2.2 p q h1 h2
  unfold cod at hc
  have h15 : D = 2 → ptx px q 2 = 0 ∧ ptx px p 2 = 0 := fun e => ⟨(hp.2.1 q h2).2.2.1 e, (hp.2.1 p (by omega)).2.2.1 e⟩
  unfold dcode
  generalize ptx px p 0 = p0 at *
  generalize ptx px p 1 = p1 at *
  generalize ptx px p 2 = p2 at *
  generalize ptx px q 0 = q0 at *
  generalize ptx px q 1 = q1 at *
  generalize ptx px q 2 = q2 at *
  refine ⟨by omega, by omega, fun e => ?_⟩
  obtain ⟨e1, e2⟩ := h15 e
  omega
section
variable {St : Nat} {f_depth f_side f_arraySide f_sealed f_points f_distanceCount f_bandFirst f_bandCount f_bandSize f_accepted f_blamed f_prefixLength f_tunedFresh f_scanAt f_scanFirst f_scanCount f_scanSize f_scanPins : Int32} {f_rangeLow f_rangeHigh : Int64} {a_limits a_ops a_factors a_given a_subs a_pointX a_numberAt a_cells a_seen a_distances a_matrix a_prefix a_prefixFrom a_prefixTo a_tunedOrder a_tunedKey a_toX a_toZ a_sysCount a_hullLow a_hullHigh a_cursor a_limit a_pin a_echelon a_pivot : Nat → Int32} {a_sysCoef a_sysBound a_cand a_spanLow a_spanHigh : Nat → Int64}
theorem xd_needs {post : Int32 → Prop} {o : Int32} (K : post (nI (nds o))) : wpX_needs post (f_depth, f_side, f_arraySide, (nI St), f_sealed, f_points, f_distanceCount, f_bandFirst, f_bandCount, f_bandSize, f_accepted, f_blamed, f_prefixLength, f_tunedFresh, f_rangeLow, f_rangeHigh, f_scanAt, f_scanFirst, f_scanCount, f_scanSize, f_scanPins, a_limits, a_ops, a_factors, a_given, a_subs, a_pointX, a_numberAt, a_cells, a_seen, a_distances, a_matrix, a_prefix, a_prefixFrom, a_prefixTo, a_tunedOrder, a_tunedKey, a_toX, a_toZ, a_sysCoef, a_sysBound, a_sysCount, a_cand, a_hullLow, a_hullHigh, a_spanLow, a_spanHigh, a_cursor, a_limit, a_pin, a_echelon, a_pivot) o := by
  unfold nds at K
  refine br_c (fun h => ?_) (fun h => br_c (fun h' => ?_) (fun h' => ?_))
  · rw [if_pos h] at K; exact K
  · rw [if_neg h, if_pos h'] at K; exact K
  · rw [if_neg h, if_neg h'] at K; exact K
theorem nds_le (o : Int32) : nds o ≤ 6 := by
  unfold nds
  split
  · omega
  · split <;> omega
theorem xd_ex {post : Int32 → Prop} {k : Nat} (hSt : St ≤ 2) (hk : k < 6) (K1 : accE St a_ops k → post 1) (K0 : ¬ accE St a_ops k → post 0) : wpX_accessExists post (f_depth, f_side, f_arraySide, (nI St), f_sealed, f_points, f_distanceCount, f_bandFirst, f_bandCount, f_bandSize, f_accepted, f_blamed, f_prefixLength, f_tunedFresh, f_rangeLow, f_rangeHigh, f_scanAt, f_scanFirst, f_scanCount, f_scanSize, f_scanPins, a_limits, a_ops, a_factors, a_given, a_subs, a_pointX, a_numberAt, a_cells, a_seen, a_distances, a_matrix, a_prefix, a_prefixFrom, a_prefixTo, a_tunedOrder, a_tunedKey, a_toX, a_toZ, a_sysCoef, a_sysBound, a_sysCount, a_cand, a_hullLow, a_hullHigh, a_spanLow, a_spanHigh, a_cursor, a_limit, a_pin, a_echelon, a_pivot) (nI k) := by
  have e1 : nI k / 3 = nI (k / 3) := pk_div (d := 3) (by omega) (by omega) (by omega)
  have e2 : nI k - nI k / 3 * 3 = nI (k % 3) := pk_rem (d := 3) (by omega) (by omega) (by omega)
  have ck : (nI (k / 3)).toNatClampNeg = k / 3 := nI_clamp (by omega)
  refine ⟨by decide, nm_r e1 ⟨by decide, nm_r e2 (pk_le St (k / 3) (fun h => K0 (fun q => by have := q.1; omega)) (fun h => ⟨vp_in_nI (by omega) (by omega), ?_⟩))⟩⟩
  rw [ck]
  have hn := nds_le (a_ops (k / 3))
  refine xd_needs ?_
  rw [nx_m2]
  exact pk_le _ _ (fun h' => K0 (fun q => by have := q.2; omega)) (fun h' => K1 ⟨h, h'⟩)
end
section
variable {D S P St : Nat} {f_arraySide f_sealed f_distanceCount f_bandFirst f_bandCount f_bandSize f_accepted f_blamed f_prefixLength f_tunedFresh f_scanAt f_scanFirst f_scanCount f_scanSize f_scanPins : Int32} {f_rangeLow f_rangeHigh : Int64} {a_limits a_ops a_factors a_given a_subs a_pointX a_numberAt a_cells a_seen a_distances a_matrix a_prefix a_prefixFrom a_prefixTo a_tunedOrder a_tunedKey a_toX a_toZ a_sysCount a_hullLow a_hullHigh a_cursor a_limit a_pin a_echelon a_pivot : Nat → Int32} {a_sysCoef a_sysBound a_cand a_spanLow a_spanHigh : Nat → Int64}
variable {B Sb : Nat → Int}
theorem xd_117 {post : SX → Prop} (h0 : ∀ j, j < 3375 → a_seen j ≠ 0 → 1688 ≤ j ∧ (D = 2 → j % 15 = 7))
    (K : ∀ (cnt : Nat) (ds : Nat → Int32), dist_ok D a_seen cnt ds → post ((nI D), (nI S), f_arraySide, (nI St), f_sealed, (nI P), nI cnt, f_bandFirst, f_bandCount, f_bandSize, f_accepted, f_blamed, f_prefixLength, f_tunedFresh, f_rangeLow, f_rangeHigh, f_scanAt, f_scanFirst, f_scanCount, f_scanSize, f_scanPins, a_limits, a_ops, a_factors, a_given, a_subs, a_pointX, a_numberAt, a_cells, a_seen, ds, a_matrix, a_prefix, a_prefixFrom, a_prefixTo, a_tunedOrder, a_tunedKey, a_toX, a_toZ, a_sysCoef, a_sysBound, a_sysCount, a_cand, a_hullLow, a_hullHigh, a_spanLow, a_spanHigh, a_cursor, a_limit, a_pin, a_echelon, a_pivot)) :
    ∃ n117 : Nat, wX_findDistances_117 post (nI D) (nI S) f_arraySide (nI St) f_sealed (nI P) f_bandFirst f_bandCount f_bandSize f_accepted f_blamed f_prefixLength f_tunedFresh f_rangeLow f_rangeHigh f_scanAt f_scanFirst f_scanCount f_scanSize f_scanPins n117 0 0 a_limits a_ops a_factors a_given a_subs a_pointX a_numberAt a_cells a_seen a_distances a_matrix a_prefix a_prefixFrom a_prefixTo a_tunedOrder a_tunedKey a_toX a_toZ a_sysCoef a_sysBound a_sysCount a_cand a_hullLow a_hullHigh a_spanLow a_spanHigh a_cursor a_limit a_pin a_echelon a_pivot := by
  have hz : ∀ j, j < 1688 → nzb a_seen j = false := fun j hj => decide_eq_false (fun h => by have := (h0 j (by omega) h).1; omega)
  have cap : ∀ j, j ≤ 3375 → ctb (nzb a_seen) j < 1688 := fun j hj => by
    have := ctb_sub (f := nzb a_seen) hz j
    omega
  refine loop_0 (fun n i (s : Int32 × (Nat → Int32)) => wX_findDistances_117 post (nI D) (nI S) f_arraySide (nI St) f_sealed (nI P) f_bandFirst f_bandCount f_bandSize f_accepted f_blamed f_prefixLength f_tunedFresh f_rangeLow f_rangeHigh f_scanAt f_scanFirst f_scanCount f_scanSize f_scanPins n (nI i) s.1 a_limits a_ops a_factors a_given a_subs a_pointX a_numberAt a_cells a_seen s.2 a_matrix a_prefix a_prefixFrom a_prefixTo a_tunedOrder a_tunedKey a_toX a_toZ a_sysCoef a_sysBound a_sysCount a_cand a_hullLow a_hullHigh a_spanLow a_spanHigh a_cursor a_limit a_pin a_echelon a_pivot)
    (fun i s => s.1 = nI (ctb (nzb a_seen) i) ∧ ∀ j, j < i → a_seen j ≠ 0 → s.2 (ctb (nzb a_seen) j) = nI j) 3375 (0, a_distances) ⟨rfl, fun j hj => by omega⟩ ?_ ?_
  · intro n s hs
    obtain ⟨c, ds⟩ := s
    obtain ⟨rfl, h2⟩ := hs
    exact br_t (by decide) (K _ ds ⟨rfl, cap 3375 (by omega), h2, h0⟩)
  · intro n i s hi hs hK
    obtain ⟨c, ds⟩ := s
    obtain ⟨rfl, h2⟩ := hs
    dsimp only at h2
    have ci : (nI i).toNatClampNeg = i := nI_clamp (by omega)
    have hcap := cap i (by omega)
    refine br_f (nI_ge (b := 3375) hi (by omega)) ⟨vp_in_nI (by omega) (by omega), ?_⟩
    rw [ci]
    refine br_c (fun h => ?_) (fun h => br_f (nI_ge (b := 1688) hcap (by omega)) ⟨vp_in_nI hcap (by omega), nm_r (e' := upd ds (ctb (nzb a_seen) i) (nI i)) (by rw [nI_clamp (by omega)]) (nm_r (nI_1 _) (nm_r (nI_1 i) ?_))⟩)
    · have e : ctb (nzb a_seen) (i + 1) = ctb (nzb a_seen) i := ctb_f (decide_eq_false (fun h' => h' h))
      refine nm_r (nI_1 i) (hK (_, ds) ⟨by rw [e], fun j hj hne => ?_⟩)
      by_cases x : j = i
      · subst x; exact absurd h hne
      · exact h2 j (by omega) hne
    · have e : ctb (nzb a_seen) (i + 1) = ctb (nzb a_seen) i + 1 := ctb_t (decide_eq_true h)
      refine hK (nI (ctb (nzb a_seen) i + 1), upd ds (ctb (nzb a_seen) i) (nI i)) ⟨by rw [e], fun j hj hne => ?_⟩
      dsimp only
      by_cases x : j = i
      · subst x; exact pk_us
      · have e2 : ctb (nzb a_seen) (j + 1) = ctb (nzb a_seen) j + 1 := ctb_t (decide_eq_true hne)
        have := ctb_le (f := nzb a_seen) (show j + 1 ≤ i by omega)
        rw [pk_un (by omega)]
        exact h2 j (by omega) hne
theorem xd_find {post : SX → Prop} (hD : D = 2 ∨ D = 3) (hS : 2 ≤ S ∧ S ≤ 8) (hSt : St ≤ 2) (hs : ∀ j, j < 48 → a_subs j = zI (Sb j)) (hsb : sub_ok D Sb) (hB : ∀ j, j < 18 → a_limits j = zI (B j)) (hBb : lim_ok B)
    (hp : pts_ok D S B P a_pointX a_numberAt)
    (K : ∀ (cnt : Nat) (ra rb : Int64) (q1 q2 q3 q4 q5 : Int32) (seen ds tx tz : Nat → Int32) (sc sb : Nat → Int64) (sk : Nat → Int32) (cd : Nat → Int64) (hl hh : Nat → Int32) (sl sh : Nat → Int64) (cu li pin ec pv : Nat → Int32),
      (∀ j, j < 3375 → (seen j ≠ 0 ↔ ∃ p q, p < q ∧ q < P ∧ confl St a_ops Sb a_pointX p q ∧ (dcode a_pointX p q).toNat = j)) → dist_ok D seen cnt ds →
      post ((nI D), (nI S), f_arraySide, (nI St), f_sealed, (nI P), nI cnt, f_bandFirst, f_bandCount, f_bandSize, f_accepted, f_blamed, f_prefixLength, f_tunedFresh, ra, rb, q1, q2, q3, q4, q5, a_limits, a_ops, a_factors, a_given, a_subs, a_pointX, a_numberAt, a_cells, seen, ds, a_matrix, a_prefix, a_prefixFrom, a_prefixTo, a_tunedOrder, a_tunedKey, tx, tz, sc, sb, sk, cd, hl, hh, sl, sh, cu, li, pin, ec, pv)) :
    wpX_findDistances post ((nI D), (nI S), f_arraySide, (nI St), f_sealed, (nI P), f_distanceCount, f_bandFirst, f_bandCount, f_bandSize, f_accepted, f_blamed, f_prefixLength, f_tunedFresh, f_rangeLow, f_rangeHigh, f_scanAt, f_scanFirst, f_scanCount, f_scanSize, f_scanPins, a_limits, a_ops, a_factors, a_given, a_subs, a_pointX, a_numberAt, a_cells, a_seen, a_distances, a_matrix, a_prefix, a_prefixFrom, a_prefixTo, a_tunedOrder, a_tunedKey, a_toX, a_toZ, a_sysCoef, a_sysBound, a_sysCount, a_cand, a_hullLow, a_hullHigh, a_spanLow, a_spanHigh, a_cursor, a_limit, a_pin, a_echelon, a_pivot) := by
  have hPb := hp.1
  -- the pairs (b, a) already done
  let done : Nat → Nat → Nat → Nat → Prop := fun b a p q => ∃ a' b', a' < 6 ∧ b' < 6 ∧ (b' < b ∨ (b' = b ∧ a' < a)) ∧ accE St a_ops a' ∧ accE St a_ops b' ∧ (a' % 3 = 0 ∨ b' % 3 = 0) ∧ hitAB Sb a_pointX a' b' p q
  let Inv : Nat → Nat → (Nat → Int32) → Prop := fun b a seen => (∀ j, j < 3375 → seen j ≠ 0 → ∃ p q, p < q ∧ q < P ∧ done b a p q ∧ (dcode a_pointX p q).toNat = j) ∧ (∀ p q, p < q → q < P → done b a p q → seen (dcode a_pointX p q).toNat ≠ 0)
  have mono : ∀ {b a b' a' seen}, Inv b a seen → (∀ p q, done b a p q ↔ done b' a' p q) → Inv b' a' seen := by
    intro b a b' a' seen h e
    refine ⟨fun j hj hne => ?_, fun p q h1 h2 h3 => h.2 p q h1 h2 ((e p q).mpr h3)⟩
    obtain ⟨p, q, h1, h2, h3, h4⟩ := h.1 j hj hne
    exact ⟨p, q, h1, h2, (e p q).mp h3, h4⟩
  have step0 : ∀ {b a p q}, b < 6 → a < 6 → (¬ accE St a_ops a ∨ ¬ accE St a_ops b ∨ ¬ (a % 3 = 0 ∨ b % 3 = 0)) → (done b a p q ↔ done b (a + 1) p q) := by
    intro b a p q hb ha hno
    refine ⟨fun ⟨a', b', h1, h2, h3, h4⟩ => ⟨a', b', h1, h2, by omega, h4⟩, fun ⟨a', b', h1, h2, h3, h4, h5, h6, h7⟩ => ⟨a', b', h1, h2, ?_, h4, h5, h6, h7⟩⟩
    by_cases x : b' = b ∧ a' = a
    · obtain ⟨rfl, rfl⟩ := x
      rcases hno with h | h | h
      · exact absurd h4 h
      · exact absurd h5 h
      · exact absurd h6 h
    · omega
  have stepb : ∀ {b p q}, done b 6 p q ↔ done (b + 1) 0 p q := by
    intro b p q
    exact ⟨fun ⟨a', b', h1, h2, h3, h4⟩ => ⟨a', b', h1, h2, by omega, h4⟩, fun ⟨a', b', h1, h2, h3, h4⟩ => ⟨a', b', h1, h2, by omega, h4⟩⟩
  have skipb : ∀ {b p q}, ¬ accE St a_ops b → (done b 0 p q ↔ done (b + 1) 0 p q) := by
    intro b p q hno
    refine ⟨fun ⟨a', b', h1, h2, h3, h4⟩ => ⟨a', b', h1, h2, by omega, h4⟩, fun ⟨a', b', h1, h2, h3, h4, h5, h6⟩ => ⟨a', b', h1, h2, ?_, h4, h5, h6⟩⟩
    by_cases x : b' = b
    · subst x; exact absurd h5 hno
    · omega
  refine loop_0 (fun n i s => wX_findDistances_2 post (nI D) (nI S) f_arraySide (nI St) f_sealed (nI P) f_distanceCount f_bandFirst f_bandCount f_bandSize f_accepted f_blamed f_prefixLength f_tunedFresh f_rangeLow f_rangeHigh f_scanAt f_scanFirst f_scanCount f_scanSize f_scanPins n (nI i) a_limits a_ops a_factors a_given a_subs a_pointX a_numberAt a_cells s a_distances a_matrix a_prefix a_prefixFrom a_prefixTo a_tunedOrder a_tunedKey a_toX a_toZ a_sysCoef a_sysBound a_sysCount a_cand a_hullLow a_hullHigh a_spanLow a_spanHigh a_cursor a_limit a_pin a_echelon a_pivot) (fun i s => ∀ j, j < i → s j = 0) 3375 a_seen (fun j hj => by omega) ?_ ?_
  · intro n seen0 hs0
    refine br_t (by decide) ⟨7, ?_⟩
    have go : ∀ (d b : Nat) (ra rb : Int64) (q1 q2 q3 q4 q5 : Int32) (seen tx tz : Nat → Int32) (sc sb : Nat → Int64) (sk : Nat → Int32) (cd : Nat → Int64) (hl hh : Nat → Int32) (sl sh : Nat → Int64) (cu li pin ec pv : Nat → Int32), b + d = 6 → Inv b 0 seen →
        wX_findDistances_24 post (d + 1) (nI b) (nI D) (nI S) f_arraySide (nI St) f_sealed (nI P) f_distanceCount f_bandFirst f_bandCount f_bandSize f_accepted f_blamed f_prefixLength f_tunedFresh ra rb q1 q2 q3 q4 q5 a_limits a_ops a_factors a_given a_subs a_pointX a_numberAt a_cells seen a_distances a_matrix a_prefix a_prefixFrom a_prefixTo a_tunedOrder a_tunedKey tx tz sc sb sk cd hl hh sl sh cu li pin ec pv := by
      intro d
      induction d with
      | zero =>
        intro b ra rb q1 q2 q3 q4 q5 seen tx tz sc sb sk cd hl hh sl sh cu li pin ec pv hd hI
        cases (show b = 6 by omega)
        refine br_t (by decide) (xd_117 (fun j hj hne => ?_) (fun cnt ds hds => K _ _ _ _ _ _ _ _ _ _ _ _ _ _ _ _ _ _ _ _ _ _ _ _ _ (fun j hj => ?_) hds))
        · obtain ⟨p, q, h1, h2, _, rfl⟩ := hI.1 j hj hne
          have := dc_lo hS.2 hp h1 h2
          exact ⟨this.1, this.2.2⟩
        · refine ⟨fun hne => ?_, fun ⟨p, q, h1, h2, h3, h4⟩ => ?_⟩
          · obtain ⟨p, q, h1, h2, ⟨a', b', g1, g2, _, g3⟩, h4⟩ := hI.1 j hj hne
            exact ⟨p, q, h1, h2, ⟨a', b', g1, g2, g3⟩, h4⟩
          · obtain ⟨a', b', g1, g2, g3⟩ := h3
            subst h4
            exact hI.2 p q h1 h2 ⟨a', b', g1, g2, by omega, g3⟩
      | succ d ih =>
        intro b ra rb q1 q2 q3 q4 q5 seen tx tz sc sb sk cd hl hh sl sh cu li pin ec pv hd hI
        have hb : b < 6 := by omega
        refine br_f (nI_ge (b := 6) hb (by omega)) (xd_ex hSt hb (fun hex => ?_) (fun hno => ?_))
        · obtain ⟨hm, hm2⟩ := acc_b (b := b) hsb hb
          have hC := rd_spec hm
          have hi := rd_inv hD hm hm2
          refine br_f (by decide) (xr_reduce (m := accM Sb b) hD hb hm hm2 (fun v hv => ⟨?_, ?_⟩) (fun ec tx tz pv hA hpv0 hpv1 => ?_))
          · rw [hs _ (by omega)]; unfold accM; rw [if_pos hv]
          · rw [hs _ (by omega)]; unfold accM; rw [if_neg (by omega)]; exact congrArg zI (congrArg Sb (by omega))
          have hX : ∀ j, j < 9 → tx j = zI (rX (rdF (accM Sb b)) j) := fun j hj => by
            have := (hA (j % 3) (by omega)).2.1 (j / 3) (by omega)
            rw [show j / 3 * 3 + j % 3 = j by omega] at this
            exact this
          have hZ : ∀ j, j < 9 → tz j = zI (rZ (rdF (accM Sb b)) j) := fun j hj => by
            have := (hA (j / 3) (by omega)).2.2 (j % 3) (by omega)
            rw [show j / 3 * 3 + j % 3 = j by omega] at this
            exact this
          refine xt_shape (xb_build (X := rX (rdF (accM Sb b))) (Z := rZ (rdF (accM Sb b))) (B := B) (z0 := xr (rZ (rdF (accM Sb b))) D (ptx a_pointX 0)) hD hS hX (fun j hj => ?_) hZ (fun j hj => ?_) hB hBb ((nest_cg (by omega) (fun l hl => hi.2 _ l hl)).mpr (hp.2.1 0 (by omega)).1) ?_)
          · have := (hC.2.1 (j % 3) (j / 3) (by omega) (by omega)).1
            unfold rX; omega
          · have := (hC.2.1 (j / 3) (j % 3) (by omega) (by omega)).2
            unfold rZ; omega
          intro cd sc sb sk hl hh hsys hhull
          refine ⟨7, ?_⟩
          have go2 : ∀ (d' a : Nat) (ra rb : Int64) (q1 q5 : Int32) (sl sh : Nat → Int64) (cu li pin seen : Nat → Int32), a + d' = 6 → Inv b a seen →
              wX_findDistances_56 post (wX_findDistances_24 post (d + 1)) (nI b) (d' + 1) (nI a) (nI D) (nI S) f_arraySide (nI St) f_sealed (nI P) f_distanceCount f_bandFirst f_bandCount f_bandSize f_accepted f_blamed f_prefixLength f_tunedFresh ra rb q1 (nI 0) (nI 0) (nI 1) q5 a_limits a_ops a_factors a_given a_subs a_pointX a_numberAt a_cells seen a_distances a_matrix a_prefix a_prefixFrom a_prefixTo a_tunedOrder a_tunedKey tx tz sc sb sk cd hl hh sl sh cu li pin ec pv := by
            intro d'
            induction d' with
            | zero =>
              intro a ra rb q1 q5 sl sh cu li pin seen hd' hI
              cases (show a = 6 by omega)
              exact br_t (by decide) (nm_r (nI_1 b) (ih (b + 1) _ _ _ _ _ _ _ _ _ _ _ _ _ _ _ _ _ _ _ _ _ _ _ (by omega) (mono hI (fun p q => stepb))))
            | succ d' ih' =>
              intro a ra rb q1 q5 sl sh cu li pin seen hd' hI
              have ha : a < 6 := by omega
              have ea : nI a - nI a / 3 * 3 = nI (a % 3) := pk_rem (d := 3) (by omega) (by omega) (by omega)
              have eb : nI b - nI b / 3 * 3 = nI (b % 3) := pk_rem (d := 3) (by omega) (by omega) (by omega)
              have h79 : (a % 3 = 0 ∨ b % 3 = 0) → wX_findDistances_79 post (wX_findDistances_24 post (d + 1)) (wX_findDistances_56 post (wX_findDistances_24 post (d + 1)) (nI b) (d' + 1)) (nI b) (nI a) 1 (nI D) (nI S) f_arraySide (nI St) f_sealed (nI P) f_distanceCount f_bandFirst f_bandCount f_bandSize f_accepted f_blamed f_prefixLength f_tunedFresh ra rb q1 (nI 0) (nI 0) (nI 1) q5 a_limits a_ops a_factors a_given a_subs a_pointX a_numberAt a_cells seen a_distances a_matrix a_prefix a_prefixFrom a_prefixTo a_tunedOrder a_tunedKey tx tz sc sb sk cd hl hh sl sh cu li pin ec pv := by
                intro hw
                refine br_f (by decide) (xd_ex hSt ha (fun hexa => ?_) (fun hno => ?_))
                · refine br_f (by decide) (xm_match (B := B) (Sb := Sb) hD hS ha hb hs hsb hA hpv0 hpv1 hsys hhull hp ?_)
                  intro ra2 rb2 at2 sp2 sl2 sh2 cu2 li2 pin2 seen2 g1 g2
                  refine nm_r (nI_1 a) (ih' (a + 1) _ _ _ _ _ _ _ _ _ _ (by omega) ⟨fun j hj hne => ?_, fun p q h1 h2 h3 => ?_⟩)
                  · rcases g1 j with e | ⟨_, p, q, e1, e2, e3, e4⟩
                    · rw [e] at hne
                      obtain ⟨p, q, h1, h2, ⟨a', b', f1, f2, f3, f4⟩, h4⟩ := hI.1 j hj hne
                      exact ⟨p, q, h1, h2, ⟨a', b', f1, f2, by omega, f4⟩, h4⟩
                    · exact ⟨p, q, e1, e2, ⟨a, b, ha, hb, by omega, hexa, hex, hw, e3⟩, e4⟩
                  · obtain ⟨a', b', f1, f2, f3, f4, f5, f6, f7⟩ := h3
                    by_cases x : b' = b ∧ a' = a
                    · obtain ⟨rfl, rfl⟩ := x
                      rw [g2 p q h1 h2 f7]; decide
                    · have := hI.2 p q h1 h2 ⟨a', b', f1, f2, by omega, f4, f5, f6, f7⟩
                      rcases g1 (dcode a_pointX p q).toNat with e | e
                      · rw [e]; exact this
                      · rw [e.1]; decide
                · exact br_t rfl (nm_r (nI_1 a) (ih' (a + 1) _ _ _ _ _ _ _ _ _ _ (by omega) (mono hI (fun p q => step0 hb ha (Or.inl hno)))))
              refine br_f (nI_ge (b := 6) ha (by omega)) ⟨by decide, ?_⟩
              rw [ea]
              refine pk_eq (a % 3) 0 (fun h => h79 (Or.inl h)) (fun h => ⟨by decide, ?_⟩)
              rw [eb]
              refine pk_eq (b % 3) 0 (fun h' => h79 (Or.inr h')) (fun h' => ?_)
              exact br_t rfl (nm_r (nI_1 a) (ih' (a + 1) _ _ _ _ _ _ _ _ _ _ (by omega) (mono hI (fun p q => step0 hb ha (Or.inr (Or.inr (by omega)))))))
          exact go2 6 0 _ _ _ _ _ _ _ _ _ _ (by omega) hI
        · exact br_t rfl (nm_r (nI_1 b) (ih (b + 1) _ _ _ _ _ _ _ _ _ _ _ _ _ _ _ _ _ _ _ _ _ _ _ (by omega) (mono hI (fun p q => skipb hno))))
    refine go 6 0 _ _ _ _ _ _ _ _ _ _ _ _ _ _ _ _ _ _ _ _ _ _ _ (by omega) ⟨fun j hj hne => absurd (hs0 j hj) hne, fun p q h1 h2 h3 => ?_⟩
    obtain ⟨a', b', f1, f2, f3, _⟩ := h3
    omega
  · intro n i s hi hs' hK
    have ci : (nI i).toNatClampNeg = i := nI_clamp (by omega)
    refine br_f (nI_ge (b := 3375) hi (by omega)) ⟨vp_in_nI (by omega) (by omega), nm_r (e' := upd s i 0) (by rw [ci]; rfl) (nm_r (nI_1 i) (hK _ (fun j hj => ?_)))⟩
    by_cases x : j = i
    · subst x; exact pk_us
    · exact (pk_un x).trans (hs' j (by omega))
end
end
section
/-! listing the points: one fold for both sides -/
def lst (i j k : Nat) (s : Nat × (Nat → Int32) × (Nat → Int32)) : Nat × (Nat → Int32) × (Nat → Int32) :=
  if s.1 < 64 then (s.1 + 1, upd (upd (upd s.2.1 (s.1 * 3) (nI i)) (s.1 * 3 + 1) (nI j)) (s.1 * 3 + 2) (nI k), upd s.2.2 (i * 64 + j * 8 + k) (nI s.1)) else (s.1 + 1, s.2.1, s.2.2)
def gK (st : Nat → (Nat × (Nat → Int32) × (Nat → Int32)) → (Nat × (Nat → Int32) × (Nat → Int32))) : Nat → Nat → (Nat × (Nat → Int32) × (Nat → Int32)) → (Nat × (Nat → Int32) × (Nat → Int32))
  | _, 0, s => s
  | k, d + 1, s => gK st (k + 1) d (st k s)
theorem gK_id {st : Nat → (Nat × (Nat → Int32) × (Nat → Int32)) → (Nat × (Nat → Int32) × (Nat → Int32))} : ∀ (d k : Nat) (s : Nat × (Nat → Int32) × (Nat → Int32)), (∀ k', k ≤ k' → k' < k + d → ∀ s, st k' s = s) → gK st k d s = s := by
  intro d
  induction d with
  | zero => intro k s _; rfl
  | succ d ih =>
    intro k s h
    show gK st (k + 1) d (st k s) = s
    rw [h k (by omega) (by omega)]
    exact ih (k + 1) s (fun k' h1 h2 => h k' (by omega) (by omega))
theorem gK_app {st : Nat → (Nat × (Nat → Int32) × (Nat → Int32)) → (Nat × (Nat → Int32) × (Nat → Int32))} : ∀ (d e k : Nat) (s : Nat × (Nat → Int32) × (Nat → Int32)), gK st k (d + e) s = gK st (k + d) e (gK st k d s) := by
  intro d
  induction d with
  | zero => intro e k s; rw [Nat.zero_add]; rfl
  | succ d ih =>
    intro e k s
    rw [show d + 1 + e = (d + e) + 1 by omega]
    show gK st (k + 1) (d + e) (st k s) = gK st (k + (d + 1)) e (gK st (k + 1) d (st k s))
    rw [ih e (k + 1), show k + 1 + d = k + (d + 1) by omega]
theorem gK_inv {st : Nat → (Nat × (Nat → Int32) × (Nat → Int32)) → (Nat × (Nat → Int32) × (Nat → Int32))} (I : Nat → (Nat × (Nat → Int32) × (Nat → Int32)) → Prop) : ∀ (d k : Nat) (s : Nat × (Nat → Int32) × (Nat → Int32)), (∀ k', k ≤ k' → k' < k + d → ∀ s, I k' s → I (k' + 1) (st k' s)) → I k s → I (k + d) (gK st k d s) := by
  intro d
  induction d with
  | zero => intro k s _ h; exact h
  | succ d ih =>
    intro k s hs h
    have := ih (k + 1) (st k s) (fun k' h1 h2 => hs k' (by omega) (by omega)) (hs k (by omega) (by omega) s h)
    rw [show k + (d + 1) = k + 1 + d by omega]
    exact this
/-- only the part [a, b) of a range does anything -/
theorem gK_mid {st : Nat → (Nat × (Nat → Int32) × (Nat → Int32)) → (Nat × (Nat → Int32) × (Nat → Int32))} {a b n : Nat} (hab : a ≤ b) (hbn : b ≤ n) (h : ∀ k, k < n → (k < a ∨ b ≤ k) → ∀ s, st k s = s) (s : Nat × (Nat → Int32) × (Nat → Int32)) : gK st 0 n s = gK st a (b - a) s := by
  have e1 := gK_app (st := st) a (n - a) 0 s
  rw [show a + (n - a) = n by omega, gK_id (st := st) a 0 s (fun k' h1 h2 => h k' (by omega) (by omega)), Nat.zero_add] at e1
  have e2 := gK_app (st := st) (b - a) (n - b) a s
  rw [show b - a + (n - b) = n - a by omega, show a + (b - a) = b by omega, gK_id (st := st) (n - b) b _ (fun k' h1 h2 => h k' (by omega) (by omega))] at e2
  rw [e1, e2]
def vec (i j k : Nat) : Nat → Int := fun l => if l = 0 then (i : Int) else if l = 1 then (j : Int) else if l = 2 then (k : Int) else 0
noncomputable def isP (D S : Nat) (B : Nat → Int) (i j k : Nat) : Bool := @decide (nest D S B (vec i j k)) (Classical.propDecidable _)
theorem isP_t {D S : Nat} {B : Nat → Int} {i j k : Nat} (h : nest D S B (vec i j k)) : isP D S B i j k = true := @decide_eq_true _ (Classical.propDecidable _) h
theorem isP_f {D S : Nat} {B : Nat → Int} {i j k : Nat} (h : ¬ nest D S B (vec i j k)) : isP D S B i j k = false := @decide_eq_false _ (Classical.propDecidable _) h
def kSd (D S : Nat) : Nat := if D = 3 then S else 1
noncomputable def stK (D S : Nat) (B : Nat → Int) (i j k : Nat) (s : Nat × (Nat → Int32) × (Nat → Int32)) : Nat × (Nat → Int32) × (Nat → Int32) := if isP D S B i j k then lst i j k s else s
noncomputable def stJ (D S : Nat) (B : Nat → Int) (i j : Nat) (s : Nat × (Nat → Int32) × (Nat → Int32)) : Nat × (Nat → Int32) × (Nat → Int32) := gK (stK D S B i j) 0 (kSd D S) s
noncomputable def stI (D S : Nat) (B : Nat → Int) (i : Nat) (s : Nat × (Nat → Int32) × (Nat → Int32)) : Nat × (Nat → Int32) × (Nat → Int32) := gK (stJ D S B i) 0 S s
noncomputable def allP (D S : Nat) (B : Nat → Int) (s : Nat × (Nat → Int32) × (Nat → Int32)) : Nat × (Nat → Int32) × (Nat → Int32) := gK (stI D S B) 0 S s
/-- the points whose code is below b have been listed -/
def PI (D S : Nat) (B : Nat → Int) (b : Nat) (s : Nat × (Nat → Int32) × (Nat → Int32)) : Prop :=
  (∀ q, q < s.1 → q < 64 → nest D S B (ptx s.2.1 q) ∧ (∀ l, l < 3 → 0 ≤ ptx s.2.1 q l ∧ ptx s.2.1 q l < S) ∧ (D = 2 → ptx s.2.1 q 2 = 0) ∧ cod (ptx s.2.1 q) < b ∧ s.2.2 (cod (ptx s.2.1 q)).toNat = nI q) ∧
  (∀ p q, p < q → q < s.1 → q < 64 → cod (ptx s.2.1 p) < cod (ptx s.2.1 q)) ∧
  (s.1 ≤ 64 → ∀ i j k : Nat, i < S → j < S → k < kSd D S → nest D S B (vec i j k) → i * 64 + j * 8 + k < b → ∃ q, q < s.1 ∧ ∀ l, l < 3 → ptx s.2.1 q l = vec i j k l)
theorem PI_step {D S : Nat} {B : Nat → Int} {i j k : Nat} (hD : D = 2 ∨ D = 3) (hS : 2 ≤ S ∧ S ≤ 8) (hi : i < S) (hj : j < S) (hk : k < kSd D S) {s : Nat × (Nat → Int32) × (Nat → Int32)} (h : PI D S B (i * 64 + j * 8 + k) s) : PI D S B (i * 64 + j * 8 + (k + 1)) (stK D S B i j k s) := by
  obtain ⟨c, px, num⟩ := s
  obtain ⟨h1, h2, h3⟩ := h
  dsimp only at h1 h2 h3
  have hk8 : k < S := by unfold kSd at hk; split at hk <;> omega
  have code_eq : ∀ i' j' k' : Nat, i' < S → j' < S → k' < kSd D S → i' * 64 + j' * 8 + k' < i * 64 + j' * 8 + k' + 600 → (i' * 64 + j' * 8 + k' = i * 64 + j * 8 + k → i' = i ∧ j' = j ∧ k' = k) := by
    intro i' j' k' a1 a2 a3 _ e
    have : k' < S := by unfold kSd at a3; split at a3 <;> omega
    omega
  unfold stK
  by_cases hn : nest D S B (vec i j k)
  · rw [isP_t hn, if_pos rfl]
    unfold lst
    by_cases hc : c < 64
    · rw [if_pos hc]
      have pold : ∀ q l, q < c → l < 3 → ptx (upd (upd (upd px (c * 3) (nI i)) (c * 3 + 1) (nI j)) (c * 3 + 2) (nI k)) q l = ptx px q l := fun q l hq hl => by
        unfold ptx
        rw [pk_un (by omega), pk_un (by omega), pk_un (by omega)]
      have pnew : ∀ l, l < 3 → ptx (upd (upd (upd px (c * 3) (nI i)) (c * 3 + 1) (nI j)) (c * 3 + 2) (nI k)) c l = vec i j k l := fun l hl => by
        unfold ptx
        rcases (show l = 0 ∨ l = 1 ∨ l = 2 by omega) with rfl | rfl | rfl
        · rw [pk_un (by omega), pk_un (by omega), show c * 3 + 0 = c * 3 from rfl, pk_us, nI_toInt (by omega)]; rfl
        · rw [pk_un (by omega), pk_us, nI_toInt (by omega)]; rfl
        · rw [pk_us, nI_toInt (by omega)]; rfl
      have cold : ∀ q, q < c → cod (ptx (upd (upd (upd px (c * 3) (nI i)) (c * 3 + 1) (nI j)) (c * 3 + 2) (nI k)) q) = cod (ptx px q) := fun q hq => by
        unfold cod
        rw [pold q 0 hq (by omega), pold q 1 hq (by omega), pold q 2 hq (by omega)]
      have cnew : cod (ptx (upd (upd (upd px (c * 3) (nI i)) (c * 3 + 1) (nI j)) (c * 3 + 2) (nI k)) c) = ((i * 64 + j * 8 + k : Nat) : Int) := by
        unfold cod
        rw [pnew 0 (by omega), pnew 1 (by omega), pnew 2 (by omega)]
        show (i : Int) * 64 + (j : Int) * 8 + (k : Int) = _
        omega
      refine ⟨fun q hq hq64 => ?_, fun p q hpq hq hq64 => ?_, fun hc64 i' j' k' a1 a2 a3 a4 a5 => ?_⟩
      · dsimp only at hq ⊢
        by_cases x : q = c
        · subst x
          rw [cnew]
          refine ⟨(nest_cg (by omega) (fun l hl => pnew l (by omega))).mpr hn, fun l hl => ?_, fun e => ?_, by omega, ?_⟩
          · rw [pnew l hl]
            rcases (show l = 0 ∨ l = 1 ∨ l = 2 by omega) with rfl | rfl | rfl
            · show 0 ≤ (i : Int) ∧ (i : Int) < S; omega
            · show 0 ≤ (j : Int) ∧ (j : Int) < S; omega
            · show 0 ≤ (k : Int) ∧ (k : Int) < S; omega
          · rw [pnew 2 (by omega)]
            show (k : Int) = 0
            unfold kSd at hk
            rw [if_neg (by omega)] at hk
            omega
          · rw [Int.toNat_natCast]; exact pk_us
        · obtain ⟨g1, g2, g3, g4, g5⟩ := h1 q (by omega) hq64
          rw [cold q (by omega)]
          refine ⟨(nest_cg (by omega) (fun l hl => pold q l (by omega) (by omega))).mpr g1, fun l hl => by rw [pold q l (by omega) hl]; exact g2 l hl, fun e => by rw [pold q 2 (by omega) (by omega)]; exact g3 e, by omega, ?_⟩
          have hpos : 0 ≤ cod (ptx px q) := by
            have b0 := g2 0 (by omega)
            have b1 := g2 1 (by omega)
            have b2 := g2 2 (by omega)
            unfold cod; omega
          rw [pk_un (by omega)]
          exact g5
      · dsimp only at hq ⊢
        by_cases x : q = c
        · subst x
          rw [cold p (by omega), cnew]
          exact (h1 p (by omega) (by omega)).2.2.2.1
        · rw [cold p (by omega), cold q (by omega)]
          exact h2 p q hpq (by omega) hq64
      · dsimp only at hc64 ⊢
        by_cases x : i' * 64 + j' * 8 + k' = i * 64 + j * 8 + k
        · obtain ⟨rfl, rfl, rfl⟩ := code_eq i' j' k' a1 a2 a3 (by omega) x
          exact ⟨c, by omega, pnew⟩
        · obtain ⟨q, hq, he⟩ := h3 (by omega) i' j' k' a1 a2 a3 a4 (by omega)
          exact ⟨q, by omega, fun l hl => by rw [pold q l hq hl]; exact he l hl⟩
    · rw [if_neg hc]
      refine ⟨fun q hq hq64 => ?_, fun p q hpq hq hq64 => h2 p q hpq (by omega) hq64, fun hc64 => by dsimp only at hc64; omega⟩
      obtain ⟨g1, g2, g3, g4, g5⟩ := h1 q (by omega) hq64
      exact ⟨g1, g2, g3, by dsimp only; omega, g5⟩
  · rw [isP_f hn, if_neg (by decide)]
    refine ⟨fun q hq hq64 => ?_, h2, fun hc64 i' j' k' a1 a2 a3 a4 a5 => ?_⟩
    · obtain ⟨g1, g2, g3, g4, g5⟩ := h1 q hq hq64
      exact ⟨g1, g2, g3, by dsimp only; omega, g5⟩
    · by_cases x : i' * 64 + j' * 8 + k' = i * 64 + j * 8 + k
      · obtain ⟨rfl, rfl, rfl⟩ := code_eq i' j' k' a1 a2 a3 (by omega) x
        exact absurd a4 hn
      · exact h3 hc64 i' j' k' a1 a2 a3 a4 (by omega)
theorem PI_mono {D S : Nat} {B : Nat → Int} {b b' : Nat} {s : Nat × (Nat → Int32) × (Nat → Int32)} (hb : b ≤ b') (hno : ∀ i j k : Nat, i < S → j < S → k < kSd D S → i * 64 + j * 8 + k < b' → i * 64 + j * 8 + k < b) (h : PI D S B b s) : PI D S B b' s := by
  obtain ⟨h1, h2, h3⟩ := h
  refine ⟨fun q hq hq64 => ?_, h2, fun hc i j k a1 a2 a3 a4 a5 => h3 hc i j k a1 a2 a3 a4 (hno i j k a1 a2 a3 a5)⟩
  obtain ⟨g1, g2, g3, g4, g5⟩ := h1 q hq hq64
  exact ⟨g1, g2, g3, by omega, g5⟩
theorem PI_all {D S : Nat} {B : Nat → Int} (hD : D = 2 ∨ D = 3) (hS : 2 ≤ S ∧ S ≤ 8) (px num : Nat → Int32) : PI D S B (S * 64) (allP D S B (0, px, num)) := by
  have hk8 : ∀ k, k < kSd D S → k < 8 := fun k hk => by unfold kSd at hk; split at hk <;> omega
  have hk1 : kSd D S ≤ 8 := by unfold kSd; split <;> omega
  have h0 : PI D S B 0 (0, px, num) := ⟨fun q hq => by dsimp only at hq; omega, fun p q _ hq => by dsimp only at hq; omega, fun _ i j k _ _ _ _ h => by omega⟩
  have := gK_inv (st := stI D S B) (fun i s => PI D S B (i * 64) s) S 0 (0, px, num) (fun i _ hi s hI => ?_) (by rw [Nat.zero_mul]; exact h0)
  · rw [Nat.zero_add] at this; exact this
  · have := gK_inv (st := stJ D S B i) (fun j s => PI D S B (i * 64 + j * 8) s) S 0 s (fun j _ hj s hI => ?_) (by rw [Nat.zero_mul]; exact hI)
    · rw [Nat.zero_add] at this
      exact PI_mono (by omega) (fun i' j' k' a1 a2 a3 a4 => by have := hk8 k' a3; omega) this
    · have := gK_inv (st := stK D S B i j) (fun k s => PI D S B (i * 64 + j * 8 + k) s) (kSd D S) 0 s (fun k _ hk s hI => PI_step hD hS (by omega) (by omega) (by omega) hI) hI
      rw [Nat.zero_add] at this
      exact PI_mono (by omega) (fun i' j' k' a1 a2 a3 a4 => by have := hk8 k' a3; omega) this
theorem pts_of {D S : Nat} {B : Nat → Int} (hD : D = 2 ∨ D = 3) (hS : 2 ≤ S ∧ S ≤ 8) {px num px' num' : Nat → Int32} {c : Nat} (e : allP D S B (0, px, num) = (c, px', num')) (h1 : 1 ≤ c) (h2 : c ≤ 64) : pts_ok D S B c px' num' := by
  have h := PI_all (B := B) hD hS px num
  rw [e] at h
  obtain ⟨g1, g2, g3⟩ := h
  dsimp only at g1 g2 g3
  refine ⟨⟨h1, h2⟩, fun q hq => ?_, fun x hx => ?_, fun p q hpq hq => g2 p q hpq hq (by omega)⟩
  · obtain ⟨a1, a2, a3, _, a5⟩ := g1 q hq (by omega)
    exact ⟨a1, a2, a3, a5⟩
  · have b0 := hx 0 (by omega)
    have b1 := hx 1 (by omega)
    have hv : ∀ l, l < D → vec (x 0).toNat (x 1).toNat (if D = 2 then 0 else (x 2).toNat) l = x l := by
      intro l hl
      have c0 := b0.1
      have c1 := b1.1
      rcases (show l = 0 ∨ l = 1 ∨ l = 2 by omega) with rfl | rfl | rfl
      · show ((x 0).toNat : Int) = x 0; omega
      · show ((x 1).toNat : Int) = x 1; omega
      · have c2 := (hx 2 hl).1
        rw [if_neg (by omega)]
        show ((x 2).toNat : Int) = x 2; omega
    obtain ⟨q, hq, he⟩ := g3 h2 (x 0).toNat (x 1).toNat (if D = 2 then 0 else (x 2).toNat) (by have := b0.1; have := b0.2.1; omega) (by have := b1.1; have := b1.2.1; omega) (by
      unfold kSd
      rcases hD with rfl | rfl
      · rw [if_pos rfl, if_neg (by omega)]; omega
      · have := hx 2 (by omega)
        have q1 := this.1
        have q2 := this.2.1
        rw [if_neg (by omega), if_pos rfl]; omega) ((nest_cg (by omega) hv).mpr hx) (by
      have := b0.2.1
      have := b1.2.1
      have := b0.1
      have := b1.1
      rcases hD with rfl | rfl
      · rw [if_pos rfl]; omega
      · have q2 := (hx 2 (by omega)).2.1
        have q1 := (hx 2 (by omega)).1
        rw [if_neg (by omega)]; omega)
    exact ⟨q, hq, fun l hl => by rw [he l (by omega), hv l hl]⟩
end
section
/-! listPoints of the component -/
theorem gK_cnt {st : Nat → (Nat × (Nat → Int32) × (Nat → Int32)) → (Nat × (Nat → Int32) × (Nat → Int32))} {w : Nat} (h : ∀ k s, (st k s).1 ≤ s.1 + w) : ∀ d k s, (gK st k d s).1 ≤ s.1 + d * w := by
  intro d
  induction d with
  | zero => intro k s; exact Nat.le_add_right _ _
  | succ d ih =>
    intro k s
    have h1 := ih (k + 1) (st k s)
    have h2 := h k s
    rw [Nat.add_mul]
    show (gK st (k + 1) d (st k s)).1 ≤ _
    omega
theorem stK_cnt {D S : Nat} {B : Nat → Int} {i j k : Nat} (s : Nat × (Nat → Int32) × (Nat → Int32)) : (stK D S B i j k s).1 ≤ s.1 + 1 := by
  unfold stK lst
  split
  · split <;> exact Nat.le_refl _
  · omega
theorem stJ_cnt {D S : Nat} {B : Nat → Int} {i j : Nat} (hS : S ≤ 8) (s : Nat × (Nat → Int32) × (Nat → Int32)) : (stJ D S B i j s).1 ≤ s.1 + 8 := by
  have h := gK_cnt (st := stK D S B i j) (w := 1) (fun k s => stK_cnt s) (kSd D S) 0 s
  have : kSd D S ≤ 8 := by unfold kSd; split <;> omega
  show (gK (stK D S B i j) 0 (kSd D S) s).1 ≤ _
  omega
theorem stI_cnt {D S : Nat} {B : Nat → Int} {i : Nat} (hS : S ≤ 8) (s : Nat × (Nat → Int32) × (Nat → Int32)) : (stI D S B i s).1 ≤ s.1 + 64 := by
  have h := gK_cnt (st := stJ D S B i) (w := 8) (fun j s => stJ_cnt hS s) S 0 s
  show (gK (stJ D S B i) 0 S s).1 ≤ _
  omega
/-- the limits of level 0 have no coefficients, those of level 1 one -/
def lim_sh (B : Nat → Int) : Prop := B 0 = 0 ∧ B 1 = 0 ∧ B 3 = 0 ∧ B 4 = 0 ∧ B 7 = 0 ∧ B 10 = 0
def bat (B : Nat → Int) (w i j : Nat) : Int := B (w * 3) * i + B (w * 3 + 1) * j + B (w * 3 + 2)
def lov (D : Nat) (B : Nat → Int) (l i j : Nat) : Int := if l < D then (if 0 ≤ bat B (2 * l) i j then bat B (2 * l) i j else 0) else 0
def hiv (D S : Nat) (B : Nat → Int) (l i j : Nat) : Int := if l < D then (if bat B (2 * l + 1) i j ≤ (S : Int) - 1 then bat B (2 * l + 1) i j else (S : Int) - 1) else 0
theorem bat_b {B : Nat → Int} (h : lim_ok B) {w i j : Nat} (hw : w < 6) (hi : i < 8) (hj : j < 8) : -100 ≤ bat B w i j ∧ bat B w i j ≤ 100 := by
  have hl := h (w / 2) (by omega)
  have b : ∀ x y : Int, -2 ≤ x ∧ x ≤ 2 → 0 ≤ y ∧ y ≤ 7 → -14 ≤ x * y ∧ x * y ≤ 14 := fun x y hx hy => by
    have := ab_mul hx.1 hx.2 (b := y) (B := 7) (by omega) (by omega)
    omega
  unfold bat
  rcases (show w = 2 * (w / 2) ∨ w = 2 * (w / 2) + 1 by omega) with e | e
  · rw [show w * 3 = 6 * (w / 2) by omega]
    have b1 := b (B (6 * (w / 2))) i hl.1 (by omega)
    have b2 := b (B (6 * (w / 2) + 1)) j hl.2.1 (by omega)
    have b3 := hl.2.2.1
    omega
  · rw [show w * 3 = 6 * (w / 2) + 3 by omega]
    have b1 := b (B (6 * (w / 2) + 3)) i hl.2.2.2.1 (by omega)
    have b2 := b (B (6 * (w / 2) + 3 + 1)) j hl.2.2.2.2.1 (by omega)
    have b3 := hl.2.2.2.2.2
    rw [show 6 * (w / 2) + 3 + 2 = 6 * (w / 2) + 5 by omega]
    omega
/-- level 0 of the nest -/
theorem nst_0 {S : Nat} {D : Nat} {B : Nat → Int} {i j k : Nat} (hD : 2 ≤ D) (hsh : lim_sh B) (hi : i < S) : nst S B (vec i j k) 0 ↔ lov D B 0 0 0 ≤ i ∧ (i : Int) ≤ hiv D S B 0 0 0 := by
  obtain ⟨h0, h1, h3, h4, _, _⟩ := hsh
  have e1 : lov D B 0 0 0 = if 0 ≤ B 2 then B 2 else 0 := by
    unfold lov bat
    rw [if_pos (by omega)]
    show (if 0 ≤ B 0 * ((0 : Nat) : Int) + B 1 * ((0 : Nat) : Int) + B 2 then B 0 * ((0 : Nat) : Int) + B 1 * ((0 : Nat) : Int) + B 2 else 0) = _
    rw [h0, h1, show (0 : Int) * ((0 : Nat) : Int) + 0 * ((0 : Nat) : Int) + B 2 = B 2 by omega]
  have e2 : hiv D S B 0 0 0 = if B 5 ≤ (S : Int) - 1 then B 5 else (S : Int) - 1 := by
    unfold hiv bat
    rw [if_pos (by omega)]
    show (if B 3 * ((0 : Nat) : Int) + B 4 * ((0 : Nat) : Int) + B 5 ≤ _ then B 3 * ((0 : Nat) : Int) + B 4 * ((0 : Nat) : Int) + B 5 else _) = _
    rw [h3, h4, show (0 : Int) * ((0 : Nat) : Int) + 0 * ((0 : Nat) : Int) + B 5 = B 5 by omega]
  rw [e1, e2]
  show (0 ≤ (i : Int) ∧ (i : Int) ≤ S - 1 ∧ B 0 * (i : Int) + B 1 * (j : Int) + B 2 ≤ (i : Int) ∧ (i : Int) ≤ B 3 * (i : Int) + B 4 * (j : Int) + B 5) ↔ _
  rw [h0, h1, h3, h4]
  split <;> split <;> omega
theorem nst_1 {S : Nat} {D : Nat} {B : Nat → Int} {i j k : Nat} (hD : 2 ≤ D) (hsh : lim_sh B) (hj : j < S) : nst S B (vec i j k) 1 ↔ lov D B 1 i 0 ≤ j ∧ (j : Int) ≤ hiv D S B 1 i 0 := by
  obtain ⟨_, _, _, _, h7, h10⟩ := hsh
  have e1 : lov D B 1 i 0 = if 0 ≤ B 6 * i + B 8 then B 6 * i + B 8 else 0 := by
    unfold lov bat
    rw [if_pos (by omega)]
    show (if 0 ≤ B 6 * (i : Int) + B 7 * ((0 : Nat) : Int) + B 8 then B 6 * (i : Int) + B 7 * ((0 : Nat) : Int) + B 8 else 0) = _
    rw [show B 6 * (i : Int) + B 7 * ((0 : Nat) : Int) + B 8 = B 6 * i + B 8 by rw [h7]; omega]
  have e2 : hiv D S B 1 i 0 = if B 9 * i + B 11 ≤ (S : Int) - 1 then B 9 * i + B 11 else (S : Int) - 1 := by
    unfold hiv bat
    rw [if_pos (by omega)]
    show (if B 9 * (i : Int) + B 10 * ((0 : Nat) : Int) + B 11 ≤ _ then B 9 * (i : Int) + B 10 * ((0 : Nat) : Int) + B 11 else _) = _
    rw [show B 9 * (i : Int) + B 10 * ((0 : Nat) : Int) + B 11 = B 9 * i + B 11 by rw [h10]; omega]
  rw [e1, e2]
  show (0 ≤ (j : Int) ∧ (j : Int) ≤ S - 1 ∧ B 6 * (i : Int) + B 7 * (j : Int) + B 8 ≤ (j : Int) ∧ (j : Int) ≤ B 9 * (i : Int) + B 10 * (j : Int) + B 11) ↔ _
  rw [h7, h10]
  split <;> split <;> omega
theorem nst_2 {S : Nat} {B : Nat → Int} {i j k : Nat} (hk : k < S) : nst S B (vec i j k) 2 ↔ lov 3 B 2 i j ≤ k ∧ (k : Int) ≤ hiv 3 S B 2 i j := by
  unfold lov hiv
  rw [if_pos (show 2 < 3 by omega), if_pos (show 2 < 3 by omega)]
  show (0 ≤ (k : Int) ∧ (k : Int) ≤ S - 1 ∧ bat B 4 i j ≤ (k : Int) ∧ (k : Int) ≤ bat B 5 i j) ↔ (if 0 ≤ bat B 4 i j then bat B 4 i j else 0) ≤ (k : Int) ∧ (k : Int) ≤ (if bat B 5 i j ≤ (S : Int) - 1 then bat B 5 i j else (S : Int) - 1)
  split <;> split <;> omega
section
variable {D S : Nat} {f_arraySide f_statements f_sealed f_points f_distanceCount f_bandFirst f_bandCount f_bandSize f_accepted f_blamed f_prefixLength f_tunedFresh f_scanAt f_scanFirst f_scanCount f_scanSize f_scanPins : Int32} {f_rangeLow f_rangeHigh : Int64} {a_limits a_ops a_factors a_given a_subs a_pointX a_numberAt a_cells a_seen a_distances a_matrix a_prefix a_prefixFrom a_prefixTo a_tunedOrder a_tunedKey a_toX a_toZ a_sysCount a_hullLow a_hullHigh a_cursor a_limit a_pin a_echelon a_pivot : Nat → Int32} {a_sysCoef a_sysBound a_cand a_spanLow a_spanHigh : Nat → Int64}
variable {B : Nat → Int}
theorem xq_at {post : Int32 → Prop} {w i j : Nat} (hB : ∀ j, j < 18 → a_limits j = zI (B j)) (hw : w < 6) (K : post (zI (bat B w i j))) : wpX_boundAt post ((nI D), (nI S), f_arraySide, f_statements, f_sealed, f_points, f_distanceCount, f_bandFirst, f_bandCount, f_bandSize, f_accepted, f_blamed, f_prefixLength, f_tunedFresh, f_rangeLow, f_rangeHigh, f_scanAt, f_scanFirst, f_scanCount, f_scanSize, f_scanPins, a_limits, a_ops, a_factors, a_given, a_subs, a_pointX, a_numberAt, a_cells, a_seen, a_distances, a_matrix, a_prefix, a_prefixFrom, a_prefixTo, a_tunedOrder, a_tunedKey, a_toX, a_toZ, a_sysCoef, a_sysBound, a_sysCount, a_cand, a_hullLow, a_hullHigh, a_spanLow, a_spanHigh, a_cursor, a_limit, a_pin, a_echelon, a_pivot) (nI w) (nI i) (nI j) := by
  have e1 : nI w * 3 = nI (w * 3) := nx_m3 w
  have e2 : nI w * 3 + 1 = nI (w * 3 + 1) := by rw [nx_m3, nI_1]
  have e3 : nI w * 3 + 2 = nI (w * 3 + 2) := by rw [nx_m3, nx_a2]
  refine ⟨vx_n _ e1 (by omega) (by omega), vx_n _ e2 (by omega) (by omega), vx_n _ e3 (by omega) (by omega), ?_⟩
  rw [cx_n _ e1 (by omega), cx_n _ e2 (by omega), cx_n _ e3 (by omega), hB _ (by omega), hB _ (by omega), hB _ (by omega), zI_n i, zI_n j, zI_mul, zI_mul, zI_add, zI_add]
  exact K
theorem xq_low {post : Int32 → Prop} {l i j : Nat} (hB : ∀ j, j < 18 → a_limits j = zI (B j)) (hBb : lim_ok B) (hD : D = 2 ∨ D = 3) (hl : l < 3) (hi : i < 8) (hj : j < 8) (K : post (zI (lov D B l i j))) : wpX_lowOf post ((nI D), (nI S), f_arraySide, f_statements, f_sealed, f_points, f_distanceCount, f_bandFirst, f_bandCount, f_bandSize, f_accepted, f_blamed, f_prefixLength, f_tunedFresh, f_rangeLow, f_rangeHigh, f_scanAt, f_scanFirst, f_scanCount, f_scanSize, f_scanPins, a_limits, a_ops, a_factors, a_given, a_subs, a_pointX, a_numberAt, a_cells, a_seen, a_distances, a_matrix, a_prefix, a_prefixFrom, a_prefixTo, a_tunedOrder, a_tunedKey, a_toX, a_toZ, a_sysCoef, a_sysBound, a_sysCount, a_cand, a_hullLow, a_hullHigh, a_spanLow, a_spanHigh, a_cursor, a_limit, a_pin, a_echelon, a_pivot) (nI l) (nI i) (nI j) := by
  unfold lov at K
  refine pk_lt l D (fun h => ?_) (fun h => by rw [if_neg (by omega)] at K; exact K)
  rw [if_pos h] at K
  rw [nx_m2]
  have b := bat_b hBb (w := 2 * l) (by omega) hi hj
  refine xq_at hB (by omega) (br_c (fun h' => ?_) (fun h' => ?_)) <;> rw [zI_0, zI_le (by omega) (by omega) (by omega) (by omega)] at h'
  · rw [if_pos h'] at K; exact K
  · rw [if_neg h'] at K; exact K
theorem xq_high {post : Int32 → Prop} {l i j : Nat} (hB : ∀ j, j < 18 → a_limits j = zI (B j)) (hBb : lim_ok B) (hD : D = 2 ∨ D = 3) (hS : 2 ≤ S ∧ S ≤ 8) (hl : l < 3) (hi : i < 8) (hj : j < 8) (K : post (zI (hiv D S B l i j))) : wpX_highOf post ((nI D), (nI S), f_arraySide, f_statements, f_sealed, f_points, f_distanceCount, f_bandFirst, f_bandCount, f_bandSize, f_accepted, f_blamed, f_prefixLength, f_tunedFresh, f_rangeLow, f_rangeHigh, f_scanAt, f_scanFirst, f_scanCount, f_scanSize, f_scanPins, a_limits, a_ops, a_factors, a_given, a_subs, a_pointX, a_numberAt, a_cells, a_seen, a_distances, a_matrix, a_prefix, a_prefixFrom, a_prefixTo, a_tunedOrder, a_tunedKey, a_toX, a_toZ, a_sysCoef, a_sysBound, a_sysCount, a_cand, a_hullLow, a_hullHigh, a_spanLow, a_spanHigh, a_cursor, a_limit, a_pin, a_echelon, a_pivot) (nI l) (nI i) (nI j) := by
  unfold hiv at K
  refine pk_lt l D (fun h => ?_) (fun h => by rw [if_neg (by omega)] at K; exact K)
  rw [if_pos h] at K
  rw [nx_m2, nI_1]
  have b := bat_b hBb (w := 2 * l + 1) (by omega) hi hj
  have es : nI S - 1 = zI ((S : Int) - 1) := by rw [zI_n, zI_1, zI_sub]
  rw [es]
  refine xq_at hB (by omega) (br_c (fun h' => ?_) (fun h' => ?_)) <;> rw [zI_le (by omega) (by omega) (by omega) (by omega)] at h'
  · rw [if_pos h'] at K; exact K
  · rw [if_neg h'] at K; exact K
theorem xq_add {post : SX → Prop} {i j k : Nat} {s : Nat × (Nat → Int32) × (Nat → Int32)} (hi : i < 8) (hj : j < 8) (hk : k < 8) (hc : s.1 < 1000)
    (K : post ((nI D), (nI S), f_arraySide, f_statements, f_sealed, nI (lst i j k s).1, f_distanceCount, f_bandFirst, f_bandCount, f_bandSize, f_accepted, f_blamed, f_prefixLength, f_tunedFresh, f_rangeLow, f_rangeHigh, f_scanAt, f_scanFirst, f_scanCount, f_scanSize, f_scanPins, a_limits, a_ops, a_factors, a_given, a_subs, (lst i j k s).2.1, (lst i j k s).2.2, a_cells, a_seen, a_distances, a_matrix, a_prefix, a_prefixFrom, a_prefixTo, a_tunedOrder, a_tunedKey, a_toX, a_toZ, a_sysCoef, a_sysBound, a_sysCount, a_cand, a_hullLow, a_hullHigh, a_spanLow, a_spanHigh, a_cursor, a_limit, a_pin, a_echelon, a_pivot)) : wpX_addPoint post ((nI D), (nI S), f_arraySide, f_statements, f_sealed, nI s.1, f_distanceCount, f_bandFirst, f_bandCount, f_bandSize, f_accepted, f_blamed, f_prefixLength, f_tunedFresh, f_rangeLow, f_rangeHigh, f_scanAt, f_scanFirst, f_scanCount, f_scanSize, f_scanPins, a_limits, a_ops, a_factors, a_given, a_subs, s.2.1, s.2.2, a_cells, a_seen, a_distances, a_matrix, a_prefix, a_prefixFrom, a_prefixTo, a_tunedOrder, a_tunedKey, a_toX, a_toZ, a_sysCoef, a_sysBound, a_sysCount, a_cand, a_hullLow, a_hullHigh, a_spanLow, a_spanHigh, a_cursor, a_limit, a_pin, a_echelon, a_pivot) (nI i) (nI j) (nI k) := by
  obtain ⟨c, px, num⟩ := s
  unfold lst at K
  dsimp only at K hc ⊢
  have e1 : nI c * 3 = nI (c * 3) := nx_m3 c
  have e2 : nI c * 3 + 1 = nI (c * 3 + 1) := by rw [nx_m3, nI_1]
  have e3 : nI c * 3 + 2 = nI (c * 3 + 2) := by rw [nx_m3, nx_a2]
  have e4 : nI i * 64 + nI j * 8 + nI k = nI (i * 64 + j * 8 + k) := by rw [nx_m64, nx_m8, nI_add, nI_add]
  refine pk_le 64 c (fun h => ?_) (fun h => ?_)
  · rw [if_neg (by omega)] at K
    exact nm_r (nI_1 c) K
  · rw [if_pos h] at K
    refine ⟨vx_n _ e1 (by omega) (by omega), nm_r (e' := upd px (c * 3) (nI i)) (by rw [cx_n _ e1 (by omega)]) ⟨vx_n _ e2 (by omega) (by omega), nm_r (e' := upd (upd px (c * 3) (nI i)) (c * 3 + 1) (nI j)) (by rw [cx_n _ e2 (by omega)]) ⟨vx_n _ e3 (by omega) (by omega), nm_r (e' := upd (upd (upd px (c * 3) (nI i)) (c * 3 + 1) (nI j)) (c * 3 + 2) (nI k)) (by rw [cx_n _ e3 (by omega)]) ⟨vx_n _ e4 (by omega) (by omega), nm_r (e' := upd num (i * 64 + j * 8 + k) (nI c)) (by rw [cx_n _ e4 (by omega)]) (nm_r (nI_1 c) K)⟩⟩⟩⟩
theorem xq_103 {post : SX → Prop} {J45 J72 : Int32 → Int32 → Int32 → Int32 → Int32 → Int32 → Int32 → Int32 → Int32 → Int32 → Int32 → Int32 → Int32 → Int32 → Int32 → Int64 → Int64 → Int32 → Int32 → Int32 → Int32 → Int32 → (Nat → Int32) → (Nat → Int32) → (Nat → Int32) → (Nat → Int32) → (Nat → Int32) → (Nat → Int32) → (Nat → Int32) → (Nat → Int32) → (Nat → Int32) → (Nat → Int32) → (Nat → Int32) → (Nat → Int32) → (Nat → Int32) → (Nat → Int32) → (Nat → Int32) → (Nat → Int32) → (Nat → Int32) → (Nat → Int32) → (Nat → Int64) → (Nat → Int64) → (Nat → Int32) → (Nat → Int64) → (Nat → Int32) → (Nat → Int32) → (Nat → Int64) → (Nat → Int64) → (Nat → Int32) → (Nat → Int32) → (Nat → Int32) → (Nat → Int32) → (Nat → Int32) → Prop}
    {x2 x5 : Int32} {i j : Nat} {kl kh : Int} {s : Nat × (Nat → Int32) × (Nat → Int32)} (hS : 2 ≤ S ∧ S ≤ 8) (hi : i < S) (hj : j < S) (h0 : 0 ≤ kl) (h0' : kl ≤ 200) (h1 : kh < kSd D S) (h1' : -200 ≤ kh) (hc : s.1 < 900)
    (hP : ∀ k : Nat, k < kSd D S → (isP D S B i j k = true ↔ kl ≤ k ∧ (k : Int) ≤ kh))
    (K : J72 (nI (j + 1)) (nI D) (nI S) f_arraySide f_statements f_sealed (nI (stJ D S B i j s).1) f_distanceCount f_bandFirst f_bandCount f_bandSize f_accepted f_blamed f_prefixLength f_tunedFresh f_rangeLow f_rangeHigh f_scanAt f_scanFirst f_scanCount f_scanSize f_scanPins a_limits a_ops a_factors a_given a_subs ((stJ D S B i j s).2.1) ((stJ D S B i j s).2.2) a_cells a_seen a_distances a_matrix a_prefix a_prefixFrom a_prefixTo a_tunedOrder a_tunedKey a_toX a_toZ a_sysCoef a_sysBound a_sysCount a_cand a_hullLow a_hullHigh a_spanLow a_spanHigh a_cursor a_limit a_pin a_echelon a_pivot) :
    ∃ n103 : Nat, wX_listPoints_103 post J45 J72 x2 (nI i) x5 (nI j) (zI kh) n103 (zI kl) (nI D) (nI S) f_arraySide f_statements f_sealed (nI s.1) f_distanceCount f_bandFirst f_bandCount f_bandSize f_accepted f_blamed f_prefixLength f_tunedFresh f_rangeLow f_rangeHigh f_scanAt f_scanFirst f_scanCount f_scanSize f_scanPins a_limits a_ops a_factors a_given a_subs s.2.1 s.2.2 a_cells a_seen a_distances a_matrix a_prefix a_prefixFrom a_prefixTo a_tunedOrder a_tunedKey a_toX a_toZ a_sysCoef a_sysBound a_sysCount a_cand a_hullLow a_hullHigh a_spanLow a_spanHigh a_cursor a_limit a_pin a_echelon a_pivot := by
  have hks : kSd D S ≤ 8 := by unfold kSd; split <;> omega
  have off : ∀ k, k < kSd D S → ¬ (kl ≤ k ∧ (k : Int) ≤ kh) → ∀ s, stK D S B i j k s = s := fun k hk hno s => by
    unfold stK
    rw [if_neg (fun h => hno ((hP k hk).mp h))]
  have on : ∀ k, k < kSd D S → (kl ≤ k ∧ (k : Int) ≤ kh) → ∀ s, stK D S B i j k s = lst i j k s := fun k hk hy s => by
    unfold stK
    rw [if_pos ((hP k hk).mpr hy)]
  by_cases hle : kl ≤ kh
  · have e : stJ D S B i j s = gK (stK D S B i j) kl.toNat (kh.toNat + 1 - kl.toNat) s := gK_mid (by omega) (by omega) (fun k hk hno => off k hk (by omega)) s
    rw [e] at K
    have go : ∀ (d k : Nat) (s : Nat × (Nat → Int32) × (Nat → Int32)), k + d = kh.toNat + 1 → kl ≤ k → s.1 + d < 1000 → J72 (nI (j + 1)) (nI D) (nI S) f_arraySide f_statements f_sealed (nI (gK (stK D S B i j) k d s).1) f_distanceCount f_bandFirst f_bandCount f_bandSize f_accepted f_blamed f_prefixLength f_tunedFresh f_rangeLow f_rangeHigh f_scanAt f_scanFirst f_scanCount f_scanSize f_scanPins a_limits a_ops a_factors a_given a_subs ((gK (stK D S B i j) k d s).2.1) ((gK (stK D S B i j) k d s).2.2) a_cells a_seen a_distances a_matrix a_prefix a_prefixFrom a_prefixTo a_tunedOrder a_tunedKey a_toX a_toZ a_sysCoef a_sysBound a_sysCount a_cand a_hullLow a_hullHigh a_spanLow a_spanHigh a_cursor a_limit a_pin a_echelon a_pivot →
        wX_listPoints_103 post J45 J72 x2 (nI i) x5 (nI j) (zI kh) (d + 1) (nI k) (nI D) (nI S) f_arraySide f_statements f_sealed (nI s.1) f_distanceCount f_bandFirst f_bandCount f_bandSize f_accepted f_blamed f_prefixLength f_tunedFresh f_rangeLow f_rangeHigh f_scanAt f_scanFirst f_scanCount f_scanSize f_scanPins a_limits a_ops a_factors a_given a_subs s.2.1 s.2.2 a_cells a_seen a_distances a_matrix a_prefix a_prefixFrom a_prefixTo a_tunedOrder a_tunedKey a_toX a_toZ a_sysCoef a_sysBound a_sysCount a_cand a_hullLow a_hullHigh a_spanLow a_spanHigh a_cursor a_limit a_pin a_echelon a_pivot := by
      intro d
      induction d with
      | zero =>
        intro k s hd hk hs hK
        refine br_t ?_ (nm_r (nI_1 j) hK)
        rw [zI_n, zI_lt (by omega) (by omega) (by omega) (by omega)]; omega
      | succ d ih =>
        intro k s hd hk hs hK
        have hkk : k < kSd D S := by omega
        have es : stK D S B i j k s = lst i j k s := on k hkk (by omega) s
        have hl1 : (lst i j k s).1 ≤ s.1 + 1 := by rw [← es]; exact stK_cnt s
        have hK' : J72 (nI (j + 1)) (nI D) (nI S) f_arraySide f_statements f_sealed (nI (gK (stK D S B i j) (k + 1) d (lst i j k s)).1) f_distanceCount f_bandFirst f_bandCount f_bandSize f_accepted f_blamed f_prefixLength f_tunedFresh f_rangeLow f_rangeHigh f_scanAt f_scanFirst f_scanCount f_scanSize f_scanPins a_limits a_ops a_factors a_given a_subs ((gK (stK D S B i j) (k + 1) d (lst i j k s)).2.1) ((gK (stK D S B i j) (k + 1) d (lst i j k s)).2.2) a_cells a_seen a_distances a_matrix a_prefix a_prefixFrom a_prefixTo a_tunedOrder a_tunedKey a_toX a_toZ a_sysCoef a_sysBound a_sysCount a_cand a_hullLow a_hullHigh a_spanLow a_spanHigh a_cursor a_limit a_pin a_echelon a_pivot := by
          rw [← es]; exact hK
        refine br_f ?_ (xq_add (by omega) (by omega) (by omega) (by omega) (nm_r (nI_1 k) (ih (k + 1) (lst i j k s) (by omega) (by omega) (by omega) hK')))
        rw [zI_n, zI_lt (by omega) (by omega) (by omega) (by omega)]; omega
    refine ⟨kh.toNat + 1 - kl.toNat + 1, ?_⟩
    have := go (kh.toNat + 1 - kl.toNat) kl.toNat s (by omega) (by omega) (by omega) K
    rw [← zI_nat h0] at this
    exact this
  · have e : stJ D S B i j s = s := gK_id _ _ s (fun k _ hk => off k (by omega) (by omega))
    rw [e] at K
    refine ⟨1, br_t ?_ (nm_r (nI_1 j) K)⟩
    rw [zI_lt (by omega) (by omega) (by omega) (by omega)]; omega
theorem xq_list {post : SX → Prop} (hD : D = 2 ∨ D = 3) (hS : 2 ≤ S ∧ S ≤ 8) (hB : ∀ j, j < 18 → a_limits j = zI (B j)) (hBb : lim_ok B) (hsh : lim_sh B)
    (K : ∀ num0 : Nat → Int32, post ((nI D), (nI S), f_arraySide, f_statements, f_sealed, nI (allP D S B (0, a_pointX, num0)).1, f_distanceCount, f_bandFirst, f_bandCount, f_bandSize, f_accepted, f_blamed, f_prefixLength, f_tunedFresh, f_rangeLow, f_rangeHigh, f_scanAt, f_scanFirst, f_scanCount, f_scanSize, f_scanPins, a_limits, a_ops, a_factors, a_given, a_subs, (allP D S B (0, a_pointX, num0)).2.1, (allP D S B (0, a_pointX, num0)).2.2, a_cells, a_seen, a_distances, a_matrix, a_prefix, a_prefixFrom, a_prefixTo, a_tunedOrder, a_tunedKey, a_toX, a_toZ, a_sysCoef, a_sysBound, a_sysCount, a_cand, a_hullLow, a_hullHigh, a_spanLow, a_spanHigh, a_cursor, a_limit, a_pin, a_echelon, a_pivot)) : wpX_listPoints post ((nI D), (nI S), f_arraySide, f_statements, f_sealed, f_points, f_distanceCount, f_bandFirst, f_bandCount, f_bandSize, f_accepted, f_blamed, f_prefixLength, f_tunedFresh, f_rangeLow, f_rangeHigh, f_scanAt, f_scanFirst, f_scanCount, f_scanSize, f_scanPins, a_limits, a_ops, a_factors, a_given, a_subs, a_pointX, a_numberAt, a_cells, a_seen, a_distances, a_matrix, a_prefix, a_prefixFrom, a_prefixTo, a_tunedOrder, a_tunedKey, a_toX, a_toZ, a_sysCoef, a_sysBound, a_sysCount, a_cand, a_hullLow, a_hullHigh, a_spanLow, a_spanHigh, a_cursor, a_limit, a_pin, a_echelon, a_pivot) := by
  have hks : kSd D S ≤ S := by unfold kSd; split <;> omega
  have hnest : ∀ i j k, nest D S B (vec i j k) ↔ nst S B (vec i j k) 0 ∧ nst S B (vec i j k) 1 ∧ (D = 3 → nst S B (vec i j k) 2) := by
    intro i j k
    refine ⟨fun h => ⟨h 0 (by omega), h 1 (by omega), fun e => h 2 (by omega)⟩, fun h l hl => ?_⟩
    rcases (show l = 0 ∨ l = 1 ∨ l = 2 by omega) with rfl | rfl | rfl
    · exact h.1
    · exact h.2.1
    · exact h.2.2 (by omega)
  have isp : ∀ i j k, isP D S B i j k = true ↔ nest D S B (vec i j k) := fun i j k => @decide_eq_true_iff _ (Classical.propDecidable _)
  have lo_b : ∀ l i j, l < 3 → i < 8 → j < 8 → 0 ≤ lov D B l i j ∧ lov D B l i j ≤ 100 := by
    intro l i j hl hi hj
    have := bat_b hBb (w := 2 * l) (by omega) hi hj
    unfold lov
    split
    · split <;> omega
    · omega
  have hi_b : ∀ l i j, l < 3 → i < 8 → j < 8 → -100 ≤ hiv D S B l i j ∧ hiv D S B l i j < S := by
    intro l i j hl hi hj
    have := bat_b hBb (w := 2 * l + 1) (by omega) hi hj
    unfold hiv
    split
    · split <;> omega
    · omega
  -- the loop over j
  have rowJ : ∀ (n i : Nat), i < S → lov D B 0 0 0 ≤ i ∧ (i : Int) ≤ hiv D S B 0 0 0 → ∀ (s : Nat × (Nat → Int32) × (Nat → Int32)), s.1 ≤ i * 64 → ∀ x2 : Int32,
      wX_listPoints_45 post x2 n (nI (i + 1)) (nI D) (nI S) f_arraySide f_statements f_sealed (nI (stI D S B i s).1) f_distanceCount f_bandFirst f_bandCount f_bandSize f_accepted f_blamed f_prefixLength f_tunedFresh f_rangeLow f_rangeHigh f_scanAt f_scanFirst f_scanCount f_scanSize f_scanPins a_limits a_ops a_factors a_given a_subs ((stI D S B i s).2.1) ((stI D S B i s).2.2) a_cells a_seen a_distances a_matrix a_prefix a_prefixFrom a_prefixTo a_tunedOrder a_tunedKey a_toX a_toZ a_sysCoef a_sysBound a_sysCount a_cand a_hullLow a_hullHigh a_spanLow a_spanHigh a_cursor a_limit a_pin a_echelon a_pivot →
      ∃ n72 : Nat, wX_listPoints_72 post (wX_listPoints_45 post x2 n) x2 (nI i) (zI (hiv D S B 1 i 0)) n72 (zI (lov D B 1 i 0)) (nI D) (nI S) f_arraySide f_statements f_sealed (nI s.1) f_distanceCount f_bandFirst f_bandCount f_bandSize f_accepted f_blamed f_prefixLength f_tunedFresh f_rangeLow f_rangeHigh f_scanAt f_scanFirst f_scanCount f_scanSize f_scanPins a_limits a_ops a_factors a_given a_subs s.2.1 s.2.2 a_cells a_seen a_distances a_matrix a_prefix a_prefixFrom a_prefixTo a_tunedOrder a_tunedKey a_toX a_toZ a_sysCoef a_sysBound a_sysCount a_cand a_hullLow a_hullHigh a_spanLow a_spanHigh a_cursor a_limit a_pin a_echelon a_pivot := by
    intro n i hi hi0 s hs x2 hK
    have hlo := lo_b 1 i 0 (by omega) (by omega) (by omega)
    have hhi := hi_b 1 i 0 (by omega) (by omega) (by omega)
    have off : ∀ j, j < S → ¬ (lov D B 1 i 0 ≤ j ∧ (j : Int) ≤ hiv D S B 1 i 0) → ∀ s, stJ D S B i j s = s := fun j hj hno s => by
      refine gK_id _ _ s (fun k _ hk s => ?_)
      unfold stK
      rw [if_neg]
      intro h
      have := (hnest i j k).mp ((isp i j k).mp h)
      exact hno ((nst_1 (by omega) hsh hj).mp this.2.1)
    by_cases hle : lov D B 1 i 0 ≤ hiv D S B 1 i 0
    · have e : stI D S B i s = gK (stJ D S B i) (lov D B 1 i 0).toNat ((hiv D S B 1 i 0).toNat + 1 - (lov D B 1 i 0).toNat) s := gK_mid (by omega) (by omega) (fun j hj hno => off j hj (by omega)) s
      rw [e] at hK
      have go : ∀ (d j : Nat) (s : Nat × (Nat → Int32) × (Nat → Int32)), j + d = (hiv D S B 1 i 0).toNat + 1 → lov D B 1 i 0 ≤ j → s.1 ≤ i * 64 + j * 8 → wX_listPoints_45 post x2 n (nI (i + 1)) (nI D) (nI S) f_arraySide f_statements f_sealed (nI (gK (stJ D S B i) j d s).1) f_distanceCount f_bandFirst f_bandCount f_bandSize f_accepted f_blamed f_prefixLength f_tunedFresh f_rangeLow f_rangeHigh f_scanAt f_scanFirst f_scanCount f_scanSize f_scanPins a_limits a_ops a_factors a_given a_subs ((gK (stJ D S B i) j d s).2.1) ((gK (stJ D S B i) j d s).2.2) a_cells a_seen a_distances a_matrix a_prefix a_prefixFrom a_prefixTo a_tunedOrder a_tunedKey a_toX a_toZ a_sysCoef a_sysBound a_sysCount a_cand a_hullLow a_hullHigh a_spanLow a_spanHigh a_cursor a_limit a_pin a_echelon a_pivot →
          wX_listPoints_72 post (wX_listPoints_45 post x2 n) x2 (nI i) (zI (hiv D S B 1 i 0)) (d + 1) (nI j) (nI D) (nI S) f_arraySide f_statements f_sealed (nI s.1) f_distanceCount f_bandFirst f_bandCount f_bandSize f_accepted f_blamed f_prefixLength f_tunedFresh f_rangeLow f_rangeHigh f_scanAt f_scanFirst f_scanCount f_scanSize f_scanPins a_limits a_ops a_factors a_given a_subs s.2.1 s.2.2 a_cells a_seen a_distances a_matrix a_prefix a_prefixFrom a_prefixTo a_tunedOrder a_tunedKey a_toX a_toZ a_sysCoef a_sysBound a_sysCount a_cand a_hullLow a_hullHigh a_spanLow a_spanHigh a_cursor a_limit a_pin a_echelon a_pivot := by
        intro d
        induction d with
        | zero =>
          intro j s hd hj hc hK
          refine br_t ?_ (nm_r (nI_1 i) hK)
          rw [zI_n, zI_lt (by omega) (by omega) (by omega) (by omega)]; omega
        | succ d ih =>
          intro j s hd hj hc hK
          have hjS : j < S := by omega
          have hc2 := stJ_cnt (D := D) (B := B) (i := i) (j := j) hS.2 s
          refine br_f ?_ (xq_low (l := 2) hB hBb hD (by omega) (by omega) (by omega) (xq_high (l := 2) hB hBb hD hS (by omega) (by omega) (by omega) ?_))
          · rw [zI_n, zI_lt (by omega) (by omega) (by omega) (by omega)]; omega
          · have l2 := lo_b 2 i j (by omega) (by omega) (by omega)
            have h2 := hi_b 2 i j (by omega) (by omega) (by omega)
            refine xq_103 (B := B) hS hi hjS l2.1 (by omega) ?_ (by omega) (by omega) (fun k hk => ?_) (ih (j + 1) (stJ D S B i j s) (by omega) (by omega) (by omega) hK)
            · unfold kSd
              split
              · exact h2.2
              · unfold hiv; rw [if_neg (by omega)]; omega
            · rw [isp, hnest, nst_0 (D := D) (k := k) (by omega) hsh hi, nst_1 (D := D) (k := k) (by omega) hsh hjS]
              rcases hD with rfl | rfl
              · unfold kSd at hk
                rw [if_neg (by omega)] at hk
                have a : lov 2 B 2 i j = 0 := by unfold lov; rw [if_neg (by omega)]
                have b : hiv 2 S B 2 i j = 0 := by unfold hiv; rw [if_neg (by omega)]
                rw [a, b]
                exact ⟨fun _ => by omega, fun _ => ⟨hi0, by omega, fun h => by omega⟩⟩
              · rw [nst_2 (by omega)]
                exact ⟨fun h => h.2.2 rfl, fun h => ⟨hi0, by omega, fun _ => h⟩⟩
      refine ⟨(hiv D S B 1 i 0).toNat + 1 - (lov D B 1 i 0).toNat + 1, ?_⟩
      have := go _ (lov D B 1 i 0).toNat s (by omega) (by omega) (by omega) hK
      rw [← zI_nat hlo.1] at this
      exact this
    · have e : stI D S B i s = s := gK_id _ _ s (fun j _ hj => off j (by omega) (by omega))
      rw [e] at hK
      refine ⟨1, br_t ?_ (nm_r (nI_1 i) hK)⟩
      rw [zI_lt (by omega) (by omega) (by omega) (by omega)]; omega
  refine loop_0 (fun n i s => wX_listPoints_7 post (nI D) (nI S) f_arraySide f_statements f_sealed 0 f_distanceCount f_bandFirst f_bandCount f_bandSize f_accepted f_blamed f_prefixLength f_tunedFresh f_rangeLow f_rangeHigh f_scanAt f_scanFirst f_scanCount f_scanSize f_scanPins n (nI i) a_limits a_ops a_factors a_given a_subs a_pointX s a_cells a_seen a_distances a_matrix a_prefix a_prefixFrom a_prefixTo a_tunedOrder a_tunedKey a_toX a_toZ a_sysCoef a_sysBound a_sysCount a_cand a_hullLow a_hullHigh a_spanLow a_spanHigh a_cursor a_limit a_pin a_echelon a_pivot) (fun i s => True) 512 a_numberAt trivial ?_ ?_
  · intro n num0 _
    have hlo := lo_b 0 0 0 (by omega) (by omega) (by omega)
    have hhi := hi_b 0 0 0 (by omega) (by omega) (by omega)
    refine br_t (by decide) (xq_low (l := 0) (i := 0) (j := 0) hB hBb hD (by omega) (by omega) (by omega) (xq_high (l := 0) (i := 0) (j := 0) hB hBb hD hS (by omega) (by omega) (by omega) ?_))
    have off : ∀ i, i < S → ¬ (lov D B 0 0 0 ≤ i ∧ (i : Int) ≤ hiv D S B 0 0 0) → ∀ s, stI D S B i s = s := fun i hi hno s => by
      refine gK_id _ _ s (fun j _ hj s => gK_id _ _ s (fun k _ hk s => ?_))
      unfold stK
      rw [if_neg]
      intro h
      have := (hnest i j k).mp ((isp i j k).mp h)
      exact hno ((nst_0 (by omega) hsh hi).mp this.1)
    have hK := K num0
    by_cases hle : lov D B 0 0 0 ≤ hiv D S B 0 0 0
    · have e : allP D S B (0, a_pointX, num0) = gK (stI D S B) (lov D B 0 0 0).toNat ((hiv D S B 0 0 0).toNat + 1 - (lov D B 0 0 0).toNat) (0, a_pointX, num0) := gK_mid (by omega) (by omega) (fun i hi hno => off i hi (by omega)) _
      rw [e] at hK
      have go : ∀ (d i : Nat) (s : Nat × (Nat → Int32) × (Nat → Int32)), i + d = (hiv D S B 0 0 0).toNat + 1 → lov D B 0 0 0 ≤ i → s.1 ≤ i * 64 → post ((nI D), (nI S), f_arraySide, f_statements, f_sealed, nI (gK (stI D S B) i d s).1, f_distanceCount, f_bandFirst, f_bandCount, f_bandSize, f_accepted, f_blamed, f_prefixLength, f_tunedFresh, f_rangeLow, f_rangeHigh, f_scanAt, f_scanFirst, f_scanCount, f_scanSize, f_scanPins, a_limits, a_ops, a_factors, a_given, a_subs, (gK (stI D S B) i d s).2.1, (gK (stI D S B) i d s).2.2, a_cells, a_seen, a_distances, a_matrix, a_prefix, a_prefixFrom, a_prefixTo, a_tunedOrder, a_tunedKey, a_toX, a_toZ, a_sysCoef, a_sysBound, a_sysCount, a_cand, a_hullLow, a_hullHigh, a_spanLow, a_spanHigh, a_cursor, a_limit, a_pin, a_echelon, a_pivot) →
          wX_listPoints_45 post (zI (hiv D S B 0 0 0)) (d + 1) (nI i) (nI D) (nI S) f_arraySide f_statements f_sealed (nI s.1) f_distanceCount f_bandFirst f_bandCount f_bandSize f_accepted f_blamed f_prefixLength f_tunedFresh f_rangeLow f_rangeHigh f_scanAt f_scanFirst f_scanCount f_scanSize f_scanPins a_limits a_ops a_factors a_given a_subs s.2.1 s.2.2 a_cells a_seen a_distances a_matrix a_prefix a_prefixFrom a_prefixTo a_tunedOrder a_tunedKey a_toX a_toZ a_sysCoef a_sysBound a_sysCount a_cand a_hullLow a_hullHigh a_spanLow a_spanHigh a_cursor a_limit a_pin a_echelon a_pivot := by
        intro d
        induction d with
        | zero =>
          intro i s hd hi hc hK
          refine br_t ?_ hK
          rw [zI_n, zI_lt (by omega) (by omega) (by omega) (by omega)]; omega
        | succ d ih =>
          intro i s hd hi hc hK
          have hiS : i < S := by omega
          have hc2 := stI_cnt (D := D) (B := B) (i := i) hS.2 s
          refine br_f ?_ (xq_low (l := 1) (j := 0) hB hBb hD (by omega) (by omega) (by omega) (xq_high (l := 1) (j := 0) hB hBb hD hS (by omega) (by omega) (by omega) ?_))
          · rw [zI_n, zI_lt (by omega) (by omega) (by omega) (by omega)]; omega
          · exact rowJ (d + 1) i hiS (by omega) s hc _ (ih (i + 1) (stI D S B i s) (by omega) (by omega) (by omega) hK)
      refine ⟨(hiv D S B 0 0 0).toNat + 1 - (lov D B 0 0 0).toNat + 1, ?_⟩
      have := go _ (lov D B 0 0 0).toNat (0, a_pointX, num0) (by omega) (by omega) (Nat.zero_le _) hK
      rw [← zI_nat hlo.1] at this
      exact this
    · have e : allP D S B (0, a_pointX, num0) = (0, a_pointX, num0) := gK_id _ _ _ (fun i _ hi => off i (by omega) (by omega))
      rw [e] at hK
      refine ⟨1, br_t ?_ hK⟩
      rw [zI_lt (by omega) (by omega) (by omega) (by omega)]; omega
  · intro n i s hi _ hK
    refine br_f (nI_ge (b := 512) hi (by omega)) ⟨vp_in_nI (by omega) (by omega), nm_e (nm_r (nI_1 i) (hK _ trivial))⟩
end
end
section
/-! listPoints of the reference -/
section
variable {D S : Nat} {f_arraySide f_statements f_sealed f_pointCount f_bandFirst f_bandCount f_bandSize f_accepted f_blamed f_prefixLength : Int32} {a_bounds a_ops a_factors a_given a_subs a_cells a_xs a_order a_inD a_t a_prefix : Nat → Int32}
variable {B : Nat → Int}
theorem yq_is {post : Int32 → Prop} {i j k : Nat} (hD : D = 2 ∨ D = 3) (hS : 2 ≤ S ∧ S ≤ 8) (hB : ∀ j, j < 18 → a_bounds j = zI (B j)) (hBb : lim_ok B) (hi : i < S) (hj : j < S) (hk : k < S)
    (K1 : nest D S B (vec i j k) → post 1) (K0 : ¬ nest D S B (vec i j k) → post 0) : wpY_isPoint post ((nI D), (nI S), f_arraySide, f_statements, f_sealed, f_pointCount, f_bandFirst, f_bandCount, f_bandSize, f_accepted, f_blamed, f_prefixLength, a_bounds, a_ops, a_factors, a_given, a_subs, a_cells, a_xs, a_order, a_inD, a_t, a_prefix) (nI i) (nI j) (nI k) := by
  refine ⟨D + 1, ?_⟩
  have go : ∀ d l : Nat, l + d = D → (∀ l', l' < l → nst S B (vec i j k) l') → wY_isPoint_3 post (nI i) (nI j) (nI k) (nI D) (nI S) f_arraySide f_statements f_sealed f_pointCount f_bandFirst f_bandCount f_bandSize f_accepted f_blamed f_prefixLength a_bounds a_ops a_factors a_given a_subs a_cells a_xs a_order a_inD a_t a_prefix (d + 1) (nI l) := by
    intro d
    induction d with
    | zero =>
      intro l hl h
      exact br_t (nI_le (by omega) (by omega)) (K1 (fun l' hl' => h l' (by omega)))
    | succ d ih =>
      intro l hl h
      have hlD : l < D := by omega
      have vl : ∃ x : Nat, x < S ∧ vec i j k l = (x : Int) ∧ ((l = 0 ∧ x = i) ∨ (l = 1 ∧ x = j) ∨ (l = 2 ∧ x = k)) := by
        rcases (show l = 0 ∨ l = 1 ∨ l = 2 by omega) with rfl | rfl | rfl
        · exact ⟨i, hi, rfl, by omega⟩
        · exact ⟨j, hj, rfl, by omega⟩
        · exact ⟨k, hk, rfl, by omega⟩
      obtain ⟨x, hx, hv, hw⟩ := vl
      have b1 := bat_b hBb (w := 2 * l) (i := i) (j := j) (by omega) (by omega) (by omega)
      have b2 := bat_b hBb (w := 2 * l + 1) (i := i) (j := j) (by omega) (by omega) (by omega)
      have e0 : nI l * 6 = nI (l * 6) := nx_m6 l
      have r0 := cx_n _ (rfl : nI (l * 6) = nI (l * 6)) (by omega)
      have r1 : (nI (l * 6) + 1).toNatClampNeg = l * 6 + 1 := cx_n _ (nI_1 _) (by omega)
      have r2 : (nI (l * 6) + 2).toNatClampNeg = l * 6 + 2 := cx_n _ (nx_a2 _) (by omega)
      have r3 : (nI (l * 6) + 3).toNatClampNeg = l * 6 + 3 := cx_n _ (nx_a3 _) (by omega)
      have r4 : (nI (l * 6) + 4).toNatClampNeg = l * 6 + 4 := cx_n _ (nx_a4 _) (by omega)
      have e5 : nI (l * 6) + 5 = nI (l * 6 + 5) := nI_add _ 5
      have r5 : (nI (l * 6) + 5).toNatClampNeg = l * 6 + 5 := cx_n _ e5 (by omega)
      have nb : nst S B (vec i j k) l ↔ bat B (2 * l) i j ≤ x ∧ (x : Int) ≤ bat B (2 * l + 1) i j := by
        unfold nst bat
        rw [hv, show 2 * l * 3 = 6 * l by omega, show (2 * l + 1) * 3 = 6 * l + 3 by omega]
        show (0 ≤ (x : Int) ∧ (x : Int) ≤ S - 1 ∧ B (6 * l) * (i : Int) + B (6 * l + 1) * (j : Int) + B (6 * l + 2) ≤ x ∧ (x : Int) ≤ B (6 * l + 3) * (i : Int) + B (6 * l + 4) * (j : Int) + B (6 * l + 5)) ↔ B (6 * l) * (i : Int) + B (6 * l + 1) * (j : Int) + B (6 * l + 2) ≤ x ∧ (x : Int) ≤ B (6 * l + 3) * (i : Int) + B (6 * l + 4) * (j : Int) + B (6 * l + 5)
        omega
      have v1 : a_bounds (nI (l * 6)).toNatClampNeg * nI i + a_bounds (nI (l * 6) + 1).toNatClampNeg * nI j + a_bounds (nI (l * 6) + 2).toNatClampNeg = zI (bat B (2 * l) i j) := by
        rw [r0, r1, r2, hB _ (by omega), hB _ (by omega), hB _ (by omega), zI_n i, zI_n j, zI_mul, zI_mul, zI_add, zI_add]
        unfold bat
        rw [show 2 * l * 3 = l * 6 by omega]
      have v2 : a_bounds (nI (l * 6) + 3).toNatClampNeg * nI i + a_bounds (nI (l * 6) + 4).toNatClampNeg * nI j + a_bounds (nI (l * 6) + 5).toNatClampNeg = zI (bat B (2 * l + 1) i j) := by
        rw [r3, r4, r5, hB _ (by omega), hB _ (by omega), hB _ (by omega), zI_n i, zI_n j, zI_mul, zI_mul, zI_add, zI_add]
        unfold bat
        rw [show (2 * l + 1) * 3 = l * 6 + 3 by omega]
      have h32 : wY_isPoint_32 post (wY_isPoint_3 post (nI i) (nI j) (nI k) (nI D) (nI S) f_arraySide f_statements f_sealed f_pointCount f_bandFirst f_bandCount f_bandSize f_accepted f_blamed f_prefixLength a_bounds a_ops a_factors a_given a_subs a_cells a_xs a_order a_inD a_t a_prefix (d + 1)) (nI i) (nI j) (nI k) (nI l) (nI x) (nI D) (nI S) f_arraySide f_statements f_sealed f_pointCount f_bandFirst f_bandCount f_bandSize f_accepted f_blamed f_prefixLength a_bounds a_ops a_factors a_given a_subs a_cells a_xs a_order a_inD a_t a_prefix := by
        refine nm_r e0 ⟨vp_in_nI (by omega) (by omega), vx_n _ (nI_1 _) (by omega) (by omega), vx_n _ (nx_a2 _) (by omega) (by omega), ?_⟩
        rw [v1, v2]
        refine br_c (fun g => ⟨vx_n _ (nx_a3 _) (by omega) (by omega), vx_n _ (nx_a4 _) (by omega) (by omega), vx_n _ e5 (by omega) (by omega), br_c (fun g' => nm_r (nI_1 l) (ih (l + 1) (by omega) (fun l' hl' => ?_))) (fun g' => K0 (fun hn => g' ?_))⟩) (fun g => K0 (fun hn => g ?_))
        · rw [zI_n, zI_le (by omega) (by omega) (by omega) (by omega)] at g g'
          by_cases y : l' = l
          · subst y; exact nb.mpr ⟨g, g'⟩
          · exact h l' (by omega)
        · rw [zI_n, zI_le (by omega) (by omega) (by omega) (by omega)]
          exact (nb.mp (hn l hlD)).2
        · rw [zI_n, zI_le (by omega) (by omega) (by omega) (by omega)]
          exact (nb.mp (hn l hlD)).1
      refine br_f (nI_ge (by omega) (by omega)) (pk_eq l 0 (fun e => ?_) (fun e => pk_eq l 1 (fun e' => ?_) (fun e' => ?_)))
      · have : x = i := by omega
        subst this; exact h32
      · have : x = j := by omega
        subst this; exact h32
      · have : x = k := by omega
        subst this; exact h32
  exact go D 0 (by omega) (fun l' h => by omega)
theorem yq_list {post : SY → Prop} (hD : D = 2 ∨ D = 3) (hS : 2 ≤ S ∧ S ≤ 8) (hB : ∀ j, j < 18 → a_bounds j = zI (B j)) (hBb : lim_ok B) (num0 : Nat → Int32)
    (K : post ((nI D), (nI S), f_arraySide, f_statements, f_sealed, nI (allP D S B (0, a_xs, num0)).1, f_bandFirst, f_bandCount, f_bandSize, f_accepted, f_blamed, f_prefixLength, a_bounds, a_ops, a_factors, a_given, a_subs, a_cells, (allP D S B (0, a_xs, num0)).2.1, a_order, a_inD, a_t, a_prefix)) : wpY_listPoints post ((nI D), (nI S), f_arraySide, f_statements, f_sealed, f_pointCount, f_bandFirst, f_bandCount, f_bandSize, f_accepted, f_blamed, f_prefixLength, a_bounds, a_ops, a_factors, a_given, a_subs, a_cells, a_xs, a_order, a_inD, a_t, a_prefix) := by
  have hks : kSd D S ≤ S := by unfold kSd; split <;> omega
  have rowK : ∀ (J24 J34 : Int32 → Int32 → (Nat → Int32) → (Nat → Int32) → (Nat → Int32) → (Nat → Int32) → (Nat → Int32) → (Nat → Int32) → (Nat → Int32) → (Nat → Int32) → (Nat → Int32) → (Nat → Int32) → (Nat → Int32) → Prop) (i j : Nat), i < S → j < S →
      ∀ (d k : Nat) (s : Nat × (Nat → Int32) × (Nat → Int32)), k + d = kSd D S → s.1 + d < 1000 → J34 (nI (j + 1)) (nI (gK (stK D S B i j) k d s).1) a_bounds a_ops a_factors a_given a_subs a_cells ((gK (stK D S B i j) k d s).2.1) a_order a_inD a_t a_prefix →
      wY_listPoints_45 post J24 J34 (nI (kSd D S)) (nI i) (nI j) (nI D) (nI S) f_arraySide f_statements f_sealed f_bandFirst f_bandCount f_bandSize f_accepted f_blamed f_prefixLength (d + 1) (nI k) (nI s.1) a_bounds a_ops a_factors a_given a_subs a_cells s.2.1 a_order a_inD a_t a_prefix := by
    intro J24 J34 i j hi hj d
    induction d with
    | zero =>
      intro k s hd hs hK
      exact br_t (nI_le (by omega) (by omega)) (nm_r (nI_1 j) hK)
    | succ d ih =>
      intro k s hd hs hK
      have hk : k < kSd D S := by omega
      have hK' : J34 (nI (j + 1)) (nI (gK (stK D S B i j) (k + 1) d (stK D S B i j k s)).1) a_bounds a_ops a_factors a_given a_subs a_cells ((gK (stK D S B i j) (k + 1) d (stK D S B i j k s)).2.1) a_order a_inD a_t a_prefix := hK
      have hcc := stK_cnt (D := D) (S := S) (B := B) (i := i) (j := j) (k := k) s
      refine br_f (nI_ge hk (by omega)) (yq_is (B := B) hD hS hB hBb hi hj (by omega) (fun hn => ?_) (fun hn => ?_))
      · have e : stK D S B i j k s = lst i j k s := by unfold stK; rw [isP_t hn, if_pos rfl]
        rw [e] at hK' hcc
        have hih := ih (k + 1) (lst i j k s) (by omega) (by omega) hK'
        obtain ⟨c, px, num⟩ := s
        unfold lst at hih
        dsimp only at hih hs ⊢
        have e1 : nI c * 3 = nI (c * 3) := nx_m3 c
        have e2 : nI c * 3 + 1 = nI (c * 3 + 1) := by rw [nx_m3, nI_1]
        have e3 : nI c * 3 + 2 = nI (c * 3 + 2) := by rw [nx_m3, nx_a2]
        refine br_f (by decide) (pk_le 64 c (fun h => ?_) (fun h => ?_))
        · rw [if_neg (by omega)] at hih
          exact nm_r (nI_1 c) (nm_r (nI_1 k) hih)
        · rw [if_pos h] at hih
          refine ⟨vx_n _ e1 (by omega) (by omega), nm_r (e' := upd px (c * 3) (nI i)) (by rw [cx_n _ e1 (by omega)]) ⟨vx_n _ e2 (by omega) (by omega), nm_r (e' := upd (upd px (c * 3) (nI i)) (c * 3 + 1) (nI j)) (by rw [cx_n _ e2 (by omega)]) ⟨vx_n _ e3 (by omega) (by omega), nm_r (e' := upd (upd (upd px (c * 3) (nI i)) (c * 3 + 1) (nI j)) (c * 3 + 2) (nI k)) (by rw [cx_n _ e3 (by omega)]) (nm_r (nI_1 c) (nm_r (nI_1 k) hih))⟩⟩⟩
      · have e : stK D S B i j k s = s := by unfold stK; rw [isP_f hn, if_neg (by decide)]
        rw [e] at hK'
        exact br_t rfl (nm_r (nI_1 k) (ih (k + 1) s (by omega) (by omega) hK'))
  have rowJ : ∀ (J24 : Int32 → Int32 → (Nat → Int32) → (Nat → Int32) → (Nat → Int32) → (Nat → Int32) → (Nat → Int32) → (Nat → Int32) → (Nat → Int32) → (Nat → Int32) → (Nat → Int32) → (Nat → Int32) → (Nat → Int32) → Prop) (i : Nat), i < S →
      ∀ (d j : Nat) (s : Nat × (Nat → Int32) × (Nat → Int32)), j + d = S → s.1 + d * 8 < 1000 → J24 (nI (i + 1)) (nI (gK (stJ D S B i) j d s).1) a_bounds a_ops a_factors a_given a_subs a_cells ((gK (stJ D S B i) j d s).2.1) a_order a_inD a_t a_prefix →
      wY_listPoints_34 post J24 (nI (kSd D S)) (nI i) (nI D) (nI S) f_arraySide f_statements f_sealed f_bandFirst f_bandCount f_bandSize f_accepted f_blamed f_prefixLength (d + 1) (nI j) (nI s.1) a_bounds a_ops a_factors a_given a_subs a_cells s.2.1 a_order a_inD a_t a_prefix := by
    intro J24 i hi d
    induction d with
    | zero =>
      intro j s hd hs hK
      exact br_t (nI_le (by omega) (by omega)) (nm_r (nI_1 i) hK)
    | succ d ih =>
      intro j s hd hs hK
      have hcc := stJ_cnt (D := D) (B := B) (i := i) (j := j) hS.2 s
      refine br_f (nI_ge (by omega) (by omega)) ⟨kSd D S + 1, rowK J24 _ i j hi (by omega) (kSd D S) 0 s (by omega) (by omega) ?_⟩
      exact ih (j + 1) (stJ D S B i j s) (by omega) (by omega) hK
  have rowI : ∀ (d i : Nat) (s : Nat × (Nat → Int32) × (Nat → Int32)), i + d = S → s.1 + d * 64 < 1000 → post ((nI D), (nI S), f_arraySide, f_statements, f_sealed, nI (gK (stI D S B) i d s).1, f_bandFirst, f_bandCount, f_bandSize, f_accepted, f_blamed, f_prefixLength, a_bounds, a_ops, a_factors, a_given, a_subs, a_cells, (gK (stI D S B) i d s).2.1, a_order, a_inD, a_t, a_prefix) →
      wY_listPoints_24 post (nI (kSd D S)) (nI D) (nI S) f_arraySide f_statements f_sealed f_bandFirst f_bandCount f_bandSize f_accepted f_blamed f_prefixLength (d + 1) (nI i) (nI s.1) a_bounds a_ops a_factors a_given a_subs a_cells s.2.1 a_order a_inD a_t a_prefix := by
    intro d
    induction d with
    | zero =>
      intro i s hd hs hK
      exact br_t (nI_le (by omega) (by omega)) hK
    | succ d ih =>
      intro i s hd hs hK
      have hcc := stI_cnt (D := D) (B := B) (i := i) hS.2 s
      refine br_f (nI_ge (by omega) (by omega)) ⟨S + 1, rowJ _ i (by omega) S 0 s (by omega) (by omega) ?_⟩
      exact ih (i + 1) (stI D S B i s) (by omega) (by omega) hK
  have fin := rowI S 0 (0, a_xs, num0) (by omega) (by show 0 + S * 64 < 1000; omega) K
  refine pk_eq D 3 (fun h => ⟨S + 1, ?_⟩) (fun h => ⟨S + 1, ?_⟩)
  · rw [show kSd D S = S from by unfold kSd; rw [if_pos h]] at fin
    exact fin
  · rw [show kSd D S = 1 from by unfold kSd; rw [if_neg h]] at fin
    exact fin
end
end
section
/-! someAccessOutside, identity, disturb, defaultBounds of the component -/
def insA (A : Nat) (Sb : Nat → Int) (px : Nat → Int32) (k n : Nat) : Prop := (0 ≤ av Sb (k * 8) (ptx px n) ∧ av Sb (k * 8) (ptx px n) < A) ∧ 0 ≤ av Sb (k * 8 + 4) (ptx px n) ∧ av Sb (k * 8 + 4) (ptx px n) < A
def acc_in (A St P : Nat) (ops : Nat → Int32) (Sb : Nat → Int) (px : Nat → Int32) : Prop := ∀ k, k < 6 → accE St ops k → ∀ n, n < P → insA A Sb px k n
section
variable {A P St : Nat} {f_depth f_side f_sealed f_distanceCount f_bandFirst f_bandCount f_bandSize f_accepted f_blamed f_prefixLength f_tunedFresh f_scanAt f_scanFirst f_scanCount f_scanSize f_scanPins : Int32} {f_rangeLow f_rangeHigh : Int64} {a_limits a_ops a_factors a_given a_subs a_pointX a_numberAt a_cells a_seen a_distances a_matrix a_prefix a_prefixFrom a_prefixTo a_tunedOrder a_tunedKey a_toX a_toZ a_sysCount a_hullLow a_hullHigh a_cursor a_limit a_pin a_echelon a_pivot : Nat → Int32} {a_sysCoef a_sysBound a_cand a_spanLow a_spanHigh : Nat → Int64}
theorem xo_out {post : Int32 → Prop} {D : Nat} {Sb : Nat → Int} (hA : A ≤ 15) (hSt : St ≤ 2) (hP : P ≤ 64) (hs : ∀ j, j < 48 → a_subs j = zI (Sb j)) (hsb : sub_ok D Sb) (hx : ∀ n, n < P → ∀ l, l < 3 → 0 ≤ ptx a_pointX n l ∧ ptx a_pointX n l ≤ 7)
    (K0 : acc_in A St P a_ops Sb a_pointX → post 0) (K1 : ¬ acc_in A St P a_ops Sb a_pointX → post 1) : wpX_someAccessOutside post (f_depth, f_side, (nI A), (nI St), f_sealed, (nI P), f_distanceCount, f_bandFirst, f_bandCount, f_bandSize, f_accepted, f_blamed, f_prefixLength, f_tunedFresh, f_rangeLow, f_rangeHigh, f_scanAt, f_scanFirst, f_scanCount, f_scanSize, f_scanPins, a_limits, a_ops, a_factors, a_given, a_subs, a_pointX, a_numberAt, a_cells, a_seen, a_distances, a_matrix, a_prefix, a_prefixFrom, a_prefixTo, a_tunedOrder, a_tunedKey, a_toX, a_toZ, a_sysCoef, a_sysBound, a_sysCount, a_cand, a_hullLow, a_hullHigh, a_spanLow, a_spanHigh, a_cursor, a_limit, a_pin, a_echelon, a_pivot) := by
  refine ⟨7, ?_⟩
  have go : ∀ d k : Nat, k + d = 6 → (∀ k', k' < k → accE St a_ops k' → ∀ n, n < P → insA A Sb a_pointX k' n) → wX_someAccessOutside_2 post f_depth f_side (nI A) (nI St) f_sealed (nI P) f_distanceCount f_bandFirst f_bandCount f_bandSize f_accepted f_blamed f_prefixLength f_tunedFresh f_rangeLow f_rangeHigh f_scanAt f_scanFirst f_scanCount f_scanSize f_scanPins a_limits a_ops a_factors a_given a_subs a_pointX a_numberAt a_cells a_seen a_distances a_matrix a_prefix a_prefixFrom a_prefixTo a_tunedOrder a_tunedKey a_toX a_toZ a_sysCoef a_sysBound a_sysCount a_cand a_hullLow a_hullHigh a_spanLow a_spanHigh a_cursor a_limit a_pin a_echelon a_pivot (d + 1) (nI k) := by
    intro d
    induction d with
    | zero => intro k hk h; cases (show k = 6 by omega); exact br_t (by decide) (K0 h)
    | succ d ih =>
      intro k hk h
      refine br_f (nI_ge (b := 6) (by omega) (by omega)) (xd_ex hSt (by omega) (fun he => br_f (by decide) ⟨P + 1, ?_⟩) (fun he => br_t rfl (nm_r (nI_1 k) (ih (k + 1) (by omega) (fun k' hk' he' => ?_)))))
      · have go2 : ∀ d' n : Nat, n + d' = P → (∀ n', n' < n → insA A Sb a_pointX k n') → wX_someAccessOutside_18 post (wX_someAccessOutside_2 post f_depth f_side (nI A) (nI St) f_sealed (nI P) f_distanceCount f_bandFirst f_bandCount f_bandSize f_accepted f_blamed f_prefixLength f_tunedFresh f_rangeLow f_rangeHigh f_scanAt f_scanFirst f_scanCount f_scanSize f_scanPins a_limits a_ops a_factors a_given a_subs a_pointX a_numberAt a_cells a_seen a_distances a_matrix a_prefix a_prefixFrom a_prefixTo a_tunedOrder a_tunedKey a_toX a_toZ a_sysCoef a_sysBound a_sysCount a_cand a_hullLow a_hullHigh a_spanLow a_spanHigh a_cursor a_limit a_pin a_echelon a_pivot (d + 1)) (nI k) f_depth f_side (nI A) (nI St) f_sealed (nI P) f_distanceCount f_bandFirst f_bandCount f_bandSize f_accepted f_blamed f_prefixLength f_tunedFresh f_rangeLow f_rangeHigh f_scanAt f_scanFirst f_scanCount f_scanSize f_scanPins a_limits a_ops a_factors a_given a_subs a_pointX a_numberAt a_cells a_seen a_distances a_matrix a_prefix a_prefixFrom a_prefixTo a_tunedOrder a_tunedKey a_toX a_toZ a_sysCoef a_sysBound a_sysCount a_cand a_hullLow a_hullHigh a_spanLow a_spanHigh a_cursor a_limit a_pin a_echelon a_pivot (d' + 1) (nI n) := by
          intro d'
          induction d' with
          | zero =>
            intro n hn hin
            refine br_t (nI_le (by omega) (by omega)) (nm_r (nI_1 k) (ih (k + 1) (by omega) (fun k' hk' he' n' hn' => ?_)))
            by_cases x : k' = k
            · subst x; exact hin n' (by omega)
            · exact h k' (by omega) he' n' hn'
          | succ d' ih' =>
            intro n hn hin
            have b0 := av_b (base := k * 8) hsb (by omega) (by omega) (hx n (by omega))
            have b1 := av_b (base := k * 8 + 4) hsb (by omega) (by omega) (hx n (by omega))
            have bad : ¬ insA A Sb a_pointX k n → post 1 := fun hno => K1 (fun hall => hno (hall k (by omega) he n (by omega)))
            refine br_f (nI_ge (by omega) (by omega)) ?_
            rw [nx_m8, nx_a4]
            refine xv_at hs (by omega) (by omega) (xv_at hs (by omega) (by omega) ?_)
            refine br_c (fun g => bad (fun q => ?_)) (fun g => br_c (fun g' => bad (fun q => ?_)) (fun g' => br_c (fun g'' => bad (fun q => ?_)) (fun g'' => br_c (fun g3 => nm_r (nI_1 n) (ih' (n + 1) (by omega) (fun n' hn' => ?_))) (fun g3 => bad (fun q => g3 ?_)))))
            · rw [zI_0, zI_lt (by omega) (by omega) (by omega) (by omega)] at g; have := q.1.1; omega
            · rw [zI_n, zI_le (by omega) (by omega) (by omega) (by omega)] at g'; have := q.1.2; omega
            · rw [zI_0, zI_lt (by omega) (by omega) (by omega) (by omega)] at g''; have := q.2.1; omega
            · by_cases x : n' = n
              · subst x
                rw [zI_0, zI_lt (by omega) (by omega) (by omega) (by omega)] at g g''
                rw [zI_n, zI_le (by omega) (by omega) (by omega) (by omega)] at g'
                rw [zI_n, zI_lt (by omega) (by omega) (by omega) (by omega)] at g3
                exact ⟨by omega, by omega⟩
              · exact hin n' (by omega)
            · rw [zI_n, zI_lt (by omega) (by omega) (by omega) (by omega)]; exact q.2.2
        exact go2 P 0 (by omega) (fun n' h' => by omega)
      · by_cases x : k' = k
        · subst x; exact absurd he' he
        · exact h k' (by omega) he'
  exact go 6 0 rfl (fun k' h => by omega)
end
section
variable {f_depth f_side f_arraySide f_statements f_sealed f_points f_distanceCount f_bandFirst f_bandCount f_bandSize f_accepted f_blamed f_prefixLength f_tunedFresh f_scanAt f_scanFirst f_scanCount f_scanSize f_scanPins : Int32} {f_rangeLow f_rangeHigh : Int64} {a_limits a_ops a_factors a_given a_subs a_pointX a_numberAt a_cells a_seen a_distances a_matrix a_prefix a_prefixFrom a_prefixTo a_tunedOrder a_tunedKey a_toX a_toZ a_sysCount a_hullLow a_hullHigh a_cursor a_limit a_pin a_echelon a_pivot : Nat → Int32} {a_sysCoef a_sysBound a_cand a_spanLow a_spanHigh : Nat → Int64}
theorem xi_id {post : SX → Prop} (K : ∀ m : Nat → Int32, (∀ j, j < 9 → m j = zI (idm j)) → post (f_depth, f_side, f_arraySide, f_statements, f_sealed, f_points, f_distanceCount, f_bandFirst, f_bandCount, f_bandSize, f_accepted, f_blamed, f_prefixLength, f_tunedFresh, f_rangeLow, f_rangeHigh, f_scanAt, f_scanFirst, f_scanCount, f_scanSize, f_scanPins, a_limits, a_ops, a_factors, a_given, a_subs, a_pointX, a_numberAt, a_cells, a_seen, a_distances, m, a_prefix, a_prefixFrom, a_prefixTo, a_tunedOrder, a_tunedKey, a_toX, a_toZ, a_sysCoef, a_sysBound, a_sysCount, a_cand, a_hullLow, a_hullHigh, a_spanLow, a_spanHigh, a_cursor, a_limit, a_pin, a_echelon, a_pivot)) : wpX_identity post (f_depth, f_side, f_arraySide, f_statements, f_sealed, f_points, f_distanceCount, f_bandFirst, f_bandCount, f_bandSize, f_accepted, f_blamed, f_prefixLength, f_tunedFresh, f_rangeLow, f_rangeHigh, f_scanAt, f_scanFirst, f_scanCount, f_scanSize, f_scanPins, a_limits, a_ops, a_factors, a_given, a_subs, a_pointX, a_numberAt, a_cells, a_seen, a_distances, a_matrix, a_prefix, a_prefixFrom, a_prefixTo, a_tunedOrder, a_tunedKey, a_toX, a_toZ, a_sysCoef, a_sysBound, a_sysCount, a_cand, a_hullLow, a_hullHigh, a_spanLow, a_spanHigh, a_cursor, a_limit, a_pin, a_echelon, a_pivot) := by
  refine loop_0 (fun n i s => wX_identity_2 post f_depth f_side f_arraySide f_statements f_sealed f_points f_distanceCount f_bandFirst f_bandCount f_bandSize f_accepted f_blamed f_prefixLength f_tunedFresh f_rangeLow f_rangeHigh f_scanAt f_scanFirst f_scanCount f_scanSize f_scanPins n (nI i) a_limits a_ops a_factors a_given a_subs a_pointX a_numberAt a_cells a_seen a_distances s a_prefix a_prefixFrom a_prefixTo a_tunedOrder a_tunedKey a_toX a_toZ a_sysCoef a_sysBound a_sysCount a_cand a_hullLow a_hullHigh a_spanLow a_spanHigh a_cursor a_limit a_pin a_echelon a_pivot) (fun i s => ∀ j, j < i → s j = zI (idm j)) 9 a_matrix (fun j hj => by omega) ?_ ?_
  · intro n s hs
    exact br_t (by decide) (K s hs)
  · intro n i s hi hs hK
    have ci : (nI i).toNatClampNeg = i := nI_clamp (by omega)
    have er : nI i - nI i / 4 * 4 = nI (i % 4) := pk_rem (d := 4) (by omega) (by omega) (by omega)
    have nx : ∀ s' : Nat → Int32, s' = upd s i (zI (idm i)) → wX_identity_2 post f_depth f_side f_arraySide f_statements f_sealed f_points f_distanceCount f_bandFirst f_bandCount f_bandSize f_accepted f_blamed f_prefixLength f_tunedFresh f_rangeLow f_rangeHigh f_scanAt f_scanFirst f_scanCount f_scanSize f_scanPins n (nI (i + 1)) a_limits a_ops a_factors a_given a_subs a_pointX a_numberAt a_cells a_seen a_distances s' a_prefix a_prefixFrom a_prefixTo a_tunedOrder a_tunedKey a_toX a_toZ a_sysCoef a_sysBound a_sysCount a_cand a_hullLow a_hullHigh a_spanLow a_spanHigh a_cursor a_limit a_pin a_echelon a_pivot := by
      intro s' e
      subst e
      refine hK _ (fun j hj => ?_)
      by_cases x : j = i
      · subst x; exact pk_us
      · exact (pk_un x).trans (hs j (by omega))
    refine br_f (nI_ge (b := 9) hi (by omega)) ⟨by decide, ?_⟩
    rw [er]
    refine pk_eq (i % 4) 0 (fun h => ⟨vp_in_nI (by omega) (by omega), nm_e (nm_r (nI_1 i) (nx _ ?_))⟩) (fun h => ⟨vp_in_nI (by omega) (by omega), nm_e (nm_r (nI_1 i) (nx _ ?_))⟩)
    · rw [ci]; unfold idm; rw [if_pos h]; rfl
    · rw [ci]; unfold idm; rw [if_neg h]; rfl
theorem xi_rb {post : SX → Prop} (K : post (f_depth, f_side, f_arraySide, f_statements, f_sealed, f_points, f_distanceCount, 0, 0, 0, f_accepted, f_blamed, f_prefixLength, f_tunedFresh, f_rangeLow, f_rangeHigh, f_scanAt, f_scanFirst, f_scanCount, f_scanSize, f_scanPins, a_limits, a_ops, a_factors, a_given, a_subs, a_pointX, a_numberAt, a_cells, a_seen, a_distances, a_matrix, a_prefix, a_prefixFrom, a_prefixTo, a_tunedOrder, a_tunedKey, a_toX, a_toZ, a_sysCoef, a_sysBound, a_sysCount, a_cand, a_hullLow, a_hullHigh, a_spanLow, a_spanHigh, a_cursor, a_limit, a_pin, a_echelon, a_pivot)) : wpX_removeBand post (f_depth, f_side, f_arraySide, f_statements, f_sealed, f_points, f_distanceCount, f_bandFirst, f_bandCount, f_bandSize, f_accepted, f_blamed, f_prefixLength, f_tunedFresh, f_rangeLow, f_rangeHigh, f_scanAt, f_scanFirst, f_scanCount, f_scanSize, f_scanPins, a_limits, a_ops, a_factors, a_given, a_subs, a_pointX, a_numberAt, a_cells, a_seen, a_distances, a_matrix, a_prefix, a_prefixFrom, a_prefixTo, a_tunedOrder, a_tunedKey, a_toX, a_toZ, a_sysCoef, a_sysBound, a_sysCount, a_cand, a_hullLow, a_hullHigh, a_spanLow, a_spanHigh, a_cursor, a_limit, a_pin, a_echelon, a_pivot) := K
theorem xi_dis {post : SX → Prop} (K : post (f_depth, f_side, f_arraySide, f_statements, f_sealed, f_points, f_distanceCount, f_bandFirst, f_bandCount, f_bandSize, 0, (-1), 0, 0, f_rangeLow, f_rangeHigh, f_scanAt, f_scanFirst, f_scanCount, f_scanSize, f_scanPins, a_limits, a_ops, a_factors, a_given, a_subs, a_pointX, a_numberAt, a_cells, a_seen, a_distances, a_matrix, a_prefix, upd a_prefixFrom 0 0, upd a_prefixTo 0 f_points, a_tunedOrder, a_tunedKey, a_toX, a_toZ, a_sysCoef, a_sysBound, a_sysCount, a_cand, a_hullLow, a_hullHigh, a_spanLow, a_spanHigh, a_cursor, a_limit, a_pin, a_echelon, a_pivot)) : wpX_disturb post (f_depth, f_side, f_arraySide, f_statements, f_sealed, f_points, f_distanceCount, f_bandFirst, f_bandCount, f_bandSize, f_accepted, f_blamed, f_prefixLength, f_tunedFresh, f_rangeLow, f_rangeHigh, f_scanAt, f_scanFirst, f_scanCount, f_scanSize, f_scanPins, a_limits, a_ops, a_factors, a_given, a_subs, a_pointX, a_numberAt, a_cells, a_seen, a_distances, a_matrix, a_prefix, a_prefixFrom, a_prefixTo, a_tunedOrder, a_tunedKey, a_toX, a_toZ, a_sysCoef, a_sysBound, a_sysCount, a_cand, a_hullLow, a_hullHigh, a_spanLow, a_spanHigh, a_cursor, a_limit, a_pin, a_echelon, a_pivot) := nm_e (nm_e K)
end
/-- the default bounds -/
def dfB (S : Nat) : Nat → Int := fun j => if j % 6 = 5 then (S : Int) - 1 else 0
section
variable {S : Nat} {f_depth f_arraySide f_statements f_sealed f_points f_distanceCount f_bandFirst f_bandCount f_bandSize f_accepted f_blamed f_prefixLength f_tunedFresh f_scanAt f_scanFirst f_scanCount f_scanSize f_scanPins : Int32} {f_rangeLow f_rangeHigh : Int64} {a_limits a_ops a_factors a_given a_subs a_pointX a_numberAt a_cells a_seen a_distances a_matrix a_prefix a_prefixFrom a_prefixTo a_tunedOrder a_tunedKey a_toX a_toZ a_sysCount a_hullLow a_hullHigh a_cursor a_limit a_pin a_echelon a_pivot : Nat → Int32} {a_sysCoef a_sysBound a_cand a_spanLow a_spanHigh : Nat → Int64}
theorem xi_df {post : SX → Prop} (K : ∀ l : Nat → Int32, (∀ j, j < 18 → l j = zI (dfB S j)) → (∀ j, 18 ≤ j → l j = a_limits j) → post (f_depth, (nI S), f_arraySide, f_statements, f_sealed, f_points, f_distanceCount, f_bandFirst, f_bandCount, f_bandSize, f_accepted, f_blamed, f_prefixLength, f_tunedFresh, f_rangeLow, f_rangeHigh, f_scanAt, f_scanFirst, f_scanCount, f_scanSize, f_scanPins, l, a_ops, a_factors, a_given, a_subs, a_pointX, a_numberAt, a_cells, a_seen, a_distances, a_matrix, a_prefix, a_prefixFrom, a_prefixTo, a_tunedOrder, a_tunedKey, a_toX, a_toZ, a_sysCoef, a_sysBound, a_sysCount, a_cand, a_hullLow, a_hullHigh, a_spanLow, a_spanHigh, a_cursor, a_limit, a_pin, a_echelon, a_pivot)) : wpX_defaultBounds post (f_depth, (nI S), f_arraySide, f_statements, f_sealed, f_points, f_distanceCount, f_bandFirst, f_bandCount, f_bandSize, f_accepted, f_blamed, f_prefixLength, f_tunedFresh, f_rangeLow, f_rangeHigh, f_scanAt, f_scanFirst, f_scanCount, f_scanSize, f_scanPins, a_limits, a_ops, a_factors, a_given, a_subs, a_pointX, a_numberAt, a_cells, a_seen, a_distances, a_matrix, a_prefix, a_prefixFrom, a_prefixTo, a_tunedOrder, a_tunedKey, a_toX, a_toZ, a_sysCoef, a_sysBound, a_sysCount, a_cand, a_hullLow, a_hullHigh, a_spanLow, a_spanHigh, a_cursor, a_limit, a_pin, a_echelon, a_pivot) := by
  refine loop_0 (fun n i s => wX_defaultBounds_2 post f_depth (nI S) f_arraySide f_statements f_sealed f_points f_distanceCount f_bandFirst f_bandCount f_bandSize f_accepted f_blamed f_prefixLength f_tunedFresh f_rangeLow f_rangeHigh f_scanAt f_scanFirst f_scanCount f_scanSize f_scanPins n (nI i) s a_ops a_factors a_given a_subs a_pointX a_numberAt a_cells a_seen a_distances a_matrix a_prefix a_prefixFrom a_prefixTo a_tunedOrder a_tunedKey a_toX a_toZ a_sysCoef a_sysBound a_sysCount a_cand a_hullLow a_hullHigh a_spanLow a_spanHigh a_cursor a_limit a_pin a_echelon a_pivot) (fun i s => (∀ j, j < 3 * i → s j = zI (dfB S j)) ∧ (∀ j, 18 ≤ j → s j = a_limits j)) 6 a_limits ⟨fun j hj => by omega, fun _ _ => rfl⟩ ?_ ?_
  · intro n s hs
    exact br_t (by decide) (K s (fun j hj => hs.1 j (by omega)) hs.2)
  · intro n i s hi hs hK
    have e1 : nI i * 3 = nI (i * 3) := nx_m3 i
    have e2 : nI i * 3 + 1 = nI (i * 3 + 1) := by rw [nx_m3, nI_1]
    have e3 : nI i * 3 + 2 = nI (i * 3 + 2) := by rw [nx_m3, nx_a2]
    have er : nI i - nI i / 2 * 2 = nI (i % 2) := pk_rem (d := 2) (by omega) (by omega) (by omega)
    have nx : ∀ x : Int32, x = zI (dfB S (i * 3 + 2)) → wX_defaultBounds_2 post f_depth (nI S) f_arraySide f_statements f_sealed f_points f_distanceCount f_bandFirst f_bandCount f_bandSize f_accepted f_blamed f_prefixLength f_tunedFresh f_rangeLow f_rangeHigh f_scanAt f_scanFirst f_scanCount f_scanSize f_scanPins n (nI (i + 1)) (upd (upd (upd s (i * 3) 0) (i * 3 + 1) 0) (i * 3 + 2) x) a_ops a_factors a_given a_subs a_pointX a_numberAt a_cells a_seen a_distances a_matrix a_prefix a_prefixFrom a_prefixTo a_tunedOrder a_tunedKey a_toX a_toZ a_sysCoef a_sysBound a_sysCount a_cand a_hullLow a_hullHigh a_spanLow a_spanHigh a_cursor a_limit a_pin a_echelon a_pivot := by
      intro x e
      subst e
      refine hK _ ⟨fun j hj => ?_, fun j hj => ?_⟩
      · by_cases x2 : j = i * 3 + 2
        · subst x2; exact pk_us
        · rw [pk_un x2]
          by_cases x1 : j = i * 3 + 1
          · subst x1; rw [pk_us]; unfold dfB; rw [if_neg (by omega)]; rfl
          · rw [pk_un x1]
            by_cases x0 : j = i * 3
            · subst x0; rw [pk_us]; unfold dfB; rw [if_neg (by omega)]; rfl
            · rw [pk_un x0]; exact hs.1 j (by omega)
      · rw [pk_un (by omega), pk_un (by omega), pk_un (by omega)]; exact hs.2 j hj
    refine br_f (nI_ge (b := 6) hi (by omega)) ⟨vx_n _ e1 (by omega) (by omega), nm_r (e' := upd s (i * 3) 0) (by rw [cx_n _ e1 (by omega)]) ⟨vx_n _ e2 (by omega) (by omega), nm_r (e' := upd (upd s (i * 3) 0) (i * 3 + 1) 0) (by rw [cx_n _ e2 (by omega)]) ⟨by decide, ?_⟩⟩⟩
    rw [er]
    refine pk_eq (i % 2) 0 (fun h => ⟨vx_n _ e3 (by omega) (by omega), nm_r (e' := upd (upd (upd s (i * 3) 0) (i * 3 + 1) 0) (i * 3 + 2) 0) (by rw [cx_n _ e3 (by omega)]) (nm_r (nI_1 i) (nx 0 ?_))⟩) (fun h => ⟨vx_n _ e3 (by omega) (by omega), nm_r (e' := upd (upd (upd s (i * 3) 0) (i * 3 + 1) 0) (i * 3 + 2) (zI ((S : Int) - 1))) (by rw [cx_n _ e3 (by omega), zI_n, zI_1, zI_sub]) (nm_r (nI_1 i) (nx _ ?_))⟩)
    · unfold dfB; rw [if_neg (by omega)]; rfl
    · unfold dfB; rw [if_pos (by omega)]
end
end
section
/-! the reference: subscripts, places, conflicts, seal -/
section
variable {P St : Nat} {f_depth f_side f_arraySide f_sealed f_bandFirst f_bandCount f_bandSize f_accepted f_blamed f_prefixLength : Int32} {a_bounds a_ops a_factors a_given a_subs a_cells a_xs a_order a_inD a_t a_prefix : Nat → Int32}
variable {Sb : Nat → Int}
theorem yv_sub {post : Int32 → Prop} {s pos n : Nat} (hs : ∀ j, j < 48 → a_subs j = zI (Sb j)) (hs2 : s < 2) (hp : pos < 6) (hn : n < 64) (K : post (zI (av Sb ((s * 6 + pos) * 4) (ptx a_xs n)))) : wpY_sub post (f_depth, f_side, f_arraySide, (nI St), f_sealed, (nI P), f_bandFirst, f_bandCount, f_bandSize, f_accepted, f_blamed, f_prefixLength, a_bounds, a_ops, a_factors, a_given, a_subs, a_cells, a_xs, a_order, a_inD, a_t, a_prefix) (nI s) (nI pos) (nI n) := by
  have e1 : nI n * 3 = nI (n * 3 + 0) := nx_m3 n
  have e2 : nI n * 3 + 1 = nI (n * 3 + 1) := by rw [nx_m3, nI_1]
  have e3 : nI n * 3 + 2 = nI (n * 3 + 2) := by rw [nx_m3, nx_a2]
  have d1 : (nI n * 3).toNatClampNeg = n * 3 + 0 := cx_n _ e1 (by omega)
  have d2 : (nI n * 3 + 1).toNatClampNeg = n * 3 + 1 := cx_n _ e2 (by omega)
  have d3 : (nI n * 3 + 2).toNatClampNeg = n * 3 + 2 := cx_n _ e3 (by omega)
  have b0 : (nI ((s * 6 + pos) * 4)).toNatClampNeg = (s * 6 + pos) * 4 := nI_clamp (by omega)
  have b1 : (nI ((s * 6 + pos) * 4) + 1).toNatClampNeg = (s * 6 + pos) * 4 + 1 := cx_n _ (nI_1 _) (by omega)
  have b2 : (nI ((s * 6 + pos) * 4) + 2).toNatClampNeg = (s * 6 + pos) * 4 + 2 := cx_n _ (nx_a2 _) (by omega)
  have b3 : (nI ((s * 6 + pos) * 4) + 3).toNatClampNeg = (s * 6 + pos) * 4 + 3 := cx_n _ (nx_a3 _) (by omega)
  refine nm_r (e' := nI ((s * 6 + pos) * 4)) (by rw [nx_m6, nI_add, nx_m4]) ⟨vp_in_nI (by omega) (by omega), vx_n _ e1 (by omega) (by omega), vx_n _ (nI_1 _) (by omega) (by omega), vx_n _ e2 (by omega) (by omega), vx_n _ (nx_a2 _) (by omega) (by omega), vx_n _ e3 (by omega) (by omega), vx_n _ (nx_a3 _) (by omega) (by omega), ?_⟩
  rw [d1, d2, d3, b0, b1, b2, b3, hs _ (by omega), hs _ (by omega), hs _ (by omega), hs _ (by omega), ptx_z a_xs, ptx_z a_xs, ptx_z a_xs, zI_mul, zI_mul, zI_mul, zI_add, zI_add, zI_add]
  exact K
/-- row * 15 + column of access k at point n -/
def plc (Sb : Nat → Int) (px : Nat → Int32) (k n : Nat) : Int := av Sb (k * 8) (ptx px n) * 15 + av Sb (k * 8 + 4) (ptx px n)
theorem yv_place {post : Int32 → Prop} {s a n : Nat} (hs : ∀ j, j < 48 → a_subs j = zI (Sb j)) (hs2 : s < 2) (ha : a < 3) (hn : n < 64) (K : post (zI (plc Sb a_xs (s * 3 + a) n))) : wpY_place post (f_depth, f_side, f_arraySide, (nI St), f_sealed, (nI P), f_bandFirst, f_bandCount, f_bandSize, f_accepted, f_blamed, f_prefixLength, a_bounds, a_ops, a_factors, a_given, a_subs, a_cells, a_xs, a_order, a_inD, a_t, a_prefix) (nI s) (nI a) (nI n) := by
  have e : (show Prop from wpY_sub (fun r_1 => wpY_sub (fun r_25 => post (r_1 * 15 + r_25)) (f_depth, f_side, f_arraySide, (nI St), f_sealed, (nI P), f_bandFirst, f_bandCount, f_bandSize, f_accepted, f_blamed, f_prefixLength, a_bounds, a_ops, a_factors, a_given, a_subs, a_cells, a_xs, a_order, a_inD, a_t, a_prefix) (nI s) (2 * nI a + 1) (nI n)) (f_depth, f_side, f_arraySide, (nI St), f_sealed, (nI P), f_bandFirst, f_bandCount, f_bandSize, f_accepted, f_blamed, f_prefixLength, a_bounds, a_ops, a_factors, a_given, a_subs, a_cells, a_xs, a_order, a_inD, a_t, a_prefix) (nI s) (2 * nI a) (nI n)) := by
    rw [nx_m2, nI_1]
    refine yv_sub hs hs2 (by omega) hn (yv_sub hs hs2 (by omega) hn ?_)
    unfold plc at K
    rw [show (s * 6 + 2 * a) * 4 = (s * 3 + a) * 8 by omega, show (s * 6 + (2 * a + 1)) * 4 = (s * 3 + a) * 8 + 4 by omega, show (15 : Int32) = zI 15 from by decide, zI_mul, zI_add]
    exact K
  exact e
theorem yd_needs {post : Int32 → Prop} {o : Int32} (K : post (nI (nds o))) : wpY_needs post (f_depth, f_side, f_arraySide, (nI St), f_sealed, (nI P), f_bandFirst, f_bandCount, f_bandSize, f_accepted, f_blamed, f_prefixLength, a_bounds, a_ops, a_factors, a_given, a_subs, a_cells, a_xs, a_order, a_inD, a_t, a_prefix) o := by
  unfold nds at K
  refine br_c (fun h => ?_) (fun h => br_c (fun h' => ?_) (fun h' => ?_))
  · rw [if_pos h] at K; exact K
  · rw [if_neg h, if_pos h'] at K; exact K
  · rw [if_neg h, if_neg h'] at K; exact K
def cfl (St : Nat) (ops : Nat → Int32) (Sb : Nat → Int) (px : Nat → Int32) (p q s a u b : Nat) : Prop := (a = 0 ∨ b = 0) ∧ plc Sb px (s * 3 + a) p = plc Sb px (u * 3 + b) q
theorem yc_conf {post : Int32 → Prop} {D p q : Nat} (hSt : St ≤ 2) (hp : p < 64) (hq : q < 64) (hs : ∀ j, j < 48 → a_subs j = zI (Sb j)) (hsb : sub_ok D Sb) (hxp : ∀ l, l < 3 → 0 ≤ ptx a_xs p l ∧ ptx a_xs p l ≤ 7) (hxq : ∀ l, l < 3 → 0 ≤ ptx a_xs q l ∧ ptx a_xs q l ≤ 7)
    (K1 : ∀ s a u b, s < St → 2 * a < nds (a_ops s) → u < St → 2 * b < nds (a_ops u) → cfl St a_ops Sb a_xs p q s a u b → post 1)
    (K0 : (∀ s a u b, s < St → 2 * a < nds (a_ops s) → u < St → 2 * b < nds (a_ops u) → ¬ cfl St a_ops Sb a_xs p q s a u b) → post 0) : wpY_conflict post (f_depth, f_side, f_arraySide, (nI St), f_sealed, (nI P), f_bandFirst, f_bandCount, f_bandSize, f_accepted, f_blamed, f_prefixLength, a_bounds, a_ops, a_factors, a_given, a_subs, a_cells, a_xs, a_order, a_inD, a_t, a_prefix) (nI p) (nI q) := by
  have pb : ∀ k n, k < 6 → (∀ l, l < 3 → 0 ≤ ptx a_xs n l ∧ ptx a_xs n l ≤ 7) → -1000 ≤ plc Sb a_xs k n ∧ plc Sb a_xs k n ≤ 1000 := fun k n hk hx => by
    have b0 := av_b (base := k * 8) hsb (by omega) (by omega) hx
    have b1 := av_b (base := k * 8 + 4) hsb (by omega) (by omega) hx
    unfold plc; omega
  have n2 : ∀ a : Nat, nI a * 2 = nI (a * 2) := fun a => pk_mul a 2
  have l45 : ∀ (J2 J13 J33 : Int32 → Prop) (s a u : Nat), s < St → 2 * a < nds (a_ops s) → u < St → ((∀ b, 2 * b < nds (a_ops u) → ¬ cfl St a_ops Sb a_xs p q s a u b) → J33 (nI (u + 1))) →
      ∀ d b : Nat, b + d = 4 → (∀ b', b' < b → 2 * b' < nds (a_ops u) → ¬ cfl St a_ops Sb a_xs p q s a u b') → wY_conflict_45 post J2 J13 J33 (nI p) (nI q) (nI s) (nI a) (nI u) f_depth f_side f_arraySide (nI St) f_sealed (nI P) f_bandFirst f_bandCount f_bandSize f_accepted f_blamed f_prefixLength a_bounds a_ops a_factors a_given a_subs a_cells a_xs a_order a_inD a_t a_prefix (d + 1) (nI b) := by
    intro J2 J13 J33 s a u hs' ha hu hK d
    have na := nds_le (a_ops s)
    have nu := nds_le (a_ops u)
    have cu : (nI u).toNatClampNeg = u := nI_clamp (by omega)
    induction d with
    | zero =>
      intro b hb h
      refine ⟨vp_in_nI (by omega) (by omega), ?_⟩
      rw [cu]
      refine yd_needs ?_
      rw [n2]
      exact pk_le (nds (a_ops u)) (b * 2) (fun g => nm_r (nI_1 u) (hK (fun b' hb' => h b' (by omega) hb'))) (fun g => by omega)
    | succ d ih =>
      intro b hb h
      refine ⟨vp_in_nI (by omega) (by omega), ?_⟩
      rw [cu]
      refine yd_needs ?_
      rw [n2]
      refine pk_le (nds (a_ops u)) (b * 2) (fun g => nm_r (nI_1 u) (hK (fun b' hb' => h b' (by omega) hb'))) (fun g => ?_)
      have nxt : ¬ cfl St a_ops Sb a_xs p q s a u b → wY_conflict_45 post J2 J13 J33 (nI p) (nI q) (nI s) (nI a) (nI u) f_depth f_side f_arraySide (nI St) f_sealed (nI P) f_bandFirst f_bandCount f_bandSize f_accepted f_blamed f_prefixLength a_bounds a_ops a_factors a_given a_subs a_cells a_xs a_order a_inD a_t a_prefix (d + 1) (nI (b + 1)) := fun hno => ih (b + 1) (by omega) (fun b' hb' hn => by
        by_cases x : b' = b
        · subst x; exact hno
        · exact h b' (by omega) hn)
      have h73 : (a = 0 ∨ b = 0) → wY_conflict_73 post J2 J13 J33 (wY_conflict_45 post J2 J13 J33 (nI p) (nI q) (nI s) (nI a) (nI u) f_depth f_side f_arraySide (nI St) f_sealed (nI P) f_bandFirst f_bandCount f_bandSize f_accepted f_blamed f_prefixLength a_bounds a_ops a_factors a_given a_subs a_cells a_xs a_order a_inD a_t a_prefix (d + 1)) (nI p) (nI q) (nI s) (nI a) (nI u) (nI b) f_depth f_side f_arraySide (nI St) f_sealed (nI P) f_bandFirst f_bandCount f_bandSize f_accepted f_blamed f_prefixLength a_bounds a_ops a_factors a_given a_subs a_cells a_xs a_order a_inD a_t a_prefix := by
        intro h0
        have q1 := pb (s * 3 + a) p (by omega) hxp
        have q2 := pb (u * 3 + b) q (by omega) hxq
        refine yv_place hs (by omega) (by omega) hp (yv_place hs (by omega) (by omega) hq (br_c (fun e => ?_) (fun e => nm_r (nI_1 b) (nxt (fun hc => e ?_)))))
        · rw [zI_eq (by omega) (by omega) (by omega) (by omega)] at e
          exact K1 s a u b hs' ha hu (by omega) ⟨h0, e⟩
        · rw [hc.2]
      refine pk_eq a 0 (fun e => h73 (Or.inl e)) (fun e => pk_eq b 0 (fun e' => h73 (Or.inr e')) (fun e' => nm_r (nI_1 b) (nxt (fun hc => ?_))))
      rcases hc.1 with z | z
      · exact e z
      · exact e' z
  have l33 : ∀ (J2 J13 : Int32 → Prop) (s a : Nat), s < St → 2 * a < nds (a_ops s) → ((∀ u b, u < St → 2 * b < nds (a_ops u) → ¬ cfl St a_ops Sb a_xs p q s a u b) → J13 (nI (a + 1))) →
      ∀ d u : Nat, u + d = St → (∀ u' b, u' < u → 2 * b < nds (a_ops u') → ¬ cfl St a_ops Sb a_xs p q s a u' b) → wY_conflict_33 post J2 J13 (nI p) (nI q) (nI s) (nI a) f_depth f_side f_arraySide (nI St) f_sealed (nI P) f_bandFirst f_bandCount f_bandSize f_accepted f_blamed f_prefixLength a_bounds a_ops a_factors a_given a_subs a_cells a_xs a_order a_inD a_t a_prefix (d + 1) (nI u) := by
    intro J2 J13 s a hs' ha hK d
    have na := nds_le (a_ops s)
    induction d with
    | zero =>
      intro u hu h
      exact br_t (nI_le (by omega) (by omega)) (nm_r (nI_1 a) (hK (fun u' b hu' => h u' b (by omega))))
    | succ d ih =>
      intro u hu h
      refine br_f (nI_ge (by omega) (by omega)) ⟨5, l45 J2 J13 _ s a u hs' ha (by omega) (fun hno => ih (u + 1) (by omega) (fun u' b hu' hb => ?_)) 4 0 rfl (fun b' hb' => by omega)⟩
      by_cases x : u' = u
      · subst x; exact hno b hb
      · exact h u' b (by omega) hb
  have l13 : ∀ (J2 : Int32 → Prop) (s : Nat), s < St → ((∀ a u b, 2 * a < nds (a_ops s) → u < St → 2 * b < nds (a_ops u) → ¬ cfl St a_ops Sb a_xs p q s a u b) → J2 (nI (s + 1))) →
      ∀ d a : Nat, a + d = 4 → (∀ a' u b, a' < a → 2 * a' < nds (a_ops s) → u < St → 2 * b < nds (a_ops u) → ¬ cfl St a_ops Sb a_xs p q s a' u b) → wY_conflict_13 post J2 (nI p) (nI q) (nI s) f_depth f_side f_arraySide (nI St) f_sealed (nI P) f_bandFirst f_bandCount f_bandSize f_accepted f_blamed f_prefixLength a_bounds a_ops a_factors a_given a_subs a_cells a_xs a_order a_inD a_t a_prefix (d + 1) (nI a) := by
    intro J2 s hs' hK d
    have na := nds_le (a_ops s)
    have cs : (nI s).toNatClampNeg = s := nI_clamp (by omega)
    induction d with
    | zero =>
      intro a ha h
      refine ⟨vp_in_nI (by omega) (by omega), ?_⟩
      rw [cs]
      refine yd_needs ?_
      rw [n2]
      exact pk_le (nds (a_ops s)) (a * 2) (fun g => nm_r (nI_1 s) (hK (fun a' u b ha' => h a' u b (by omega) ha'))) (fun g => by omega)
    | succ d ih =>
      intro a ha h
      refine ⟨vp_in_nI (by omega) (by omega), ?_⟩
      rw [cs]
      refine yd_needs ?_
      rw [n2]
      refine pk_le (nds (a_ops s)) (a * 2) (fun g => nm_r (nI_1 s) (hK (fun a' u b ha' => h a' u b (by omega) ha'))) (fun g => ⟨St + 1, l33 J2 _ s a hs' (by omega) (fun hno => ih (a + 1) (by omega) (fun a' u b ha' h1 h2 h3 => ?_)) St 0 (by omega) (fun u' b hu' => by omega)⟩)
      by_cases x : a' = a
      · subst x; exact hno u b h2 h3
      · exact h a' u b (by omega) h1 h2 h3
  refine ⟨St + 1, ?_⟩
  have go : ∀ d s : Nat, s + d = St → (∀ s' a u b, s' < s → 2 * a < nds (a_ops s') → u < St → 2 * b < nds (a_ops u) → ¬ cfl St a_ops Sb a_xs p q s' a u b) → wY_conflict_2 post (nI p) (nI q) f_depth f_side f_arraySide (nI St) f_sealed (nI P) f_bandFirst f_bandCount f_bandSize f_accepted f_blamed f_prefixLength a_bounds a_ops a_factors a_given a_subs a_cells a_xs a_order a_inD a_t a_prefix (d + 1) (nI s) := by
    intro d
    induction d with
    | zero =>
      intro s hs' h
      exact br_t (nI_le (by omega) (by omega)) (K0 (fun s' a u b h1 => h s' a u b (by omega)))
    | succ d ih =>
      intro s hs' h
      refine br_f (nI_ge (by omega) (by omega)) ⟨5, l13 _ s (by omega) (fun hno => ih (s + 1) (by omega) (fun s' a u b h1 h2 h3 h4 => ?_)) 4 0 rfl (fun a' u b ha' => by omega)⟩
      by_cases x : s' = s
      · subst x; exact hno a u b h2 h3 h4
      · exact h s' a u b (by omega) h2 h3 h4
  exact go St 0 (by omega) (fun s' a u b h => by omega)
end
end
section
theorem nds_ev (o : Int32) : nds o = 2 ∨ nds o = 4 ∨ nds o = 6 := by
  unfold nds
  split
  · omega
  · split <;> omega
theorem plc_eq {A : Nat} {Sb : Nat → Int} {px : Nat → Int32} {k k' p q : Nat} (hA : A ≤ 15) (h1 : insA A Sb px k p) (h2 : insA A Sb px k' q) : plc Sb px k p = plc Sb px k' q ↔ hitAB Sb px k k' p q := by
  unfold plc hitAB
  unfold insA at h1 h2
  omega
theorem conf_iff {A St P : Nat} {ops : Nat → Int32} {Sb : Nat → Int} {px : Nat → Int32} (hA : A ≤ 15) (hSt : St ≤ 2) (h : acc_in A St P ops Sb px) {p q : Nat} (hp : p < P) (hq : q < P) :
    confl St ops Sb px p q ↔ ∃ s a u b, s < St ∧ 2 * a < nds (ops s) ∧ u < St ∧ 2 * b < nds (ops u) ∧ cfl St ops Sb px p q s a u b := by
  refine ⟨fun ⟨k, k', h1, h2, h3, h4, h5, h6⟩ => ?_, fun ⟨s, a, u, b, h1, h2, h3, h4, h5, h6⟩ => ?_⟩
  · refine ⟨k / 3, k % 3, k' / 3, k' % 3, h3.1, h3.2, h4.1, h4.2, h5, ?_⟩
    rw [show k / 3 * 3 + k % 3 = k by omega, show k' / 3 * 3 + k' % 3 = k' by omega]
    exact (plc_eq hA (h k h1 h3 p hp) (h k' h2 h4 q hq)).mpr h6
  · have na := nds_le (ops s)
    have nb := nds_le (ops u)
    have e1 : accE St ops (s * 3 + a) := by
      unfold accE
      rw [show (s * 3 + a) / 3 = s by omega, show (s * 3 + a) % 3 = a by omega]
      exact ⟨h1, h2⟩
    have e2 : accE St ops (u * 3 + b) := by
      unfold accE
      rw [show (u * 3 + b) / 3 = u by omega, show (u * 3 + b) % 3 = b by omega]
      exact ⟨h3, h4⟩
    exact ⟨s * 3 + a, u * 3 + b, by omega, by omega, e1, e2, by omega, (plc_eq hA (h _ (by omega) e1 p hp) (h _ (by omega) e2 q hq)).mp h6⟩
theorem acc_iff {A St P : Nat} {ops : Nat → Int32} {Sb : Nat → Int} {px : Nat → Int32} (hSt : St ≤ 2) : acc_in A St P ops Sb px ↔ ∀ p, p < P → ∀ s, s < St → ∀ pos, pos < nds (ops s) → 0 ≤ av Sb ((s * 6 + pos) * 4) (ptx px p) ∧ av Sb ((s * 6 + pos) * 4) (ptx px p) < A := by
  refine ⟨fun h p hp s hs pos hpos => ?_, fun h k hk he n hn => ?_⟩
  · have na := nds_le (ops s)
    have e1 : accE St ops (s * 3 + pos / 2) := by
      unfold accE
      rw [show (s * 3 + pos / 2) / 3 = s by omega, show (s * 3 + pos / 2) % 3 = pos / 2 by omega]
      exact ⟨hs, by omega⟩
    have := h (s * 3 + pos / 2) (by omega) e1 p hp
    unfold insA at this
    rcases (show pos % 2 = 0 ∨ pos % 2 = 1 by omega) with e | e
    · rw [show (s * 6 + pos) * 4 = (s * 3 + pos / 2) * 8 by omega]; exact this.1
    · rw [show (s * 6 + pos) * 4 = (s * 3 + pos / 2) * 8 + 4 by omega]; exact this.2
  · have ev := nds_ev (ops (k / 3))
    have h1 := h n hn (k / 3) he.1 (2 * (k % 3)) he.2
    have h2 := h n hn (k / 3) he.1 (2 * (k % 3) + 1) (by have := he.2; omega)
    rw [show (k / 3 * 6 + 2 * (k % 3)) * 4 = k * 8 by omega] at h1
    rw [show (k / 3 * 6 + (2 * (k % 3) + 1)) * 4 = k * 8 + 4 by omega] at h2
    exact ⟨h1, h2⟩
section
variable {f_depth f_side f_arraySide f_statements f_sealed f_pointCount f_bandFirst f_bandCount f_bandSize f_accepted f_blamed f_prefixLength : Int32} {a_bounds a_ops a_factors a_given a_subs a_cells a_xs a_order a_inD a_t a_prefix : Nat → Int32}
theorem y_out {post : Int32 → Prop} {x a b : Int32} (h1 : (x < a ∨ ¬ x ≤ b) → post 1) (h0 : ¬ x < a → x ≤ b → post 0) : wpY_out post (f_depth, f_side, f_arraySide, f_statements, f_sealed, f_pointCount, f_bandFirst, f_bandCount, f_bandSize, f_accepted, f_blamed, f_prefixLength, a_bounds, a_ops, a_factors, a_given, a_subs, a_cells, a_xs, a_order, a_inD, a_t, a_prefix) x a b :=
  br_c (fun h => h1 (Or.inl h)) (fun h => br_c (fun h' => h0 h h') (fun h' => h1 (Or.inr h')))
theorem y_dis {post : SY → Prop} (K : post (f_depth, f_side, f_arraySide, f_statements, f_sealed, f_pointCount, f_bandFirst, f_bandCount, f_bandSize, 0, (-1), 0, a_bounds, a_ops, a_factors, a_given, a_subs, a_cells, a_xs, a_order, a_inD, a_t, a_prefix)) : wpY_disturb post (f_depth, f_side, f_arraySide, f_statements, f_sealed, f_pointCount, f_bandFirst, f_bandCount, f_bandSize, f_accepted, f_blamed, f_prefixLength, a_bounds, a_ops, a_factors, a_given, a_subs, a_cells, a_xs, a_order, a_inD, a_t, a_prefix) := K
theorem yr_s {post : Int32 → SY → Prop} (hs : f_sealed ≠ 0) (K : ∀ t : Nat → Int32, (∀ j, j < 9 → t j = zI (idm j)) → post 0 (f_depth, f_side, f_arraySide, f_statements, f_sealed, f_pointCount, 0, 0, 0, 0, (-1), 0, a_bounds, a_ops, a_factors, a_given, a_subs, a_cells, a_xs, a_order, a_inD, t, a_prefix)) : wpY_reset post (f_depth, f_side, f_arraySide, f_statements, f_sealed, f_pointCount, f_bandFirst, f_bandCount, f_bandSize, f_accepted, f_blamed, f_prefixLength, a_bounds, a_ops, a_factors, a_given, a_subs, a_cells, a_xs, a_order, a_inD, a_t, a_prefix) := by
  refine br_f hs ?_
  refine loop_0 (fun n i s => wY_reset_9 post f_depth f_side f_arraySide f_statements f_sealed f_pointCount f_bandFirst f_bandCount f_bandSize f_accepted f_blamed f_prefixLength n (nI i) a_bounds a_ops a_factors a_given a_subs a_cells a_xs a_order a_inD s a_prefix) (fun i s => ∀ j, j < i → s j = zI (idm j)) 9 a_t (fun j hj => by omega) ?_ ?_
  · intro n s hs
    exact br_t (by decide) (y_dis (K s hs))
  · intro n i s hi hs hK
    have ci : (nI i).toNatClampNeg = i := nI_clamp (by omega)
    have er : nI i - nI i / 4 * 4 = nI (i % 4) := pk_rem (d := 4) (by omega) (by omega) (by omega)
    have nx : ∀ s' : Nat → Int32, s' = upd s i (zI (idm i)) → wY_reset_9 post f_depth f_side f_arraySide f_statements f_sealed f_pointCount f_bandFirst f_bandCount f_bandSize f_accepted f_blamed f_prefixLength n (nI (i + 1)) a_bounds a_ops a_factors a_given a_subs a_cells a_xs a_order a_inD s' a_prefix := by
      intro s' e
      subst e
      refine hK _ (fun j hj => ?_)
      by_cases x : j = i
      · subst x; exact pk_us
      · exact (pk_un x).trans (hs j (by omega))
    refine br_f (nI_ge (b := 9) hi (by omega)) ⟨by decide, ?_⟩
    rw [er]
    refine pk_eq (i % 4) 0 (fun h => ⟨vp_in_nI (by omega) (by omega), nm_e (nm_r (nI_1 i) (nx _ ?_))⟩) (fun h => ⟨vp_in_nI (by omega) (by omega), nm_e (nm_r (nI_1 i) (nx _ ?_))⟩)
    · rw [ci]; unfold idm; rw [if_pos h]; rfl
    · rw [ci]; unfold idm; rw [if_neg h]; rfl
end
section
variable {S : Nat} {f_depth f_arraySide f_statements f_sealed f_pointCount f_bandFirst f_bandCount f_bandSize f_accepted f_blamed f_prefixLength : Int32} {a_bounds a_ops a_factors a_given a_subs a_cells a_xs a_order a_inD a_t a_prefix : Nat → Int32}
theorem yr_u {post : Int32 → SY → Prop} (hs : f_sealed = 0) (K : ∀ b : Nat → Int32, (∀ j, j < 18 → b j = zI (dfB S j)) → (∀ j, 18 ≤ j → b j = a_bounds j) → post 0 (f_depth, (nI S), f_arraySide, 0, f_sealed, f_pointCount, f_bandFirst, f_bandCount, f_bandSize, f_accepted, f_blamed, f_prefixLength, b, a_ops, a_factors, a_given, a_subs, a_cells, a_xs, a_order, a_inD, a_t, a_prefix)) : wpY_reset post (f_depth, (nI S), f_arraySide, f_statements, f_sealed, f_pointCount, f_bandFirst, f_bandCount, f_bandSize, f_accepted, f_blamed, f_prefixLength, a_bounds, a_ops, a_factors, a_given, a_subs, a_cells, a_xs, a_order, a_inD, a_t, a_prefix) := by
  refine br_t hs ?_
  refine loop_0 (fun n i s => wY_reset_67 post f_depth (nI S) f_arraySide 0 f_sealed f_pointCount f_bandFirst f_bandCount f_bandSize f_accepted f_blamed f_prefixLength n (nI i) s a_ops a_factors a_given a_subs a_cells a_xs a_order a_inD a_t a_prefix) (fun i s => (∀ j, j < i → s j = zI (dfB S j)) ∧ (∀ j, 18 ≤ j → s j = a_bounds j)) 18 a_bounds ⟨fun j hj => by omega, fun _ _ => rfl⟩ ?_ ?_
  · intro n s hs
    exact br_t (by decide) (K s hs.1 hs.2)
  · intro n i s hi hs hK
    have ci : (nI i).toNatClampNeg = i := nI_clamp (by omega)
    have er : nI i - nI i / 6 * 6 = nI (i % 6) := pk_rem (d := 6) (by omega) (by omega) (by omega)
    have nx : ∀ s' : Nat → Int32, s' = upd s i (zI (dfB S i)) → wY_reset_67 post f_depth (nI S) f_arraySide 0 f_sealed f_pointCount f_bandFirst f_bandCount f_bandSize f_accepted f_blamed f_prefixLength n (nI (i + 1)) s' a_ops a_factors a_given a_subs a_cells a_xs a_order a_inD a_t a_prefix := by
      intro s' e
      subst e
      refine hK _ ⟨fun j hj => ?_, fun j hj => (pk_un (by omega)).trans (hs.2 j hj)⟩
      by_cases x : j = i
      · subst x; exact pk_us
      · exact (pk_un x).trans (hs.1 j (by omega))
    refine br_f (nI_ge (b := 18) hi (by omega)) ⟨by decide, ?_⟩
    rw [er]
    refine pk_eq (i % 6) 5 (fun h => ⟨vp_in_nI (by omega) (by omega), nm_e (nm_r (nI_1 i) (nx _ ?_))⟩) (fun h => ⟨vp_in_nI (by omega) (by omega), nm_e (nm_r (nI_1 i) (nx _ ?_))⟩)
    · rw [ci]; unfold dfB; rw [if_pos h, zI_n, zI_1, zI_sub]
    · rw [ci]; unfold dfB; rw [if_neg h]; rfl
end
section
variable {A P St : Nat} {f_depth f_side f_sealed f_bandFirst f_bandCount f_bandSize f_accepted f_blamed f_prefixLength : Int32} {a_bounds a_ops a_factors a_given a_subs a_cells a_xs a_order a_inD a_t a_prefix : Nat → Int32}
variable {Sb : Nat → Int}
theorem ys_59 {post : Int32 → SY → Prop} {D S : Nat} {B : Nat → Int} {num : Nat → Int32} (hA : 4 ≤ A ∧ A ≤ 15) (hSt : St ≤ 2) (hs : ∀ j, j < 48 → a_subs j = zI (Sb j)) (hsb : sub_ok D Sb) (hS : S ≤ 8) (hp : pts_ok D S B P a_xs num)
    (hg : ∀ s, s < St → a_given s = nI (nds (a_ops s)))
    (K0 : ¬ acc_in A St P a_ops Sb a_xs → post (-1008) (f_depth, f_side, (nI A), (nI St), f_sealed, (nI P), f_bandFirst, f_bandCount, f_bandSize, f_accepted, f_blamed, f_prefixLength, a_bounds, a_ops, a_factors, a_given, a_subs, a_cells, a_xs, a_order, a_inD, a_t, a_prefix))
    (K1 : acc_in A St P a_ops Sb a_xs → ∀ inD t : Nat → Int32, (∀ j, j < 3375 → (inD j ≠ 0 ↔ (a_inD j ≠ 0 ∨ ∃ p q, p < q ∧ q < P ∧ confl St a_ops Sb a_xs p q ∧ (dcode a_xs p q).toNat = j))) → (∀ j, j < 9 → t j = zI (idm j)) →
      post (nI P) (f_depth, f_side, (nI A), (nI St), 1, (nI P), 0, 0, 0, 0, (-1), 0, a_bounds, a_ops, a_factors, a_given, a_subs, a_cells, a_xs, a_order, inD, t, a_prefix)) :
    ∃ n59 : Nat, wY_seal_59 post f_depth f_side (nI A) (nI St) f_sealed (nI P) f_bandFirst f_bandCount f_bandSize f_accepted f_blamed f_prefixLength a_bounds a_ops a_factors a_given a_subs a_cells a_xs a_order a_inD a_t a_prefix n59 0 := by
  have hPb := hp.1
  have hx : ∀ n, n < P → ∀ l, l < 3 → 0 ≤ ptx a_xs n l ∧ ptx a_xs n l ≤ 7 := fun n hn l hl => by have := (hp.2.1 n hn).2.1 l hl; omega
  have fin : acc_in A St P a_ops Sb a_xs → ∃ n138 : Nat, wY_seal_138 post f_depth f_side (nI A) (nI St) f_sealed (nI P) f_bandFirst f_bandCount f_bandSize f_accepted f_blamed f_prefixLength n138 0 a_bounds a_ops a_factors a_given a_subs a_cells a_xs a_order a_inD a_t a_prefix := by
    intro hin
    have e1 : ∀ n c : Nat, n < 64 → c < 3 → (nI n * 3 + nI c) = nI (n * 3 + c) := fun n c _ _ => by rw [nx_m3, nI_add]
    have r0 : ∀ n : Nat, n < 64 → a_xs (nI n * 3).toNatClampNeg = zI (ptx a_xs n 0) := fun n hn => by rw [cx_n _ (nx_m3 n) (by omega)]; exact ptx_z a_xs n 0
    have r1 : ∀ n : Nat, n < 64 → a_xs (nI n * 3 + 1).toNatClampNeg = zI (ptx a_xs n 1) := fun n hn => by rw [cx_n (n * 3 + 1) (by rw [nx_m3, nI_1]) (by omega)]; exact ptx_z a_xs n 1
    have r2 : ∀ n : Nat, n < 64 → a_xs (nI n * 3 + 2).toNatClampNeg = zI (ptx a_xs n 2) := fun n hn => by rw [cx_n (n * 3 + 2) (by rw [nx_m3, nx_a2]) (by omega)]; exact ptx_z a_xs n 2
    refine ⟨P + 1, ?_⟩
    have go : ∀ (d p : Nat) (inD : Nat → Int32), p + d = P → (∀ j, j < 3375 → (inD j ≠ 0 ↔ (a_inD j ≠ 0 ∨ ∃ p' q, p' < p ∧ p' < q ∧ q < P ∧ confl St a_ops Sb a_xs p' q ∧ (dcode a_xs p' q).toNat = j))) →
        wY_seal_138 post f_depth f_side (nI A) (nI St) f_sealed (nI P) f_bandFirst f_bandCount f_bandSize f_accepted f_blamed f_prefixLength (d + 1) (nI p) a_bounds a_ops a_factors a_given a_subs a_cells a_xs a_order inD a_t a_prefix := by
      intro d
      induction d with
      | zero =>
        intro p inD hd hI
        refine br_t (nI_le (by omega) (by omega)) (yr_s (by decide) (fun t ht => K1 hin inD t (fun j hj => ?_) ht))
        rw [hI j hj]
        refine or_congr Iff.rfl ⟨fun ⟨p', q, h1, h2, h3, h4⟩ => ⟨p', q, h2, h3, h4⟩, fun ⟨p', q, h2, h3, h4⟩ => ⟨p', q, by omega, h2, h3, h4⟩⟩
      | succ d ih =>
        intro p inD hd hI
        refine br_f (nI_ge (by omega) (by omega)) (nm_r (nI_1 p) ⟨P - (p + 1) + 1, ?_⟩)
        have go2 : ∀ (d' q : Nat) (inD' : Nat → Int32), q + d' = P → p + 1 ≤ q → (∀ j, j < 3375 → (inD' j ≠ 0 ↔ (inD j ≠ 0 ∨ ∃ q', p < q' ∧ q' < q ∧ confl St a_ops Sb a_xs p q' ∧ (dcode a_xs p q').toNat = j))) →
            wY_seal_150 post (wY_seal_138 post f_depth f_side (nI A) (nI St) f_sealed (nI P) f_bandFirst f_bandCount f_bandSize f_accepted f_blamed f_prefixLength (d + 1)) (nI p) f_depth f_side (nI A) (nI St) f_sealed (nI P) f_bandFirst f_bandCount f_bandSize f_accepted f_blamed f_prefixLength (d' + 1) (nI q) a_bounds a_ops a_factors a_given a_subs a_cells a_xs a_order inD' a_t a_prefix := by
          intro d'
          induction d' with
          | zero =>
            intro q inD' hd' hpq hI'
            refine br_t (nI_le (by omega) (by omega)) (nm_r (nI_1 p) (ih (p + 1) inD' (by omega) (fun j hj => ?_)))
            rw [hI' j hj, hI j hj]
            refine ⟨fun h => ?_, fun h => ?_⟩
            · rcases h with (h | ⟨p', q', h1, h2⟩) | ⟨q', h1, h2, h3⟩
              · exact Or.inl h
              · exact Or.inr ⟨p', q', by omega, h2⟩
              · exact Or.inr ⟨p, q', by omega, h1, by omega, h3⟩
            · rcases h with h | ⟨p', q', h1, h2, h3, h4⟩
              · exact Or.inl (Or.inl h)
              · by_cases x : p' = p
                · subst x; exact Or.inr ⟨q', h2, by omega, h4⟩
                · exact Or.inl (Or.inr ⟨p', q', by omega, h2, h3, h4⟩)
          | succ d' ih' =>
            intro q inD' hd' hpq hI'
            have hq : q < P := by omega
            have ci := conf_iff hA.2 hSt hin (show p < P by omega) hq
            refine br_f (nI_ge (by omega) (by omega)) (yc_conf hSt (by omega) (by omega) hs hsb (hx p (by omega)) (hx q hq) (fun s a u b h1 h2 h3 h4 h5 => ?_) (fun hno => ?_))
            · have hc : confl St a_ops Sb a_xs p q := ci.mpr ⟨s, a, u, b, h1, h2, h3, h4, h5⟩
              have hdc := dc_b hS hp (show p < P by omega) hq
              have ecode : ((a_xs (nI q * 3).toNatClampNeg - a_xs (nI p * 3).toNatClampNeg + 7) * 225 + (a_xs (nI q * 3 + 1).toNatClampNeg - a_xs (nI p * 3 + 1).toNatClampNeg + 7) * 15 + a_xs (nI q * 3 + 2).toNatClampNeg - a_xs (nI p * 3 + 2).toNatClampNeg + 7) = zI (dcode a_xs p q) := by
                rw [r0 q (by omega), r0 p (by omega), r1 q (by omega), r1 p (by omega), r2 q (by omega), r2 p (by omega), show (7 : Int32) = zI 7 from by decide, show (225 : Int32) = zI 225 from by decide, show (15 : Int32) = zI 15 from by decide, zI_sub, zI_add, zI_mul, zI_sub, zI_add, zI_mul, zI_add, zI_add, zI_sub, zI_add]
                unfold dcode
                exact congrArg zI (by omega)
              refine br_f (by decide) ⟨vx_n _ (nx_m3 q) (by omega) (by omega), vx_n _ (nx_m3 p) (by omega) (by omega), vx_n (q * 3 + 1) (by rw [nx_m3, nI_1]) (by omega) (by omega), vx_n (p * 3 + 1) (by rw [nx_m3, nI_1]) (by omega) (by omega), vx_n (q * 3 + 2) (by rw [nx_m3, nx_a2]) (by omega) (by omega), vx_n (p * 3 + 2) (by rw [nx_m3, nx_a2]) (by omega) (by omega), ?_⟩
              rw [ecode]
              refine ⟨vx_z hdc.1 hdc.2 (by omega), nm_r (e' := upd inD' (dcode a_xs p q).toNat 1) (by rw [zI_cl (by omega) (by omega)]; rfl) (nm_r (nI_1 q) (ih' (q + 1) _ (by omega) (by omega) (fun j hj => ?_)))⟩
              by_cases x : j = (dcode a_xs p q).toNat
              · subst x
                rw [pk_us]
                exact ⟨fun _ => Or.inr ⟨q, by omega, by omega, hc, rfl⟩, fun _ => by decide⟩
              · rw [pk_un x, hI' j hj]
                refine or_congr Iff.rfl ⟨fun ⟨q', g1, g2, g3⟩ => ⟨q', g1, by omega, g3⟩, fun ⟨q', g1, g2, g3, g4⟩ => ⟨q', g1, ?_, g3, g4⟩⟩
                by_cases y : q' = q
                · subst y; exact absurd g4.symm x
                · omega
            · refine br_t rfl (nm_r (nI_1 q) (ih' (q + 1) inD' (by omega) (by omega) (fun j hj => ?_)))
              rw [hI' j hj]
              refine or_congr Iff.rfl ⟨fun ⟨q', g1, g2, g3⟩ => ⟨q', g1, by omega, g3⟩, fun ⟨q', g1, g2, g3, g4⟩ => ⟨q', g1, ?_, g3, g4⟩⟩
              by_cases y : q' = q
              · subst y
                obtain ⟨s, a, u, b, k1, k2, k3, k4, k5⟩ := ci.mp g3
                exact absurd k5 (hno s a u b k1 k2 k3 k4)
              · omega
        refine go2 (P - (p + 1)) (p + 1) inD (by omega) (by omega) (fun j hj => ⟨fun h => Or.inl h, fun h => ?_⟩)
        rcases h with h | ⟨q', g1, g2, _⟩
        · exact h
        · omega
    refine go P 0 a_inD (by omega) (fun j hj => ⟨fun h => Or.inl h, fun h => ?_⟩)
    rcases h with h | ⟨p', q', g1, _⟩
    · exact h
    · omega
  have bad : ∀ p s pos, p < P → s < St → pos < nds (a_ops s) → ¬ (0 ≤ av Sb ((s * 6 + pos) * 4) (ptx a_xs p) ∧ av Sb ((s * 6 + pos) * 4) (ptx a_xs p) < A) → post (-1008) (f_depth, f_side, (nI A), (nI St), f_sealed, (nI P), f_bandFirst, f_bandCount, f_bandSize, f_accepted, f_blamed, f_prefixLength, a_bounds, a_ops, a_factors, a_given, a_subs, a_cells, a_xs, a_order, a_inD, a_t, a_prefix) := fun p s pos h1 h2 h3 h4 => K0 (fun h => h4 ((acc_iff hSt).mp h p h1 s h2 pos h3))
  have l79 : ∀ (J59 J69 : Int32 → Prop) (p s : Nat), p < P → s < St → ((∀ pos, pos < nds (a_ops s) → 0 ≤ av Sb ((s * 6 + pos) * 4) (ptx a_xs p) ∧ av Sb ((s * 6 + pos) * 4) (ptx a_xs p) < A) → J69 (nI (s + 1))) →
      ∀ d pos : Nat, pos + d = nds (a_ops s) → (∀ pos', pos' < pos → 0 ≤ av Sb ((s * 6 + pos') * 4) (ptx a_xs p) ∧ av Sb ((s * 6 + pos') * 4) (ptx a_xs p) < A) → wY_seal_79 post J59 J69 (nI p) (nI s) f_depth f_side (nI A) (nI St) f_sealed (nI P) f_bandFirst f_bandCount f_bandSize f_accepted f_blamed f_prefixLength a_bounds a_ops a_factors a_given a_subs a_cells a_xs a_order a_inD a_t a_prefix (d + 1) (nI pos) := by
    intro J59 J69 p s hpP hsS hK d
    have na := nds_le (a_ops s)
    have cs : (nI s).toNatClampNeg = s := nI_clamp (by omega)
    induction d with
    | zero =>
      intro pos hd h
      refine ⟨vp_in_nI (by omega) (by omega), ?_⟩
      rw [cs, hg s hsS]
      exact pk_le (nds (a_ops s)) pos (fun g => nm_r (nI_1 s) (hK (fun pos' hp' => h pos' (by omega)))) (fun g => by omega)
    | succ d ih =>
      intro pos hd h
      refine ⟨vp_in_nI (by omega) (by omega), ?_⟩
      rw [cs, hg s hsS]
      refine pk_le (nds (a_ops s)) pos (fun g => by omega) (fun g => ?_)
      have b0 := av_b (base := (s * 6 + pos) * 4) hsb (by omega) (by omega) (hx p hpP)
      have eA : nI A - 1 = zI ((A : Int) - 1) := by rw [zI_n, zI_1, zI_sub]
      rw [eA]
      refine yv_sub hs (by omega) (by omega) (by omega) (y_out (fun g' => br_f (by decide) (bad p s pos hpP hsS (by omega) (fun q => ?_))) (fun g1 g2 => br_t rfl (nm_r (nI_1 pos) (ih (pos + 1) (by omega) (fun pos' hp' => ?_)))))
      · rw [zI_0, zI_lt (by omega) (by omega) (by omega) (by omega), zI_le (by omega) (by omega) (by omega) (by omega)] at g'
        omega
      · rw [zI_0, zI_lt (by omega) (by omega) (by omega) (by omega)] at g1
        rw [zI_le (by omega) (by omega) (by omega) (by omega)] at g2
        by_cases x : pos' = pos
        · subst x; omega
        · exact h pos' (by omega)
  have l69 : ∀ (J59 : Int32 → Prop) (p : Nat), p < P → ((∀ s, s < St → ∀ pos, pos < nds (a_ops s) → 0 ≤ av Sb ((s * 6 + pos) * 4) (ptx a_xs p) ∧ av Sb ((s * 6 + pos) * 4) (ptx a_xs p) < A) → J59 (nI (p + 1))) →
      ∀ d s : Nat, s + d = St → (∀ s', s' < s → ∀ pos, pos < nds (a_ops s') → 0 ≤ av Sb ((s' * 6 + pos) * 4) (ptx a_xs p) ∧ av Sb ((s' * 6 + pos) * 4) (ptx a_xs p) < A) → wY_seal_69 post J59 (nI p) f_depth f_side (nI A) (nI St) f_sealed (nI P) f_bandFirst f_bandCount f_bandSize f_accepted f_blamed f_prefixLength a_bounds a_ops a_factors a_given a_subs a_cells a_xs a_order a_inD a_t a_prefix (d + 1) (nI s) := by
    intro J59 p hpP hK d
    induction d with
    | zero =>
      intro s hd h
      exact br_t (nI_le (by omega) (by omega)) (nm_r (nI_1 p) (hK (fun s' hs' => h s' (by omega))))
    | succ d ih =>
      intro s hd h
      refine br_f (nI_ge (by omega) (by omega)) ⟨nds (a_ops s) + 1, l79 J59 _ p s hpP (by omega) (fun hk => ih (s + 1) (by omega) (fun s' hs' => ?_)) (nds (a_ops s)) 0 (by omega) (fun pos' h' => by omega)⟩
      by_cases x : s' = s
      · subst x; exact hk
      · exact h s' (by omega)
  refine ⟨P + 1, ?_⟩
  have go : ∀ d p : Nat, p + d = P → (∀ p', p' < p → ∀ s, s < St → ∀ pos, pos < nds (a_ops s) → 0 ≤ av Sb ((s * 6 + pos) * 4) (ptx a_xs p') ∧ av Sb ((s * 6 + pos) * 4) (ptx a_xs p') < A) → wY_seal_59 post f_depth f_side (nI A) (nI St) f_sealed (nI P) f_bandFirst f_bandCount f_bandSize f_accepted f_blamed f_prefixLength a_bounds a_ops a_factors a_given a_subs a_cells a_xs a_order a_inD a_t a_prefix (d + 1) (nI p) := by
    intro d
    induction d with
    | zero =>
      intro p hd h
      exact br_t (nI_le (by omega) (by omega)) (fin ((acc_iff hSt).mpr (fun p' hp' => h p' (by omega))))
    | succ d ih =>
      intro p hd h
      refine br_f (nI_ge (by omega) (by omega)) ⟨St + 1, l69 _ p (by omega) (fun hk => ih (p + 1) (by omega) (fun p' hp' => ?_)) St 0 (by omega) (fun s' h' => by omega)⟩
      by_cases x : p' = p
      · subst x; exact hk
      · exact h p' (by omega)
  exact go P 0 (by omega) (fun p' h => by omega)
end
end
section
/-! the relation -/
def iz (a : Nat → Int32) : Nat → Int := fun j => (a j).toInt
theorem iz_z (a : Nat → Int32) (j : Nat) : a j = zI (iz a j) := zI_of _
def rl_b (D S A St : Nat) (sl : Int32) (lim ops gv subs inD : Nat → Int32) : Prop :=
  (D = 2 ∨ D = 3) ∧ (2 ≤ S ∧ S ≤ 8) ∧ (4 ≤ A ∧ A ≤ 15) ∧ St ≤ 2 ∧ (sl = 0 ∨ sl = 1) ∧ (lim_ok (iz lim) ∧ lim_sh (iz lim)) ∧ sub_ok D (iz subs) ∧
  (∀ s, s < St → ∃ g, gv s = nI g ∧ g ≤ nds (ops s) ∧ (s + 1 < St → g = nds (ops s)) ∧ (ops s = 0 ∨ ops s = 1 ∨ ops s = 2 ∨ ops s = 3)) ∧ (sl = 0 → ∀ j, j < 3375 → inD j = 0)
def blm (inD : Nat → Int32) (bx bq : Int32) : Prop := (bx = -1 ∧ bq = -1) ∨ ∃ j, j < 3375 ∧ inD j ≠ 0 ∧ bq = nI j ∧ bx = nI (ctb (nzb inD) j)
/-- the rows under the first k values of the prefix are just those from pf k to pt k -/
def pre_ok (P m : Nat) (key pf pt pr : Nat → Int32) : Prop := ∀ k, k ≤ m → ∃ lo hi, pf k = nI lo ∧ pt k = nI hi ∧ lo < hi ∧ hi ≤ P ∧ ∀ n, n < P → ((lo ≤ n ∧ n < hi) ↔ ∀ j, j < k → key (n * 6 + j) = pr j)
def rl_s (D S A St P cnt F Cn Bs m : Nat) (lim ops gv subs px num ds mat tt inD ord key pf pt pr yp : Nat → Int32) (bx bq fr : Int32) : Prop :=
  1 ≤ St ∧ (∀ s, s < St → gv s = nI (nds (ops s))) ∧ pts_ok D S (iz lim) P px num ∧ acc_in A St P ops (iz subs) px ∧ dist_ok D inD cnt ds ∧ (∀ j, j < 9 → tt j = mat j) ∧ mat_ok D (iz mat) mat ∧ band_ok D F Cn Bs ∧ blm inD bx bq ∧
  (fr ≠ 0 → tun_ok (D + Cn) P (pky D F Cn (tsz Cn Bs) (iz mat) px) ord key) ∧ (m ≤ D + Cn ∧ (0 < m → fr ≠ 0) ∧ (∀ j, j < m → pr j = yp j) ∧ pre_ok P m key pf pt pr)
/-- the relation at the head of a turn -/
def i_Rel (_ : Nat) (u : SX) (v : SY) : Prop := match u with
  | (f_depth, f_side, f_arraySide, f_statements, f_sealed, f_points, f_distanceCount, f_bandFirst, f_bandCount, f_bandSize, f_accepted, f_blamed, f_prefixLength, f_tunedFresh, f_rangeLow, f_rangeHigh, f_scanAt, f_scanFirst, f_scanCount, f_scanSize, f_scanPins, a_limits, a_ops, a_factors, a_given, a_subs, a_pointX, a_numberAt, a_cells, a_seen, a_distances, a_matrix, a_prefix, a_prefixFrom, a_prefixTo, a_tunedOrder, a_tunedKey, a_toX, a_toZ, a_sysCoef, a_sysBound, a_sysCount, a_cand, a_hullLow, a_hullHigh, a_spanLow, a_spanHigh, a_cursor, a_limit, a_pin, a_echelon, a_pivot) => match v with
  | (g_depth, g_side, g_arraySide, g_statements, g_sealed, g_points, g_bandFirst, g_bandCount, g_bandSize, g_accepted, g_blamed, g_prefixLength, b_bounds, b_ops, b_factors, b_given, b_subs, b_cells, b_xs, _b_order, b_inD, b_t, b_prefix) =>
    ∃ D S A St P cnt F Cn Bs m : Nat, (f_depth = nI D ∧ f_side = nI S ∧ f_arraySide = nI A ∧ f_statements = nI St ∧ f_points = nI P ∧ f_distanceCount = nI cnt ∧ f_bandFirst = nI F ∧ f_bandCount = nI Cn ∧ f_bandSize = nI Bs ∧ f_prefixLength = nI m) ∧
      (g_depth = nI D ∧ g_side = nI S ∧ g_arraySide = nI A ∧ g_statements = nI St ∧ g_points = nI P ∧ g_bandFirst = nI F ∧ g_bandCount = nI Cn ∧ g_bandSize = nI Bs ∧ g_prefixLength = nI m) ∧
      (g_sealed = f_sealed ∧ g_accepted = f_accepted ∧ b_bounds = a_limits ∧ b_ops = a_ops ∧ b_factors = a_factors ∧ b_given = a_given ∧ b_subs = a_subs ∧ b_cells = a_cells ∧ b_xs = a_pointX) ∧
      rl_b D S A St f_sealed a_limits a_ops a_given a_subs b_inD ∧
      (f_sealed ≠ 0 → rl_s D S A St P cnt F Cn Bs m a_limits a_ops a_given a_subs a_pointX a_numberAt a_distances a_matrix b_t b_inD a_tunedOrder a_tunedKey a_prefixFrom a_prefixTo a_prefix b_prefix f_blamed g_blamed f_tunedFresh)
theorem i_up {k : Nat} {u : SX} {v : SY} (h : i_Rel k u v) : i_Rel (k + 5) u v := h

theorem zz_in {D S A St P cnt F Cn Bs m : Nat} {f_sealed f_accepted f_blamed f_tunedFresh f_scanAt f_scanFirst f_scanCount f_scanSize f_scanPins : Int32} {f_rangeLow f_rangeHigh : Int64} {a_limits a_ops a_factors a_given a_subs a_pointX a_numberAt a_cells a_seen a_distances a_matrix a_prefix a_prefixFrom a_prefixTo a_tunedOrder a_tunedKey a_toX a_toZ a_sysCount a_hullLow a_hullHigh a_cursor a_limit a_pin a_echelon a_pivot : Nat → Int32} {a_sysCoef a_sysBound a_cand a_spanLow a_spanHigh : Nat → Int64} {g_blamed : Int32} {a_order a_inD a_t b_prefix : Nat → Int32} {k : Nat}
    (hb : rl_b D S A St f_sealed a_limits a_ops a_given a_subs a_inD)
    (hs : f_sealed ≠ 0 → rl_s D S A St P cnt F Cn Bs m a_limits a_ops a_given a_subs a_pointX a_numberAt a_distances a_matrix a_t a_inD a_tunedOrder a_tunedKey a_prefixFrom a_prefixTo a_prefix b_prefix f_blamed g_blamed f_tunedFresh) :
    i_Rel k ((nI D), (nI S), (nI A), (nI St), f_sealed, (nI P), (nI cnt), (nI F), (nI Cn), (nI Bs), f_accepted, f_blamed, (nI m), f_tunedFresh, f_rangeLow, f_rangeHigh, f_scanAt, f_scanFirst, f_scanCount, f_scanSize, f_scanPins, a_limits, a_ops, a_factors, a_given, a_subs, a_pointX, a_numberAt, a_cells, a_seen, a_distances, a_matrix, a_prefix, a_prefixFrom, a_prefixTo, a_tunedOrder, a_tunedKey, a_toX, a_toZ, a_sysCoef, a_sysBound, a_sysCount, a_cand, a_hullLow, a_hullHigh, a_spanLow, a_spanHigh, a_cursor, a_limit, a_pin, a_echelon, a_pivot) ((nI D), (nI S), (nI A), (nI St), f_sealed, (nI P), (nI F), (nI Cn), (nI Bs), f_accepted, g_blamed, (nI m), a_limits, a_ops, a_factors, a_given, a_subs, a_cells, a_pointX, a_order, a_inD, a_t, b_prefix) := by
  unfold i_Rel
  exact ⟨D, S, A, St, P, cnt, F, Cn, Bs, m, ⟨rfl, rfl, rfl, rfl, rfl, rfl, rfl, rfl, rfl, rfl⟩, ⟨rfl, rfl, rfl, rfl, rfl, rfl, rfl, rfl, rfl⟩, ⟨rfl, rfl, rfl, rfl, rfl, rfl, rfl, rfl, rfl⟩, hb, hs⟩
theorem zz_el {Q : SX → SY → Prop} (h : ∀ (D S A St P cnt F Cn Bs m : Nat) (f_sealed f_accepted f_blamed f_tunedFresh f_scanAt f_scanFirst f_scanCount f_scanSize f_scanPins : Int32) (f_rangeLow f_rangeHigh : Int64) (a_limits a_ops a_factors a_given a_subs a_pointX a_numberAt a_cells a_seen a_distances a_matrix a_prefix a_prefixFrom a_prefixTo a_tunedOrder a_tunedKey a_toX a_toZ a_sysCount a_hullLow a_hullHigh a_cursor a_limit a_pin a_echelon a_pivot : Nat → Int32) (a_sysCoef a_sysBound a_cand a_spanLow a_spanHigh : Nat → Int64) (g_blamed : Int32) (a_order a_inD a_t b_prefix : Nat → Int32),
      rl_b D S A St f_sealed a_limits a_ops a_given a_subs a_inD →
      (f_sealed ≠ 0 → rl_s D S A St P cnt F Cn Bs m a_limits a_ops a_given a_subs a_pointX a_numberAt a_distances a_matrix a_t a_inD a_tunedOrder a_tunedKey a_prefixFrom a_prefixTo a_prefix b_prefix f_blamed g_blamed f_tunedFresh) →
      Q ((nI D), (nI S), (nI A), (nI St), f_sealed, (nI P), (nI cnt), (nI F), (nI Cn), (nI Bs), f_accepted, f_blamed, (nI m), f_tunedFresh, f_rangeLow, f_rangeHigh, f_scanAt, f_scanFirst, f_scanCount, f_scanSize, f_scanPins, a_limits, a_ops, a_factors, a_given, a_subs, a_pointX, a_numberAt, a_cells, a_seen, a_distances, a_matrix, a_prefix, a_prefixFrom, a_prefixTo, a_tunedOrder, a_tunedKey, a_toX, a_toZ, a_sysCoef, a_sysBound, a_sysCount, a_cand, a_hullLow, a_hullHigh, a_spanLow, a_spanHigh, a_cursor, a_limit, a_pin, a_echelon, a_pivot) ((nI D), (nI S), (nI A), (nI St), f_sealed, (nI P), (nI F), (nI Cn), (nI Bs), f_accepted, g_blamed, (nI m), a_limits, a_ops, a_factors, a_given, a_subs, a_cells, a_pointX, a_order, a_inD, a_t, b_prefix)) {k : Nat} {u : SX} {v : SY} (I : i_Rel k u v) : Q u v := by
  obtain ⟨f_depth, f_side, f_arraySide, f_statements, f_sealed, f_points, f_distanceCount, f_bandFirst, f_bandCount, f_bandSize, f_accepted, f_blamed, f_prefixLength, f_tunedFresh, f_rangeLow, f_rangeHigh, f_scanAt, f_scanFirst, f_scanCount, f_scanSize, f_scanPins, a_limits, a_ops, a_factors, a_given, a_subs, a_pointX, a_numberAt, a_cells, a_seen, a_distances, a_matrix, a_prefix, a_prefixFrom, a_prefixTo, a_tunedOrder, a_tunedKey, a_toX, a_toZ, a_sysCoef, a_sysBound, a_sysCount, a_cand, a_hullLow, a_hullHigh, a_spanLow, a_spanHigh, a_cursor, a_limit, a_pin, a_echelon, a_pivot⟩ := u
  obtain ⟨g_depth, g_side, g_arraySide, g_statements, g_sealed, g_points, g_bandFirst, g_bandCount, g_bandSize, g_accepted, g_blamed, g_prefixLength, b_bounds, b_ops, b_factors, b_given, b_subs, b_cells, b_xs, b_order, b_inD, b_t, b_prefix⟩ := v
  unfold i_Rel at I
  obtain ⟨D, S, A, St, P, cnt, F, Cn, Bs, m, ⟨e1, e2, e3, e4, e5, e6, e7, e8, e9, e10⟩, ⟨d1, d2, d3, d4, d5, d6, d7, d8, d9⟩, ⟨c1, c2, c3, c4, c5, c6, c7, c8, c9⟩, hb, hs⟩ := I
  subst e1 e2 e3 e4 e5 e6 e7 e8 e9 e10 d1 d2 d3 d4 d5 d6 d7 d8 d9 c1 c2 c3 c4 c5 c6 c7 c8 c9
  exact h D S A St P cnt F Cn Bs m _ _ _ _ _ _ _ _ _ _ _ _ _ _ _ _ _ _ _ _ _ _ _ _ _ _ _ _ _ _ _ _ _ _ _ _ _ _ _ _ _ _ g_blamed b_order b_inD b_t b_prefix hb hs
end
section
/-! the constructors, reset, seal -/
theorem cl_XY {x lo hi : Int32} {L H : Nat} (eL : lo = nI L) (eH : hi = nI H) (hLH : L ≤ H) (hH : H < 1000) : ∃ n, L ≤ n ∧ n ≤ H ∧ (∀ (post : Int32 → Prop) (u : SX), post (nI n) → wpX_clamp post u x lo hi) ∧
    (∀ Q : Int32 → Prop, Q (nI n) → (lo ≤ x → ((x ≤ hi → Q x) ∧ (¬ x ≤ hi → Q hi))) ∧ (¬ lo ≤ x → Q lo)) := by
  subst eL eH
  have key : ∃ n, L ≤ n ∧ n ≤ H ∧ ∀ Q : Int32 → Prop, Q (nI n) → (nI L ≤ x → ((x ≤ nI H → Q x) ∧ (¬ x ≤ nI H → Q (nI H)))) ∧ (¬ nI L ≤ x → Q (nI L)) := by
    by_cases h1 : nI L ≤ x
    · by_cases h2 : x ≤ nI H
      · have h0 : ¬ x < 0 := by
          rw [ti_le, nI_toInt (by omega)] at h1
          rw [ti_lt, show (0 : Int32).toInt = 0 from by decide]
          omega
        obtain ⟨n, hn, rfl⟩ := nI_of h0
        rw [nI_leI (by omega) hn] at h1
        rw [nI_leI hn (by omega)] at h2
        exact ⟨n, h1, h2, fun Q hQ => br_t (nI_le h1 hn) (br_t (nI_le h2 (by omega)) hQ)⟩
      · exact ⟨H, hLH, Nat.le_refl _, fun Q hQ => br_t h1 (br_f h2 hQ)⟩
    · exact ⟨L, Nat.le_refl _, hLH, fun Q hQ => br_f h1 hQ⟩
  obtain ⟨n, h1, h2, h3⟩ := key
  exact ⟨n, h1, h2, fun post u hp => h3 post hp, h3⟩
theorem df_ok {S : Nat} {l : Nat → Int32} (hS : 2 ≤ S ∧ S ≤ 8) (h : ∀ j, j < 18 → l j = zI (dfB S j)) : lim_ok (iz l) ∧ lim_sh (iz l) := by
  have e : ∀ j, j < 18 → iz l j = dfB S j := fun j hj => by
    show (l j).toInt = _
    rw [h j hj]
    have : -2147483648 ≤ dfB S j ∧ dfB S j < 2147483648 := by unfold dfB; split <;> omega
    exact zI_t this.1 this.2
  refine ⟨fun l' hl => ?_, ?_⟩
  · rw [e _ (by omega), e _ (by omega), e _ (by omega), e _ (by omega), e _ (by omega), e _ (by omega)]
    unfold dfB
    rw [if_neg (by omega), if_neg (by omega), if_neg (by omega), if_neg (by omega), if_neg (by omega), if_pos (by omega)]
    omega
  · unfold lim_sh
    rw [e _ (by omega), e _ (by omega), e _ (by omega), e _ (by omega), e _ (by omega), e _ (by omega)]
    exact ⟨rfl, rfl, rfl, rfl, rfl, rfl⟩
theorem mat_id {D : Nat} {m : Nat → Int32} (h : ∀ j, j < 9 → m j = zI (idm j)) : mat_ok D (iz m) m := by
  have e : ∀ j, j < 9 → iz m j = idm j := fun j hj => by
    show (m j).toInt = _
    rw [h j hj]
    have : -2147483648 ≤ idm j ∧ idm j < 2147483648 := by unfold idm; split <;> omega
    exact zI_t this.1 this.2
  refine ⟨fun j hj => ⟨iz_z m j, ?_⟩, Or.inl ?_, fun _ => ?_⟩
  · rw [e j hj]; unfold idm; split <;> omega
  · show 0 + iz m 0 * (iz m 4 * iz m 8 - iz m 5 * iz m 7) + iz m 1 * (iz m 5 * iz m 6 - iz m 3 * iz m 8) + iz m 2 * (iz m 3 * iz m 7 - iz m 4 * iz m 6) = 1
    rw [e 0 (by omega), e 1 (by omega), e 2 (by omega), e 3 (by omega), e 4 (by omega), e 5 (by omega), e 6 (by omega), e 7 (by omega), e 8 (by omega)]
    rfl
  · rw [e 2 (by omega), e 5 (by omega), e 6 (by omega), e 7 (by omega), e 8 (by omega)]
    exact ⟨rfl, rfl, rfl, rfl, rfl⟩
theorem pre_0 {P : Nat} {key pf pt pr : Nat → Int32} (hP : 1 ≤ P) : pre_ok P 0 key (upd pf 0 0) (upd pt 0 (nI P)) pr := by
  intro k hk
  cases (show k = 0 by omega)
  exact ⟨0, P, pk_us, pk_us, by omega, Nat.le_refl _, fun n hn => ⟨fun _ j hj => by omega, fun _ => ⟨by omega, hn⟩⟩⟩
theorem i_vc0 (k0 : Int32) (k1 : Int32) (k2 : Int32) : wpX_init (fun u => wpY_init (fun v => i_Rel 3 u v) k0 k1 k2) k0 k1 k2 := by
  obtain ⟨D, hD1, hD2, dX, dY⟩ := cl_XY (x := k0) (lo := 2) (hi := 3) (L := 2) (H := 3) rfl rfl (by omega) (by omega)
  obtain ⟨S, hS1, hS2, sX, sY⟩ := cl_XY (x := k1) (lo := 2) (hi := 8) (L := 2) (H := 8) rfl rfl (by omega) (by omega)
  obtain ⟨A, hA1, hA2, aX, aY⟩ := cl_XY (x := k2) (lo := 4) (hi := 15) (L := 4) (H := 15) rfl rfl (by omega) (by omega)
  refine dX _ _ (sX _ _ (aX _ _ (xi_df (S := S) (fun l h1 h2 => xi_id (fun m _ => ?_)))))
  refine dY (fun z => wY_init_112 _ k1 k2 z 0 0 0 0 0 0 0 0 0 0 0 0 (fun _ => 0) (fun _ => 0) (fun _ => 0) (fun _ => 0) (fun _ => 0) (fun _ => 0) (fun _ => 0) (fun _ => 0) (fun _ => 0) (fun _ => 0) (fun _ => 0)) (sY (fun z => wY_init_137 _ k2 z (nI D) 0 0 0 0 0 0 0 0 0 0 0 (fun _ => 0) (fun _ => 0) (fun _ => 0) (fun _ => 0) (fun _ => 0) (fun _ => 0) (fun _ => 0) (fun _ => 0) (fun _ => 0) (fun _ => 0) (fun _ => 0)) (aY (fun z => wY_init_162 _ z (nI D) (nI S) 0 0 0 0 0 0 0 0 0 0 (fun _ => 0) (fun _ => 0) (fun _ => 0) (fun _ => 0) (fun _ => 0) (fun _ => 0) (fun _ => 0) (fun _ => 0) (fun _ => 0) (fun _ => 0) (fun _ => 0)) ?_))
  refine yr_u (S := S) rfl (fun b g1 g2 => ?_)
  have hbl : b = l := by
    funext j
    by_cases x : j < 18
    · rw [h1 j x, g1 j x]
    · rw [h2 j (by omega), g2 j (by omega)]
  subst hbl
  refine zz_in (D := D) (S := S) (A := A) (St := 0) (P := 0) (cnt := 0) (F := 0) (Cn := 0) (Bs := 0) (m := 0) ⟨by omega, ⟨hS1, hS2⟩, ⟨hA1, hA2⟩, by omega, Or.inl rfl, df_ok ⟨hS1, hS2⟩ h1, fun j hj => ?_, fun s hs => by omega, fun _ j _ => rfl⟩ (fun h => absurd rfl h)
  show (_ → -2 ≤ (0 : Int32).toInt ∧ (0 : Int32).toInt ≤ 2) ∧ (-15 ≤ (0 : Int32).toInt ∧ (0 : Int32).toInt ≤ 15) ∧ (_ → _ → (0 : Int32).toInt = 0)
  exact ⟨fun _ => by decide, by decide, fun _ _ => by decide⟩

theorem i_vc_reset {k : Nat} {u : SX} {v : SY} (I : i_Rel k u v) (hk : k + 5 ≤ 2563) : wpX_reset (fun r u' => wpY_reset (fun r' v' => r' = r ∧ i_Rel (k + 5) u' v') v) u := by
  refine zz_el (Q := fun u v => wpX_reset (fun r u' => wpY_reset (fun r' v' => r' = r ∧ i_Rel (k + 5) u' v') v) u) ?_ I
  intro D S A St P cnt F Cn Bs m f_sealed f_accepted f_blamed f_tunedFresh f_scanAt f_scanFirst f_scanCount f_scanSize f_scanPins f_rangeLow f_rangeHigh a_limits a_ops a_factors a_given a_subs a_pointX a_numberAt a_cells a_seen a_distances a_matrix a_prefix a_prefixFrom a_prefixTo a_tunedOrder a_tunedKey a_toX a_toZ a_sysCount a_hullLow a_hullHigh a_cursor a_limit a_pin a_echelon a_pivot a_sysCoef a_sysBound a_cand a_spanLow a_spanHigh g_blamed a_order a_inD a_t b_prefix hb hs
  obtain ⟨q1, q2, q3, q4, q5, q6, q7, q8, q9⟩ := hb
  by_cases h0 : f_sealed = 0
  · subst h0
    refine br_t rfl (xi_df (S := S) (fun l h1 h2 => yr_u (S := S) rfl (fun b g1 g2 => ⟨rfl, ?_⟩)))
    have hbl : b = l := by
      funext j
      by_cases x : j < 18
      · rw [h1 j x, g1 j x]
      · rw [h2 j (by omega), g2 j (by omega)]
    subst hbl
    exact zz_in (St := 0) ⟨q1, q2, q3, by omega, q5, df_ok q2 h1, q7, fun s hs => by omega, q9⟩ (fun h => absurd rfl h)
  · obtain ⟨s1, s2, s3, s4, s5, s6, s7, s8, s9, s10, s11⟩ := hs h0
    refine br_f h0 (xi_id (fun mt hm => ?_))
    dsimp only
    refine xi_rb ?_
    dsimp only
    refine xi_dis ?_
    dsimp only
    refine yr_s h0 (fun t ht => ⟨rfl, ?_⟩)
    refine zz_in (F := 0) (Cn := 0) (Bs := 0) (m := 0) ⟨q1, q2, q3, q4, q5, q6, q7, q8, q9⟩ (fun _ => ⟨s1, s2, s3, s4, s5, fun j hj => by rw [hm j hj, ht j hj], mat_id hm, ⟨by omega, by omega, Or.inl ⟨rfl, rfl, rfl⟩⟩, Or.inl ⟨rfl, rfl⟩, fun h => absurd rfl h, by omega, fun h => by omega, fun j hj => by omega, pre_0 s3.1.1⟩)
def awt (St : Nat) (ops gv : Nat → Int32) : Nat := if St = 0 then 0 else nds (ops (St - 1)) - (gv (St - 1)).toNatClampNeg
theorem xw_await {D S A St P cnt F Cn Bs m : Nat} {f_sealed f_accepted f_blamed f_tunedFresh f_scanAt f_scanFirst f_scanCount f_scanSize f_scanPins : Int32} {f_rangeLow f_rangeHigh : Int64} {a_limits a_ops a_factors a_given a_subs a_pointX a_numberAt a_cells a_seen a_distances a_matrix a_prefix a_prefixFrom a_prefixTo a_tunedOrder a_tunedKey a_toX a_toZ a_sysCount a_hullLow a_hullHigh a_cursor a_limit a_pin a_echelon a_pivot : Nat → Int32} {a_sysCoef a_sysBound a_cand a_spanLow a_spanHigh : Nat → Int64} {post : Int32 → Prop} (hSt : St ≤ 2) (hg : ∀ s, s < St → ∃ g, a_given s = nI g ∧ g ≤ nds (a_ops s)) (K : post (nI (awt St a_ops a_given))) : wpX_awaited post ((nI D), (nI S), (nI A), (nI St), f_sealed, (nI P), (nI cnt), (nI F), (nI Cn), (nI Bs), f_accepted, f_blamed, (nI m), f_tunedFresh, f_rangeLow, f_rangeHigh, f_scanAt, f_scanFirst, f_scanCount, f_scanSize, f_scanPins, a_limits, a_ops, a_factors, a_given, a_subs, a_pointX, a_numberAt, a_cells, a_seen, a_distances, a_matrix, a_prefix, a_prefixFrom, a_prefixTo, a_tunedOrder, a_tunedKey, a_toX, a_toZ, a_sysCoef, a_sysBound, a_sysCount, a_cand, a_hullLow, a_hullHigh, a_spanLow, a_spanHigh, a_cursor, a_limit, a_pin, a_echelon, a_pivot) := by
  unfold awt at K
  refine pk_eq St 0 (fun h => by rw [if_pos h] at K; exact K) (fun h => ?_)
  rw [if_neg h] at K
  obtain ⟨g, hg1, hg2⟩ := hg (St - 1) (by omega)
  have hn := nds_le (a_ops (St - 1))
  have cs : (nI (St - 1)).toNatClampNeg = St - 1 := nI_clamp (by omega)
  refine nm_r (nx_s1 (by omega)) ⟨vp_in_nI (by omega) (by omega), ?_⟩
  rw [cs]
  refine xd_needs ⟨vp_in_nI (by omega) (by omega), ?_⟩
  rw [hg1, nI_clamp (by omega)] at K
  rw [hg1, pk_sub hg2]
  exact K
theorem yw_await {D S A St P F Cn Bs m : Nat} {f_sealed f_accepted g_blamed : Int32} {a_limits a_ops a_factors a_given a_subs a_cells a_pointX a_order a_inD a_t b_prefix : Nat → Int32} {post : Int32 → Prop} (hSt : St ≤ 2) (hg : ∀ s, s < St → ∃ g, a_given s = nI g ∧ g ≤ nds (a_ops s))
    (K0 : awt St a_ops a_given = 0 → post 0) (K1 : awt St a_ops a_given ≠ 0 → post 1) : wpY_awaiting post ((nI D), (nI S), (nI A), (nI St), f_sealed, (nI P), (nI F), (nI Cn), (nI Bs), f_accepted, g_blamed, (nI m), a_limits, a_ops, a_factors, a_given, a_subs, a_cells, a_pointX, a_order, a_inD, a_t, b_prefix) := by
  unfold awt at K0 K1
  refine pk_le St 0 (fun h => K0 (by rw [if_pos (by omega)])) (fun h => ?_)
  rw [if_neg (show ¬ St = 0 by omega)] at K0 K1
  obtain ⟨g, hg1, hg2⟩ := hg (St - 1) (by omega)
  have hn := nds_le (a_ops (St - 1))
  have es : nI St - 1 = nI (St - 1) := nx_s1 (by omega)
  have cs : (nI (St - 1)).toNatClampNeg = St - 1 := nI_clamp (by omega)
  rw [es]
  refine ⟨vp_in_nI (by omega) (by omega), vp_in_nI (by omega) (by omega), ?_⟩
  rw [cs]
  rw [hg1, nI_clamp (by omega)] at K0 K1
  refine yd_needs ?_
  rw [hg1]
  exact pk_le (nds (a_ops (St - 1))) g (fun h' => K0 (by omega)) (fun h' => K1 (by omega))
theorem i_vc_seal {k : Nat} {u : SX} {v : SY} (I : i_Rel k u v) (hk : k + 5 ≤ 2563) : wpX_seal (fun r u' => wpY_seal (fun r' v' => r' = r ∧ i_Rel (k + 5) u' v') v) u := by
  refine zz_el (Q := fun u v => wpX_seal (fun r u' => wpY_seal (fun r' v' => r' = r ∧ i_Rel (k + 5) u' v') v) u) ?_ I
  intro D S A St P cnt F Cn Bs m f_sealed f_accepted f_blamed f_tunedFresh f_scanAt f_scanFirst f_scanCount f_scanSize f_scanPins f_rangeLow f_rangeHigh a_limits a_ops a_factors a_given a_subs a_pointX a_numberAt a_cells a_seen a_distances a_matrix a_prefix a_prefixFrom a_prefixTo a_tunedOrder a_tunedKey a_toX a_toZ a_sysCount a_hullLow a_hullHigh a_cursor a_limit a_pin a_echelon a_pivot a_sysCoef a_sysBound a_cand a_spanLow a_spanHigh g_blamed a_order a_inD a_t b_prefix hb hs
  have hb' := hb
  obtain ⟨q1, q2, q3, q4, q5, q6, q7, q8, q9⟩ := hb
  have hg : ∀ s, s < St → ∃ g, a_given s = nI g ∧ g ≤ nds (a_ops s) := fun s hs => by
    obtain ⟨g, h1, h2, _⟩ := q8 s hs
    exact ⟨g, h1, h2⟩
  by_cases h0 : f_sealed = 0
  · subst h0
    by_cases hst : St = 0
    · subst hst
      exact br_t rfl (br_t rfl (br_t rfl (br_t rfl ⟨rfl, zz_in hb' hs⟩)))
    · have hst' : ¬ nI St = 0 := nI_ne0 (by omega) (by omega)
      have haw : awt St a_ops a_given ≤ 6 := by
        unfold awt
        rw [if_neg hst]
        have := nds_le (a_ops (St - 1))
        omega
      refine br_t rfl (br_f hst' (xw_await q4 hg (pk_le (awt St a_ops a_given) 0 (fun ha => ?_) (fun ha => ?_))))
      · have ha0 : awt St a_ops a_given = 0 := by omega
        have hgv : ∀ s, s < St → a_given s = nI (nds (a_ops s)) := fun s hs' => by
          obtain ⟨g, h1, h2, h3, _⟩ := q8 s hs'
          by_cases x : s + 1 < St
          · rw [h1, h3 x]
          · cases (show s = St - 1 by omega)
            unfold awt at ha0
            rw [if_neg hst, h1] at ha0
            have := nds_le (a_ops (St - 1))
            rw [nI_clamp (by omega)] at ha0
            rw [h1]
            exact congrArg nI (by omega)
        refine xq_list (B := iz a_limits) q1 q2 (fun j _ => iz_z _ j) q6.1 q6.2 (fun num0 => ?_)
        have hcnt : (allP D S (iz a_limits) (0, a_pointX, num0)).1 ≤ 512 := by
          have := gK_cnt (st := stI D S (iz a_limits)) (w := 64) (fun i s => stI_cnt q2.2 s) S 0 (0, a_pointX, num0)
          show (gK (stI D S (iz a_limits)) 0 S (0, a_pointX, num0)).1 ≤ 512
          have e : ((0, a_pointX, num0) : Nat × (Nat → Int32) × (Nat → Int32)).1 = 0 := rfl
          omega
        have yl : ∀ post : Int32 → SY → Prop, (wpY_listPoints (fun u => match u with
            | (f_depth_29, f_side_30, f_arraySide_31, f_statements_32, f_sealed_33, f_pointCount_34, f_bandFirst_35, f_bandCount_36, f_bandSize_37, f_accepted_38, f_blamed_39, f_prefixLength_40, a_bounds_41, a_ops_42, a_factors_43, a_given_44, a_subs_45, a_cells_46, a_xs_47, a_order_48, a_inD_49, a_t_50, a_prefix_51) => ((f_pointCount_34 = 0 → (post (-1006) (f_depth_29, f_side_30, f_arraySide_31, f_statements_32, f_sealed_33, f_pointCount_34, f_bandFirst_35, f_bandCount_36, f_bandSize_37, f_accepted_38, f_blamed_39, f_prefixLength_40, a_bounds_41, a_ops_42, a_factors_43, a_given_44, a_subs_45, a_cells_46, a_xs_47, a_order_48, a_inD_49, a_t_50, a_prefix_51))) ∧ (¬ f_pointCount_34 = 0 → (((f_pointCount_34 ≤ 64 → (∃ n59 : Nat, wY_seal_59 post f_depth_29 f_side_30 f_arraySide_31 f_statements_32 f_sealed_33 f_pointCount_34 f_bandFirst_35 f_bandCount_36 f_bandSize_37 f_accepted_38 f_blamed_39 f_prefixLength_40 a_bounds_41 a_ops_42 a_factors_43 a_given_44 a_subs_45 a_cells_46 a_xs_47 a_order_48 a_inD_49 a_t_50 a_prefix_51 n59 0)) ∧ (¬ f_pointCount_34 ≤ 64 → (post (-1007) (f_depth_29, f_side_30, f_arraySide_31, f_statements_32, f_sealed_33, f_pointCount_34, f_bandFirst_35, f_bandCount_36, f_bandSize_37, f_accepted_38, f_blamed_39, f_prefixLength_40, a_bounds_41, a_ops_42, a_factors_43, a_given_44, a_subs_45, a_cells_46, a_xs_47, a_order_48, a_inD_49, a_t_50, a_prefix_51)))))))) ((nI D), (nI S), (nI A), (nI St), 0, (nI P), (nI F), (nI Cn), (nI Bs), f_accepted, g_blamed, (nI m), a_limits, a_ops, a_factors, a_given, a_subs, a_cells, a_pointX, a_order, a_inD, a_t, b_prefix)) → wpY_seal post ((nI D), (nI S), (nI A), (nI St), 0, (nI P), (nI F), (nI Cn), (nI Bs), f_accepted, g_blamed, (nI m), a_limits, a_ops, a_factors, a_given, a_subs, a_cells, a_pointX, a_order, a_inD, a_t, b_prefix) := by
          intro post h
          exact br_t rfl (br_f hst' (yw_await q4 hg (fun _ => br_t rfl h) (fun hne => absurd ha0 hne)))
        generalize hall : allP D S (iz a_limits) (0, a_pointX, num0) = R at *
        obtain ⟨c, px, num⟩ := R
        dsimp only at hcnt ⊢
        have yl2 : ∀ post : Int32 → SY → Prop, (((nI c = 0 → (post (-1006) ((nI D), (nI S), (nI A), (nI St), 0, nI c, (nI F), (nI Cn), (nI Bs), f_accepted, g_blamed, (nI m), a_limits, a_ops, a_factors, a_given, a_subs, a_cells, px, a_order, a_inD, a_t, b_prefix))) ∧ (¬ nI c = 0 → (((nI c ≤ 64 → (∃ n59 : Nat, wY_seal_59 post (nI D) (nI S) (nI A) (nI St) 0 (nI c) (nI F) (nI Cn) (nI Bs) f_accepted g_blamed (nI m) a_limits a_ops a_factors a_given a_subs a_cells px a_order a_inD a_t b_prefix n59 0)) ∧ (¬ nI c ≤ 64 → (post (-1007) ((nI D), (nI S), (nI A), (nI St), 0, nI c, (nI F), (nI Cn), (nI Bs), f_accepted, g_blamed, (nI m), a_limits, a_ops, a_factors, a_given, a_subs, a_cells, px, a_order, a_inD, a_t, b_prefix)))))))) → wpY_seal post ((nI D), (nI S), (nI A), (nI St), 0, (nI P), (nI F), (nI Cn), (nI Bs), f_accepted, g_blamed, (nI m), a_limits, a_ops, a_factors, a_given, a_subs, a_cells, a_pointX, a_order, a_inD, a_t, b_prefix) := by
          intro post h
          refine yl post (yq_list (B := iz a_limits) q1 q2 (fun j _ => iz_z _ j) q6.1 num0 ?_)
          rw [hall]
          exact h
        refine pk_eq c 0 (fun hc => yl2 _ (br_t (congrArg nI hc) ⟨rfl, zz_in hb' (fun h => absurd rfl h)⟩)) (fun hc => pk_le c 64 (fun hc2 => ?_) (fun hc2 => yl2 _ (br_f (nI_ne0 (by omega) (by omega)) (br_f (nI_ge (a := 64) hc2 (by omega)) ⟨rfl, zz_in hb' (fun h => absurd rfl h)⟩))))
        have hp := pts_of q1 q2 hall (by omega) hc2
        have hx : ∀ n, n < c → ∀ l, l < 3 → 0 ≤ ptx px n l ∧ ptx px n l ≤ 7 := fun n hn l hl => by have := (hp.2.1 n hn).2.1 l hl; omega
        have y59 : ∀ post : Int32 → SY → Prop, (∃ n59 : Nat, wY_seal_59 post (nI D) (nI S) (nI A) (nI St) 0 (nI c) (nI F) (nI Cn) (nI Bs) f_accepted g_blamed (nI m) a_limits a_ops a_factors a_given a_subs a_cells px a_order a_inD a_t b_prefix n59 0) → wpY_seal post ((nI D), (nI S), (nI A), (nI St), 0, (nI P), (nI F), (nI Cn), (nI Bs), f_accepted, g_blamed, (nI m), a_limits, a_ops, a_factors, a_given, a_subs, a_cells, a_pointX, a_order, a_inD, a_t, b_prefix) := fun post h => yl2 post (br_f (nI_ne0 (by omega) (by omega)) (br_t (nI_le (b := 64) hc2 (by omega)) h))
        refine xo_out (D := D) (Sb := iz a_subs) q3.2 q4 hc2 (fun j _ => iz_z _ j) q7 hx (fun hin => ?_) (fun hout => ?_)
        · refine br_t rfl (xd_find (B := iz a_limits) (Sb := iz a_subs) q1 q2 q4 (fun j _ => iz_z _ j) q7 (fun j _ => iz_z _ j) q6.1 hp ?_)
          intro cnt' ra rb w1 w2 w3 w4 w5 seen ds tx tz sc sb sk cd hl hh sl sh cu li pin ec pv hseen hdist
          refine xi_id (fun mt hm => ?_)
          dsimp only
          refine xi_rb ?_
          dsimp only
          refine xi_dis ?_
          dsimp only
          refine y59 _ (ys_59 (D := D) (S := S) (B := iz a_limits) (num := num) (Sb := iz a_subs) q3 q4 (fun j _ => iz_z _ j) q7 q2.2 hp hgv (fun hno => absurd hin hno) (fun _ inD t hinD ht => ⟨rfl, ?_⟩))
          have hsame : ∀ j, j < 3375 → (inD j ≠ 0 ↔ seen j ≠ 0) := fun j hj => by
            rw [hinD j hj, hseen j hj]
            refine ⟨fun h => ?_, fun h => Or.inr h⟩
            rcases h with h | h
            · exact absurd (q9 rfl j hj) h
            · exact h
          have hctb : ∀ n, n ≤ 3375 → ctb (nzb inD) n = ctb (nzb seen) n := by
            intro n
            induction n with
            | zero => intro _; rfl
            | succ n ih =>
              intro hn
              have e := hsame n (by omega)
              have e2 := ih (by omega)
              by_cases x : seen n ≠ 0
              · rw [ctb_t (f := nzb inD) (decide_eq_true (e.mpr x)), ctb_t (f := nzb seen) (decide_eq_true x), e2]
              · rw [ctb_f (f := nzb inD) (decide_eq_false (fun y => x (e.mp y))), ctb_f (f := nzb seen) (decide_eq_false x), e2]
          have hd2 : dist_ok D inD cnt' ds := by
            obtain ⟨d1, d2, d3, d4⟩ := hdist
            refine ⟨by rw [hctb 3375 (by omega)]; exact d1, d2, fun j hj hne => ?_, fun j hj hne => d4 j hj ((hsame j hj).mp hne)⟩
            rw [hctb j (by omega)]
            exact d3 j hj ((hsame j hj).mp hne)
          refine zz_in (F := 0) (Cn := 0) (Bs := 0) (m := 0) ⟨q1, q2, q3, q4, Or.inr rfl, q6, q7, q8, fun h => absurd h (by decide)⟩ (fun _ => ⟨by omega, hgv, hp, hin, hd2, fun j hj => by rw [hm j hj, ht j hj], mat_id hm, ⟨by omega, by omega, Or.inl ⟨rfl, rfl, rfl⟩⟩, Or.inl ⟨rfl, rfl⟩, fun h => absurd rfl h, by omega, fun h => by omega, fun j hj => by omega, pre_0 (by omega)⟩)
        · refine br_f (by decide) (y59 _ (ys_59 (D := D) (S := S) (B := iz a_limits) (num := num) (Sb := iz a_subs) q3 q4 (fun j _ => iz_z _ j) q7 q2.2 hp hgv (fun _ => ⟨rfl, zz_in hb' (fun h => absurd rfl h)⟩) (fun hin => absurd hin hout)))
      · refine br_t rfl (br_f hst' (yw_await q4 hg (fun he => by omega) (fun _ => br_f (by decide) ⟨rfl, zz_in hb' hs⟩)))
  · exact br_f h0 (br_f h0 ⟨rfl, zz_in hb' hs⟩)
end
section
/-! feeding: bound, statement, subscript, coefficient, store, fill, cell -/
section
variable {f_depth f_side f_arraySide f_statements f_sealed f_points f_distanceCount f_bandFirst f_bandCount f_bandSize f_accepted f_blamed f_prefixLength f_tunedFresh f_scanAt f_scanFirst f_scanCount f_scanSize f_scanPins : Int32} {f_rangeLow f_rangeHigh : Int64} {a_limits a_ops a_factors a_given a_subs a_pointX a_numberAt a_cells a_seen a_distances a_matrix a_prefix a_prefixFrom a_prefixTo a_tunedOrder a_tunedKey a_toX a_toZ a_sysCount a_hullLow a_hullHigh a_cursor a_limit a_pin a_echelon a_pivot : Nat → Int32} {a_sysCoef a_sysBound a_cand a_spanLow a_spanHigh : Nat → Int64}
theorem x_in {post : Int32 → Prop} {x a b : Int32} (h0 : (x < a ∨ ¬ x ≤ b) → post 0) (h1 : ¬ x < a → x ≤ b → post 1) : wpX_inside post (f_depth, f_side, f_arraySide, f_statements, f_sealed, f_points, f_distanceCount, f_bandFirst, f_bandCount, f_bandSize, f_accepted, f_blamed, f_prefixLength, f_tunedFresh, f_rangeLow, f_rangeHigh, f_scanAt, f_scanFirst, f_scanCount, f_scanSize, f_scanPins, a_limits, a_ops, a_factors, a_given, a_subs, a_pointX, a_numberAt, a_cells, a_seen, a_distances, a_matrix, a_prefix, a_prefixFrom, a_prefixTo, a_tunedOrder, a_tunedKey, a_toX, a_toZ, a_sysCoef, a_sysBound, a_sysCount, a_cand, a_hullLow, a_hullHigh, a_spanLow, a_spanHigh, a_cursor, a_limit, a_pin, a_echelon, a_pivot) x a b :=
  br_c (fun h => h0 (Or.inl h)) (fun h => br_c (fun h' => h0 (Or.inr (Int32.not_le.mpr h'))) (fun h' => h1 h (Int32.not_lt.mp h')))
end
theorem nI_out {x : Int32} {N : Nat} (hN : N < 1000) (h1 : ¬ x < 0) (h2 : x < nI N) : ∃ j, j < N ∧ x = nI j := by
  obtain ⟨j, hj, rfl⟩ := nI_of h1
  rw [nI_ltI hj (by omega)] at h2
  exact ⟨j, h2, rfl⟩
/-- x within 0 .. N - 1, as the component and as the reference ask it -/
theorem in_or {x : Int32} {N : Nat} (hN : 1 ≤ N ∧ N < 1000) : (∃ j, j < N ∧ x = nI j) ∨ (x < 0 ∨ ¬ x < nI N) := by
  by_cases h1 : x < 0
  · exact Or.inr (Or.inl h1)
  · by_cases h2 : x < nI N
    · exact Or.inl (nI_out hN.2 h1 h2)
    · exact Or.inr (Or.inr h2)
theorem bad_y {x : Int32} {N : Nat} (hN : 1 ≤ N ∧ N < 1000) (h : x < 0 ∨ ¬ x < nI N) : x < 0 ∨ ¬ x ≤ nI N - 1 := by
  rcases h with h | h
  · exact Or.inl h
  · right
    rw [nx_s1 hN.1, ti_le, nI_toInt (by omega)]
    rw [ti_lt, nI_toInt (by omega)] at h
    omega
theorem ok_y {j N : Nat} (h : j < N) (hN : N < 1000) : ¬ nI j < 0 ∧ nI j ≤ nI N - 1 := by
  refine ⟨nI_pos (by omega), ?_⟩
  rw [nx_s1 (by omega), nI_leI (by omega) (by omega)]
  omega
theorem rng {x a b : Int32} {A B : Int} (ha : a.toInt = A) (hb : b.toInt = B) (h1 : ¬ x < a) (h2 : x ≤ b) : A ≤ x.toInt ∧ x.toInt ≤ B := by
  rw [ti_lt] at h1
  rw [ti_le] at h2
  omega
theorem lim_to {B : Nat → Int} (h : lim_ok B) : ∀ j, j < 18 → (j % 3 ≠ 2 → -2 ≤ B j ∧ B j ≤ 2) ∧ -15 ≤ B j ∧ B j ≤ 15 := by
  intro j hj
  have hl := h (j / 6) (by omega)
  rcases (show j = 6 * (j / 6) ∨ j = 6 * (j / 6) + 1 ∨ j = 6 * (j / 6) + 2 ∨ j = 6 * (j / 6) + 3 ∨ j = 6 * (j / 6) + 4 ∨ j = 6 * (j / 6) + 5 by omega) with e | e | e | e | e | e <;> rw [e] <;> omega
theorem lim_of {B : Nat → Int} (h : ∀ j, j < 18 → (j % 3 ≠ 2 → -2 ≤ B j ∧ B j ≤ 2) ∧ -15 ≤ B j ∧ B j ≤ 15) : lim_ok B := by
  intro l hl
  exact ⟨(h (6 * l) (by omega)).1 (by omega), (h (6 * l + 1) (by omega)).1 (by omega), (h (6 * l + 2) (by omega)).2, (h (6 * l + 3) (by omega)).1 (by omega), (h (6 * l + 4) (by omega)).1 (by omega), (h (6 * l + 5) (by omega)).2⟩
theorem iz_us {a : Nat → Int32} {k : Nat} {x : Int32} : iz (upd a k x) k = x.toInt := by show (upd a k x k).toInt = _; rw [pk_us]
theorem iz_un {a : Nat → Int32} {k j : Nat} {x : Int32} (h : j ≠ k) : iz (upd a k x) j = iz a j := by show (upd a k x j).toInt = _; rw [pk_un h]; rfl

theorem i_vc_bound {k : Nat} {u : SX} {v : SY} (I : i_Rel k u v) (hk : k + 5 ≤ 2563) (v1 : Int32) (v2 : Int32) (v3 : Int32) (v4 : Int32) : wpX_bound (fun r u' => wpY_bound (fun r' v' => r' = r ∧ i_Rel (k + 5) u' v') v v1 v2 v3 v4) u v1 v2 v3 v4 := by
  refine zz_el (Q := fun u v => wpX_bound (fun r u' => wpY_bound (fun r' v' => r' = r ∧ i_Rel (k + 5) u' v') v v1 v2 v3 v4) u v1 v2 v3 v4) ?_ I
  intro D S A St P cnt F Cn Bs m f_sealed f_accepted f_blamed f_tunedFresh f_scanAt f_scanFirst f_scanCount f_scanSize f_scanPins f_rangeLow f_rangeHigh a_limits a_ops a_factors a_given a_subs a_pointX a_numberAt a_cells a_seen a_distances a_matrix a_prefix a_prefixFrom a_prefixTo a_tunedOrder a_tunedKey a_toX a_toZ a_sysCount a_hullLow a_hullHigh a_cursor a_limit a_pin a_echelon a_pivot a_sysCoef a_sysBound a_cand a_spanLow a_spanHigh g_blamed a_order a_inD a_t b_prefix hb hs
  have hb' := hb
  obtain ⟨q1, q2, q3, q4, q5, q6, q7, q8, q9⟩ := hb
  by_cases h0 : f_sealed = 0
  · subst h0
    have done : ∀ r : Int32, (r = r) ∧ i_Rel (k + 5) ((nI D), (nI S), (nI A), (nI St), 0, (nI P), (nI cnt), (nI F), (nI Cn), (nI Bs), f_accepted, f_blamed, (nI m), f_tunedFresh, f_rangeLow, f_rangeHigh, f_scanAt, f_scanFirst, f_scanCount, f_scanSize, f_scanPins, a_limits, a_ops, a_factors, a_given, a_subs, a_pointX, a_numberAt, a_cells, a_seen, a_distances, a_matrix, a_prefix, a_prefixFrom, a_prefixTo, a_tunedOrder, a_tunedKey, a_toX, a_toZ, a_sysCoef, a_sysBound, a_sysCount, a_cand, a_hullLow, a_hullHigh, a_spanLow, a_spanHigh, a_cursor, a_limit, a_pin, a_echelon, a_pivot) ((nI D), (nI S), (nI A), (nI St), 0, (nI P), (nI F), (nI Cn), (nI Bs), f_accepted, g_blamed, (nI m), a_limits, a_ops, a_factors, a_given, a_subs, a_cells, a_pointX, a_order, a_inD, a_t, b_prefix) := fun r => ⟨rfl, zz_in hb' hs⟩
    have e2D : 2 * nI D = nI (2 * D) := nx_m2 D
    refine br_t rfl ?_
    rw [e2D]
    rcases in_or (x := v1) (N := 2 * D) (by omega) with ⟨w, hw, rfl⟩ | hbad
    · have yw := ok_y hw (by omega)
      refine br_f (nI_pos (by omega)) (br_t (nI_lt hw (by omega)) ?_)
      have yok : ∀ post : Int32 → SY → Prop, (wpY_out (fun r_27 => ((r_27 = 0 → (wpY_out (fun r_52 => ((r_52 = 0 → (wpY_out (fun r_77 => ((r_77 = 0 → ((2 ≤ nI w → (wY_bound_84 post (nI w) v2 v3 v4 (nI D) (nI S) (nI A) (nI St) 0 (nI P) (nI F) (nI Cn) (nI Bs) f_accepted g_blamed (nI m) a_limits a_ops a_factors a_given a_subs a_cells a_pointX a_order a_inD a_t b_prefix)) ∧ (¬ 2 ≤ nI w → ((v2 = 0 → (wY_bound_84 post (nI w) v2 v3 v4 (nI D) (nI S) (nI A) (nI St) 0 (nI P) (nI F) (nI Cn) (nI Bs) f_accepted g_blamed (nI m) a_limits a_ops a_factors a_given a_subs a_cells a_pointX a_order a_inD a_t b_prefix)) ∧ (¬ v2 = 0 → post (-1001) ((nI D), (nI S), (nI A), (nI St), 0, (nI P), (nI F), (nI Cn), (nI Bs), f_accepted, g_blamed, (nI m), a_limits, a_ops, a_factors, a_given, a_subs, a_cells, a_pointX, a_order, a_inD, a_t, b_prefix)))))) ∧ (¬ r_77 = 0 → (post (-1001) ((nI D), (nI S), (nI A), (nI St), 0, (nI P), (nI F), (nI Cn), (nI Bs), f_accepted, g_blamed, (nI m), a_limits, a_ops, a_factors, a_given, a_subs, a_cells, a_pointX, a_order, a_inD, a_t, b_prefix))))) ((nI D), (nI S), (nI A), (nI St), 0, (nI P), (nI F), (nI Cn), (nI Bs), f_accepted, g_blamed, (nI m), a_limits, a_ops, a_factors, a_given, a_subs, a_cells, a_pointX, a_order, a_inD, a_t, b_prefix) v4 (-15) 15)) ∧ (¬ r_52 = 0 → (post (-1001) ((nI D), (nI S), (nI A), (nI St), 0, (nI P), (nI F), (nI Cn), (nI Bs), f_accepted, g_blamed, (nI m), a_limits, a_ops, a_factors, a_given, a_subs, a_cells, a_pointX, a_order, a_inD, a_t, b_prefix))))) ((nI D), (nI S), (nI A), (nI St), 0, (nI P), (nI F), (nI Cn), (nI Bs), f_accepted, g_blamed, (nI m), a_limits, a_ops, a_factors, a_given, a_subs, a_cells, a_pointX, a_order, a_inD, a_t, b_prefix) v3 (-2) 2)) ∧ (¬ r_27 = 0 → (post (-1001) ((nI D), (nI S), (nI A), (nI St), 0, (nI P), (nI F), (nI Cn), (nI Bs), f_accepted, g_blamed, (nI m), a_limits, a_ops, a_factors, a_given, a_subs, a_cells, a_pointX, a_order, a_inD, a_t, b_prefix))))) ((nI D), (nI S), (nI A), (nI St), 0, (nI P), (nI F), (nI Cn), (nI Bs), f_accepted, g_blamed, (nI m), a_limits, a_ops, a_factors, a_given, a_subs, a_cells, a_pointX, a_order, a_inD, a_t, b_prefix) v2 (-2) 2) → wpY_bound post ((nI D), (nI S), (nI A), (nI St), 0, (nI P), (nI F), (nI Cn), (nI Bs), f_accepted, g_blamed, (nI m), a_limits, a_ops, a_factors, a_given, a_subs, a_cells, a_pointX, a_order, a_inD, a_t, b_prefix) (nI w) v2 v3 v4 := by
        intro post h
        refine br_t rfl ?_
        rw [e2D]
        exact y_out (fun g => absurd g (by rintro (g | g); exact yw.1 g; exact g yw.2)) (fun _ _ => br_t rfl h)
      refine x_in (fun g => br_t rfl (yok _ (y_out (fun _ => br_f (by decide) (done _)) (fun g1 g2 => absurd g (by rintro (g | g); exact g1 g; exact g g2))))) (fun a1 a2 => br_f (by decide) ?_)
      refine x_in (fun g => br_t rfl (yok _ (y_out (fun g' => absurd g' (by rintro (g | g); exact a1 g; exact g a2)) (fun _ _ => br_t rfl (y_out (fun _ => br_f (by decide) (done _)) (fun g1 g2 => absurd g (by rintro (g | g); exact g1 g; exact g g2))))))) (fun b1 b2 => br_f (by decide) ?_)
      refine x_in (fun g => br_t rfl (yok _ (y_out (fun g' => absurd g' (by rintro (g | g); exact a1 g; exact g a2)) (fun _ _ => br_t rfl (y_out (fun g' => absurd g' (by rintro (g | g); exact b1 g; exact g b2)) (fun _ _ => br_t rfl (y_out (fun _ => br_f (by decide) (done _)) (fun g1 g2 => absurd g (by rintro (g | g); exact g1 g; exact g g2))))))))) (fun c1 c2 => br_f (by decide) ⟨by decide, nm_r (pk_div (d := 2) (by omega) (by omega) (by omega)) ?_⟩)
      have yall : ∀ post : Int32 → SY → Prop, ((2 ≤ nI w → (wY_bound_84 post (nI w) v2 v3 v4 (nI D) (nI S) (nI A) (nI St) 0 (nI P) (nI F) (nI Cn) (nI Bs) f_accepted g_blamed (nI m) a_limits a_ops a_factors a_given a_subs a_cells a_pointX a_order a_inD a_t b_prefix)) ∧ (¬ 2 ≤ nI w → ((v2 = 0 → (wY_bound_84 post (nI w) v2 v3 v4 (nI D) (nI S) (nI A) (nI St) 0 (nI P) (nI F) (nI Cn) (nI Bs) f_accepted g_blamed (nI m) a_limits a_ops a_factors a_given a_subs a_cells a_pointX a_order a_inD a_t b_prefix)) ∧ (¬ v2 = 0 → post (-1001) ((nI D), (nI S), (nI A), (nI St), 0, (nI P), (nI F), (nI Cn), (nI Bs), f_accepted, g_blamed, (nI m), a_limits, a_ops, a_factors, a_given, a_subs, a_cells, a_pointX, a_order, a_inD, a_t, b_prefix))))) → wpY_bound post ((nI D), (nI S), (nI A), (nI St), 0, (nI P), (nI F), (nI Cn), (nI Bs), f_accepted, g_blamed, (nI m), a_limits, a_ops, a_factors, a_given, a_subs, a_cells, a_pointX, a_order, a_inD, a_t, b_prefix) (nI w) v2 v3 v4 := fun post h => yok post (y_out (fun g' => absurd g' (by rintro (g | g); exact a1 g; exact g a2)) (fun _ _ => br_t rfl (y_out (fun g' => absurd g' (by rintro (g | g); exact b1 g; exact g b2)) (fun _ _ => br_t rfl (y_out (fun g' => absurd g' (by rintro (g | g); exact c1 g; exact g c2)) (fun _ _ => br_t rfl h))))))
      have r1 := rng (A := -2) (B := 2) (by decide) (by decide) a1 a2
      have r2 := rng (A := -2) (B := 2) (by decide) (by decide) b1 b2
      have r3 := rng (A := -15) (B := 15) (by decide) (by decide) c1 c2
      have e1 : nI w * 3 = nI (w * 3) := nx_m3 w
      have e2 : nI w * 3 + 1 = nI (w * 3 + 1) := by rw [nx_m3, nI_1]
      have e3 : nI w * 3 + 2 = nI (w * 3 + 2) := by rw [nx_m3, nx_a2]
      -- the store
      have fin : (w < 2 → v2 = 0) → (w < 4 → v3 = 0) → wX_bound_104 (fun r u' => wpY_bound (fun r' v' => r' = r ∧ i_Rel (k + 5) u' v') ((nI D), (nI S), (nI A), (nI St), 0, (nI P), (nI F), (nI Cn), (nI Bs), f_accepted, g_blamed, (nI m), a_limits, a_ops, a_factors, a_given, a_subs, a_cells, a_pointX, a_order, a_inD, a_t, b_prefix) (nI w) v2 v3 v4) (nI w) v2 v3 v4 (nI D) (nI S) (nI A) (nI St) 0 (nI P) (nI cnt) (nI F) (nI Cn) (nI Bs) f_accepted f_blamed (nI m) f_tunedFresh f_rangeLow f_rangeHigh f_scanAt f_scanFirst f_scanCount f_scanSize f_scanPins a_limits a_ops a_factors a_given a_subs a_pointX a_numberAt a_cells a_seen a_distances a_matrix a_prefix a_prefixFrom a_prefixTo a_tunedOrder a_tunedKey a_toX a_toZ a_sysCoef a_sysBound a_sysCount a_cand a_hullLow a_hullHigh a_spanLow a_spanHigh a_cursor a_limit a_pin a_echelon a_pivot := by
        intro z2 z3
        refine ⟨vx_n _ e1 (by omega) (by omega), nm_r (e' := upd a_limits (w * 3) v2) (by rw [cx_n _ e1 (by omega)]) ⟨vx_n _ e2 (by omega) (by omega), nm_r (e' := upd (upd a_limits (w * 3) v2) (w * 3 + 1) v3) (by rw [cx_n _ e2 (by omega)]) ⟨vx_n _ e3 (by omega) (by omega), nm_r (e' := upd (upd (upd a_limits (w * 3) v2) (w * 3 + 1) v3) (w * 3 + 2) v4) (by rw [cx_n _ e3 (by omega)]) (yall _ ?_)⟩⟩⟩
        have h97 : wY_bound_97 (fun r' v' => r' = 0 ∧ i_Rel (k + 5) ((nI D), (nI S), (nI A), (nI St), 0, (nI P), (nI cnt), (nI F), (nI Cn), (nI Bs), f_accepted, f_blamed, (nI m), f_tunedFresh, f_rangeLow, f_rangeHigh, f_scanAt, f_scanFirst, f_scanCount, f_scanSize, f_scanPins, upd (upd (upd a_limits (w * 3) v2) (w * 3 + 1) v3) (w * 3 + 2) v4, a_ops, a_factors, a_given, a_subs, a_pointX, a_numberAt, a_cells, a_seen, a_distances, a_matrix, a_prefix, a_prefixFrom, a_prefixTo, a_tunedOrder, a_tunedKey, a_toX, a_toZ, a_sysCoef, a_sysBound, a_sysCount, a_cand, a_hullLow, a_hullHigh, a_spanLow, a_spanHigh, a_cursor, a_limit, a_pin, a_echelon, a_pivot) v') (nI w) v2 v3 v4 (nI D) (nI S) (nI A) (nI St) 0 (nI P) (nI F) (nI Cn) (nI Bs) f_accepted g_blamed (nI m) a_limits a_ops a_factors a_given a_subs a_cells a_pointX a_order a_inD a_t b_prefix := by
          refine ⟨vx_n _ e1 (by omega) (by omega), nm_r (e' := upd a_limits (w * 3) v2) (by rw [cx_n _ e1 (by omega)]) ⟨vx_n _ e2 (by omega) (by omega), nm_r (e' := upd (upd a_limits (w * 3) v2) (w * 3 + 1) v3) (by rw [cx_n _ e2 (by omega)]) ⟨vx_n _ e3 (by omega) (by omega), nm_r (e' := upd (upd (upd a_limits (w * 3) v2) (w * 3 + 1) v3) (w * 3 + 2) v4) (by rw [cx_n _ e3 (by omega)]) ⟨rfl, zz_in ⟨q1, q2, q3, q4, q5, ⟨lim_of (fun j hj => ?_), ?_⟩, q7, q8, q9⟩ (fun h => absurd rfl h)⟩⟩⟩⟩
          · by_cases x2 : j = w * 3 + 2
            · subst x2; rw [iz_us]; exact ⟨fun h => absurd (by omega) h, r3⟩
            · rw [iz_un x2]
              by_cases x1 : j = w * 3 + 1
              · subst x1; rw [iz_us]; exact ⟨fun _ => r2, by omega⟩
              · rw [iz_un x1]
                by_cases x0 : j = w * 3
                · subst x0; rw [iz_us]; exact ⟨fun _ => r1, by omega⟩
                · rw [iz_un x0]; exact lim_to q6.1 j hj
          · have gz : ∀ j, (j = w * 3 → v2 = 0) → (j = w * 3 + 1 → v3 = 0) → j % 3 ≠ 2 → iz a_limits j = 0 → iz (upd (upd (upd a_limits (w * 3) v2) (w * 3 + 1) v3) (w * 3 + 2) v4) j = 0 := by
              intro j g0 g1 g2 g3
              rw [iz_un (by omega)]
              by_cases x1 : j = w * 3 + 1
              · rw [x1, iz_us, g1 x1]; decide
              · rw [iz_un x1]
                by_cases x0 : j = w * 3
                · rw [x0, iz_us, g0 x0]; decide
                · rw [iz_un x0]; exact g3
            obtain ⟨l0, l1, l3, l4, l7, l10⟩ := q6.2
            exact ⟨gz 0 (fun h => z2 (by omega)) (fun h => z3 (by omega)) (by omega) l0, gz 1 (fun h => z2 (by omega)) (fun h => z3 (by omega)) (by omega) l1, gz 3 (fun h => z2 (by omega)) (fun h => z3 (by omega)) (by omega) l3, gz 4 (fun h => z2 (by omega)) (fun h => z3 (by omega)) (by omega) l4, gz 7 (fun h => by omega) (fun h => z3 (by omega)) (by omega) l7, gz 10 (fun h => by omega) (fun h => z3 (by omega)) (by omega) l10⟩
        have h84 : wY_bound_84 (fun r' v' => r' = 0 ∧ i_Rel (k + 5) ((nI D), (nI S), (nI A), (nI St), 0, (nI P), (nI cnt), (nI F), (nI Cn), (nI Bs), f_accepted, f_blamed, (nI m), f_tunedFresh, f_rangeLow, f_rangeHigh, f_scanAt, f_scanFirst, f_scanCount, f_scanSize, f_scanPins, upd (upd (upd a_limits (w * 3) v2) (w * 3 + 1) v3) (w * 3 + 2) v4, a_ops, a_factors, a_given, a_subs, a_pointX, a_numberAt, a_cells, a_seen, a_distances, a_matrix, a_prefix, a_prefixFrom, a_prefixTo, a_tunedOrder, a_tunedKey, a_toX, a_toZ, a_sysCoef, a_sysBound, a_sysCount, a_cand, a_hullLow, a_hullHigh, a_spanLow, a_spanHigh, a_cursor, a_limit, a_pin, a_echelon, a_pivot) v') (nI w) v2 v3 v4 (nI D) (nI S) (nI A) (nI St) 0 (nI P) (nI F) (nI Cn) (nI Bs) f_accepted g_blamed (nI m) a_limits a_ops a_factors a_given a_subs a_cells a_pointX a_order a_inD a_t b_prefix :=
          pk_le 4 w (fun _ => h97) (fun h => br_t (z3 h) h97)
        exact pk_le 2 w (fun _ => h84) (fun h => br_t (z2 h) h84)
      have h90 : (w < 2 → v2 = 0) → (w < 2 → v3 = 0) → wX_bound_90 (fun r u' => wpY_bound (fun r' v' => r' = r ∧ i_Rel (k + 5) u' v') ((nI D), (nI S), (nI A), (nI St), 0, (nI P), (nI F), (nI Cn), (nI Bs), f_accepted, g_blamed, (nI m), a_limits, a_ops, a_factors, a_given, a_subs, a_cells, a_pointX, a_order, a_inD, a_t, b_prefix) (nI w) v2 v3 v4) (nI w) v2 v3 v4 (nI (w / 2)) (nI D) (nI S) (nI A) (nI St) 0 (nI P) (nI cnt) (nI F) (nI Cn) (nI Bs) f_accepted f_blamed (nI m) f_tunedFresh f_rangeLow f_rangeHigh f_scanAt f_scanFirst f_scanCount f_scanSize f_scanPins a_limits a_ops a_factors a_given a_subs a_pointX a_numberAt a_cells a_seen a_distances a_matrix a_prefix a_prefixFrom a_prefixTo a_tunedOrder a_tunedKey a_toX a_toZ a_sysCoef a_sysBound a_sysCount a_cand a_hullLow a_hullHigh a_spanLow a_spanHigh a_cursor a_limit a_pin a_echelon a_pivot := by
        intro z2 z3
        refine pk_eq (w / 2) 1 (fun h1 => br_c (fun h2 => fin z2 (fun _ => h2)) (fun h2 => yall _ (pk_le 2 w (fun _ => ?_) (fun h => by omega)))) (fun h1 => fin z2 (fun h => z3 (by omega)))
        exact pk_le 4 w (fun h => by omega) (fun _ => br_f h2 (done _))
      refine pk_eq (w / 2) 0 (fun h1 => br_c (fun h2 => br_c (fun h3 => h90 (fun _ => h2) (fun _ => h3)) (fun h3 => yall _ (pk_le 2 w (fun h => by omega) (fun _ => br_t h2 ?_)))) (fun h2 => yall _ (pk_le 2 w (fun h => by omega) (fun _ => br_f h2 (done _))))) (fun h1 => h90 (fun h => by omega) (fun h => by omega))
      exact pk_le 4 w (fun h => by omega) (fun _ => br_f h3 (done _))
    · have yb : wpY_bound (fun r' v' => r' = -1001 ∧ i_Rel (k + 5) ((nI D), (nI S), (nI A), (nI St), 0, (nI P), (nI cnt), (nI F), (nI Cn), (nI Bs), f_accepted, f_blamed, (nI m), f_tunedFresh, f_rangeLow, f_rangeHigh, f_scanAt, f_scanFirst, f_scanCount, f_scanSize, f_scanPins, a_limits, a_ops, a_factors, a_given, a_subs, a_pointX, a_numberAt, a_cells, a_seen, a_distances, a_matrix, a_prefix, a_prefixFrom, a_prefixTo, a_tunedOrder, a_tunedKey, a_toX, a_toZ, a_sysCoef, a_sysBound, a_sysCount, a_cand, a_hullLow, a_hullHigh, a_spanLow, a_spanHigh, a_cursor, a_limit, a_pin, a_echelon, a_pivot) v') ((nI D), (nI S), (nI A), (nI St), 0, (nI P), (nI F), (nI Cn), (nI Bs), f_accepted, g_blamed, (nI m), a_limits, a_ops, a_factors, a_given, a_subs, a_cells, a_pointX, a_order, a_inD, a_t, b_prefix) v1 v2 v3 v4 := by
        refine br_t rfl ?_
        rw [e2D]
        exact y_out (fun _ => br_f (by decide) (done _)) (fun g1 g2 => absurd (bad_y (by omega) hbad) (by rintro (g | g); exact g1 g; exact g g2))
      exact br_c (fun _ => yb) (fun g => br_f (fun h => by rcases hbad with z | z; exact g z; exact z h) yb)
  · exact br_f h0 (br_f h0 ⟨rfl, zz_in hb' hs⟩)
end
section
theorem nab {x a b : Int32} (h1 : ¬ x < a) (h2 : x ≤ b) : ¬ (x < a ∨ ¬ x ≤ b) := by rintro (g | g); exact h1 g; exact g h2
theorem bna {x a b : Int32} (h : x < a ∨ ¬ x ≤ b) (h1 : ¬ x < a) : ¬ x ≤ b := fun g => nab h1 g h

theorem i_vc_statement {k : Nat} {u : SX} {v : SY} (I : i_Rel k u v) (hk : k + 5 ≤ 2563) (v1 : Int32) (v2 : Int32) : wpX_statement (fun r u' => wpY_statement (fun r' v' => r' = r ∧ i_Rel (k + 5) u' v') v v1 v2) u v1 v2 := by
  refine zz_el (Q := fun u v => wpX_statement (fun r u' => wpY_statement (fun r' v' => r' = r ∧ i_Rel (k + 5) u' v') v v1 v2) u v1 v2) ?_ I
  intro D S A St P cnt F Cn Bs m f_sealed f_accepted f_blamed f_tunedFresh f_scanAt f_scanFirst f_scanCount f_scanSize f_scanPins f_rangeLow f_rangeHigh a_limits a_ops a_factors a_given a_subs a_pointX a_numberAt a_cells a_seen a_distances a_matrix a_prefix a_prefixFrom a_prefixTo a_tunedOrder a_tunedKey a_toX a_toZ a_sysCount a_hullLow a_hullHigh a_cursor a_limit a_pin a_echelon a_pivot a_sysCoef a_sysBound a_cand a_spanLow a_spanHigh g_blamed a_order a_inD a_t b_prefix hb hs
  have hb' := hb
  obtain ⟨q1, q2, q3, q4, q5, q6, q7, q8, q9⟩ := hb
  have hg : ∀ s, s < St → ∃ g, a_given s = nI g ∧ g ≤ nds (a_ops s) := fun s hs => by
    obtain ⟨g, h1, h2, _⟩ := q8 s hs
    exact ⟨g, h1, h2⟩
  by_cases h0 : f_sealed = 0
  · subst h0
    have done : ∀ r : Int32, (r = r) ∧ i_Rel (k + 5) ((nI D), (nI S), (nI A), (nI St), 0, (nI P), (nI cnt), (nI F), (nI Cn), (nI Bs), f_accepted, f_blamed, (nI m), f_tunedFresh, f_rangeLow, f_rangeHigh, f_scanAt, f_scanFirst, f_scanCount, f_scanSize, f_scanPins, a_limits, a_ops, a_factors, a_given, a_subs, a_pointX, a_numberAt, a_cells, a_seen, a_distances, a_matrix, a_prefix, a_prefixFrom, a_prefixTo, a_tunedOrder, a_tunedKey, a_toX, a_toZ, a_sysCoef, a_sysBound, a_sysCount, a_cand, a_hullLow, a_hullHigh, a_spanLow, a_spanHigh, a_cursor, a_limit, a_pin, a_echelon, a_pivot) ((nI D), (nI S), (nI A), (nI St), 0, (nI P), (nI F), (nI Cn), (nI Bs), f_accepted, g_blamed, (nI m), a_limits, a_ops, a_factors, a_given, a_subs, a_cells, a_pointX, a_order, a_inD, a_t, b_prefix) := fun r => ⟨rfl, zz_in hb' hs⟩
    refine br_t rfl (x_in (fun g => br_t rfl (br_t rfl (y_out (fun _ => br_f (by decide) (done _)) (fun g1 g2 => absurd g (nab g1 g2))))) (fun a1 a2 => br_f (by decide) ?_))
    have yok : ∀ post : Int32 → SY → Prop, wpY_awaiting (fun r_27 => ((r_27 = 0 → ((nI St < 2 → (vp_in (nI St) 2 ∧ ∀ x : Nat → Int32, x = upd a_ops (nI St).toNatClampNeg v1 → (vp_in (nI St) 2 ∧ ∀ y : Nat → Int32, y = upd a_factors (nI St).toNatClampNeg v2 → (vp_in (nI St) 2 ∧ ∀ z : Nat → Int32, z = upd a_given (nI St).toNatClampNeg 0 → (∀ w : Int32, w = nI St + 1 → wpY_needs (fun r_60 => post r_60 ((nI D), (nI S), (nI A), w, 0, (nI P), (nI F), (nI Cn), (nI Bs), f_accepted, g_blamed, (nI m), a_limits, x, y, z, a_subs, a_cells, a_pointX, a_order, a_inD, a_t, b_prefix)) ((nI D), (nI S), (nI A), w, 0, (nI P), (nI F), (nI Cn), (nI Bs), f_accepted, g_blamed, (nI m), a_limits, x, y, z, a_subs, a_cells, a_pointX, a_order, a_inD, a_t, b_prefix) v1))))) ∧ (¬ nI St < 2 → post (-1005) ((nI D), (nI S), (nI A), (nI St), 0, (nI P), (nI F), (nI Cn), (nI Bs), f_accepted, g_blamed, (nI m), a_limits, a_ops, a_factors, a_given, a_subs, a_cells, a_pointX, a_order, a_inD, a_t, b_prefix)))) ∧ (¬ r_27 = 0 → post (-1004) ((nI D), (nI S), (nI A), (nI St), 0, (nI P), (nI F), (nI Cn), (nI Bs), f_accepted, g_blamed, (nI m), a_limits, a_ops, a_factors, a_given, a_subs, a_cells, a_pointX, a_order, a_inD, a_t, b_prefix)))) ((nI D), (nI S), (nI A), (nI St), 0, (nI P), (nI F), (nI Cn), (nI Bs), f_accepted, g_blamed, (nI m), a_limits, a_ops, a_factors, a_given, a_subs, a_cells, a_pointX, a_order, a_inD, a_t, b_prefix) → wpY_statement post ((nI D), (nI S), (nI A), (nI St), 0, (nI P), (nI F), (nI Cn), (nI Bs), f_accepted, g_blamed, (nI m), a_limits, a_ops, a_factors, a_given, a_subs, a_cells, a_pointX, a_order, a_inD, a_t, b_prefix) v1 v2 :=
      fun post h => br_t rfl (y_out (fun g => absurd g (nab a1 a2)) (fun _ _ => br_t rfl h))
    have haw : awt St a_ops a_given ≤ 6 := by
      unfold awt
      split
      · omega
      · have := nds_le (a_ops (St - 1)); omega
    refine xw_await q4 hg (pk_le (awt St a_ops a_given) 0 (fun ha => pk_lt St 2 (fun h2 => ?_) (fun h2 => ?_)) (fun ha => ?_))
    · have cs : (nI St).toNatClampNeg = St := nI_clamp (by omega)
      have hvi : vp_in (nI St) 2 := vp_in_nI (by omega) (by omega)
      refine ⟨hvi, nm_r (e' := upd a_ops St v1) (by rw [cs]) ⟨hvi, nm_r (e' := upd a_factors St v2) (by rw [cs]) ⟨hvi, nm_r (e' := upd a_given St 0) (by rw [cs]) (nm_r (nI_1 St) (xd_needs (yok _ (yw_await q4 hg (fun _ => br_t rfl (br_t (nI_lt (b := 2) h2 (by omega)) ⟨hvi, nm_r (e' := upd a_ops St v1) (by rw [cs]) ⟨hvi, nm_r (e' := upd a_factors St v2) (by rw [cs]) ⟨hvi, nm_r (e' := upd a_given St 0) (by rw [cs]) (nm_r (nI_1 St) (yd_needs ⟨rfl, ?_⟩))⟩⟩⟩)) (fun h => by omega)))))⟩⟩⟩
      refine zz_in (St := St + 1) ⟨q1, q2, q3, by omega, q5, q6, q7, fun s hs' => ?_, q9⟩ (fun h => absurd rfl h)
      by_cases x : s = St
      · subst x
        refine ⟨0, pk_us, by omega, fun h => by omega, ?_⟩
        rw [pk_us]
        have r1 := rng (A := 0) (B := 3) (by decide) (by decide) a1 a2
        have hc : v1.toInt = 0 ∨ v1.toInt = 1 ∨ v1.toInt = 2 ∨ v1.toInt = 3 := by omega
        rcases hc with e | e | e | e
        · exact Or.inl (Int32.toInt_inj.mp (e.trans (by decide)))
        · exact Or.inr (Or.inl (Int32.toInt_inj.mp (e.trans (by decide))))
        · exact Or.inr (Or.inr (Or.inl (Int32.toInt_inj.mp (e.trans (by decide)))))
        · exact Or.inr (Or.inr (Or.inr (Int32.toInt_inj.mp (e.trans (by decide)))))
      · obtain ⟨g, h1, h2, h3, h4⟩ := q8 s (by omega)
        rw [pk_un x, pk_un x]
        refine ⟨g, h1, h2, fun _ => ?_, h4⟩
        by_cases y : s + 1 < St
        · exact h3 y
        · cases (show s = St - 1 by omega)
          unfold awt at ha
          rw [if_neg (by omega), h1] at ha
          have := nds_le (a_ops (St - 1))
          rw [nI_clamp (by omega)] at ha
          omega
    · exact yok _ (yw_await q4 hg (fun _ => br_t rfl (br_f (nI_nlt (b := 2) h2 (by omega)) (done _))) (fun h => by omega))
    · exact yok _ (yw_await q4 hg (fun h => by omega) (fun _ => br_f (by decide) (done _)))
  · exact br_f h0 (br_f h0 ⟨rfl, zz_in hb' hs⟩)
theorem i_vc_subscript {k : Nat} {u : SX} {v : SY} (I : i_Rel k u v) (hk : k + 5 ≤ 2563) (v1 : Int32) (v2 : Int32) (v3 : Int32) (v4 : Int32) : wpX_subscript (fun r u' => wpY_subscript (fun r' v' => r' = r ∧ i_Rel (k + 5) u' v') v v1 v2 v3 v4) u v1 v2 v3 v4 := by
  refine zz_el (Q := fun u v => wpX_subscript (fun r u' => wpY_subscript (fun r' v' => r' = r ∧ i_Rel (k + 5) u' v') v v1 v2 v3 v4) u v1 v2 v3 v4) ?_ I
  intro D S A St P cnt F Cn Bs m f_sealed f_accepted f_blamed f_tunedFresh f_scanAt f_scanFirst f_scanCount f_scanSize f_scanPins f_rangeLow f_rangeHigh a_limits a_ops a_factors a_given a_subs a_pointX a_numberAt a_cells a_seen a_distances a_matrix a_prefix a_prefixFrom a_prefixTo a_tunedOrder a_tunedKey a_toX a_toZ a_sysCount a_hullLow a_hullHigh a_cursor a_limit a_pin a_echelon a_pivot a_sysCoef a_sysBound a_cand a_spanLow a_spanHigh g_blamed a_order a_inD a_t b_prefix hb hs
  have hb' := hb
  obtain ⟨q1, q2, q3, q4, q5, q6, q7, q8, q9⟩ := hb
  have hg : ∀ s, s < St → ∃ g, a_given s = nI g ∧ g ≤ nds (a_ops s) := fun s hs => by
    obtain ⟨g, h1, h2, _⟩ := q8 s hs
    exact ⟨g, h1, h2⟩
  by_cases h0 : f_sealed = 0
  · subst h0
    have done : ∀ r : Int32, (r = r) ∧ i_Rel (k + 5) ((nI D), (nI S), (nI A), (nI St), 0, (nI P), (nI cnt), (nI F), (nI Cn), (nI Bs), f_accepted, f_blamed, (nI m), f_tunedFresh, f_rangeLow, f_rangeHigh, f_scanAt, f_scanFirst, f_scanCount, f_scanSize, f_scanPins, a_limits, a_ops, a_factors, a_given, a_subs, a_pointX, a_numberAt, a_cells, a_seen, a_distances, a_matrix, a_prefix, a_prefixFrom, a_prefixTo, a_tunedOrder, a_tunedKey, a_toX, a_toZ, a_sysCoef, a_sysBound, a_sysCount, a_cand, a_hullLow, a_hullHigh, a_spanLow, a_spanHigh, a_cursor, a_limit, a_pin, a_echelon, a_pivot) ((nI D), (nI S), (nI A), (nI St), 0, (nI P), (nI F), (nI Cn), (nI Bs), f_accepted, g_blamed, (nI m), a_limits, a_ops, a_factors, a_given, a_subs, a_cells, a_pointX, a_order, a_inD, a_t, b_prefix) := fun r => ⟨rfl, zz_in hb' hs⟩
    have haw : awt St a_ops a_given ≤ 6 := by
      unfold awt
      split
      · omega
      · have := nds_le (a_ops (St - 1)); omega
    refine br_t rfl (xw_await q4 hg (pk_lt 0 (awt St a_ops a_given) (fun ha => ?_) (fun ha => br_t rfl (yw_await q4 hg (fun _ => br_t rfl (done _)) (fun h => by omega)))))
    have hst : St ≠ 0 := fun e => by unfold awt at ha; rw [if_pos e] at ha; omega
    obtain ⟨g, hg1, hg2, hg3, hg4⟩ := q8 (St - 1) (by omega)
    have hn := nds_le (a_ops (St - 1))
    have hglt : g < nds (a_ops (St - 1)) := by
      unfold awt at ha
      rw [if_neg hst, hg1, nI_clamp (by omega)] at ha
      omega
    have y1 : ∀ post : Int32 → SY → Prop, wpY_out (fun r_27 => ((r_27 = 0 → (wpY_out (fun r_52 => ((r_52 = 0 → (wpY_out (fun r_77 => ((r_77 = 0 → (wpY_out (fun r_102 => ((r_102 = 0 → ((nI D = 2 → ((v3 = 0 → wY_subscript_88 post v1 v2 v3 v4 (nI D) (nI S) (nI A) (nI St) 0 (nI P) (nI F) (nI Cn) (nI Bs) f_accepted g_blamed (nI m) a_limits a_ops a_factors a_given a_subs a_cells a_pointX a_order a_inD a_t b_prefix) ∧ (¬ v3 = 0 → post (-1001) ((nI D), (nI S), (nI A), (nI St), 0, (nI P), (nI F), (nI Cn), (nI Bs), f_accepted, g_blamed, (nI m), a_limits, a_ops, a_factors, a_given, a_subs, a_cells, a_pointX, a_order, a_inD, a_t, b_prefix)))) ∧ (¬ nI D = 2 → wY_subscript_88 post v1 v2 v3 v4 (nI D) (nI S) (nI A) (nI St) 0 (nI P) (nI F) (nI Cn) (nI Bs) f_accepted g_blamed (nI m) a_limits a_ops a_factors a_given a_subs a_cells a_pointX a_order a_inD a_t b_prefix))) ∧ (¬ r_102 = 0 → post (-1001) ((nI D), (nI S), (nI A), (nI St), 0, (nI P), (nI F), (nI Cn), (nI Bs), f_accepted, g_blamed, (nI m), a_limits, a_ops, a_factors, a_given, a_subs, a_cells, a_pointX, a_order, a_inD, a_t, b_prefix)))) ((nI D), (nI S), (nI A), (nI St), 0, (nI P), (nI F), (nI Cn), (nI Bs), f_accepted, g_blamed, (nI m), a_limits, a_ops, a_factors, a_given, a_subs, a_cells, a_pointX, a_order, a_inD, a_t, b_prefix) v4 (-15) 15)) ∧ (¬ r_77 = 0 → post (-1001) ((nI D), (nI S), (nI A), (nI St), 0, (nI P), (nI F), (nI Cn), (nI Bs), f_accepted, g_blamed, (nI m), a_limits, a_ops, a_factors, a_given, a_subs, a_cells, a_pointX, a_order, a_inD, a_t, b_prefix)))) ((nI D), (nI S), (nI A), (nI St), 0, (nI P), (nI F), (nI Cn), (nI Bs), f_accepted, g_blamed, (nI m), a_limits, a_ops, a_factors, a_given, a_subs, a_cells, a_pointX, a_order, a_inD, a_t, b_prefix) v3 (-2) 2)) ∧ (¬ r_52 = 0 → post (-1001) ((nI D), (nI S), (nI A), (nI St), 0, (nI P), (nI F), (nI Cn), (nI Bs), f_accepted, g_blamed, (nI m), a_limits, a_ops, a_factors, a_given, a_subs, a_cells, a_pointX, a_order, a_inD, a_t, b_prefix)))) ((nI D), (nI S), (nI A), (nI St), 0, (nI P), (nI F), (nI Cn), (nI Bs), f_accepted, g_blamed, (nI m), a_limits, a_ops, a_factors, a_given, a_subs, a_cells, a_pointX, a_order, a_inD, a_t, b_prefix) v2 (-2) 2)) ∧ (¬ r_27 = 0 → post (-1001) ((nI D), (nI S), (nI A), (nI St), 0, (nI P), (nI F), (nI Cn), (nI Bs), f_accepted, g_blamed, (nI m), a_limits, a_ops, a_factors, a_given, a_subs, a_cells, a_pointX, a_order, a_inD, a_t, b_prefix)))) ((nI D), (nI S), (nI A), (nI St), 0, (nI P), (nI F), (nI Cn), (nI Bs), f_accepted, g_blamed, (nI m), a_limits, a_ops, a_factors, a_given, a_subs, a_cells, a_pointX, a_order, a_inD, a_t, b_prefix) v1 (-2) 2 → wpY_subscript post ((nI D), (nI S), (nI A), (nI St), 0, (nI P), (nI F), (nI Cn), (nI Bs), f_accepted, g_blamed, (nI m), a_limits, a_ops, a_factors, a_given, a_subs, a_cells, a_pointX, a_order, a_inD, a_t, b_prefix) v1 v2 v3 v4 :=
      fun post h => br_t rfl (yw_await q4 hg (fun e => by omega) (fun _ => br_f (by decide) h))
    refine x_in (fun z => br_t rfl (y1 _ (y_out (fun _ => br_f (by decide) (done _)) (fun g1 g2 => absurd z (nab g1 g2))))) (fun a1 a2 => br_f (by decide) ?_)
    have y2 := fun post h => y1 post (y_out (fun z => absurd z (nab a1 a2)) (fun _ _ => br_t rfl h))
    refine x_in (fun z => br_t rfl (y2 _ (y_out (fun _ => br_f (by decide) (done _)) (fun g1 g2 => absurd z (nab g1 g2))))) (fun b1 b2 => br_f (by decide) ?_)
    have y3 := fun post h => y2 post (y_out (fun z => absurd z (nab b1 b2)) (fun _ _ => br_t rfl h))
    refine x_in (fun z => br_t rfl (y3 _ (y_out (fun _ => br_f (by decide) (done _)) (fun g1 g2 => absurd z (nab g1 g2))))) (fun c1 c2 => br_f (by decide) ?_)
    have y4 := fun post h => y3 post (y_out (fun z => absurd z (nab c1 c2)) (fun _ _ => br_t rfl h))
    refine x_in (fun z => br_t rfl (y4 _ (y_out (fun _ => br_f (by decide) (done _)) (fun g1 g2 => absurd z (nab g1 g2))))) (fun d1 d2 => br_f (by decide) ?_)
    have y5 := fun post h => y4 post (y_out (fun z => absurd z (nab d1 d2)) (fun _ _ => br_t rfl h))
    have r1 := rng (A := -2) (B := 2) (by decide) (by decide) a1 a2
    have r2 := rng (A := -2) (B := 2) (by decide) (by decide) b1 b2
    have r3 := rng (A := -2) (B := 2) (by decide) (by decide) c1 c2
    have r4 := rng (A := -15) (B := 15) (by decide) (by decide) d1 d2
    have cs : (nI (St - 1)).toNatClampNeg = St - 1 := nI_clamp (by omega)
    have es : nI St - 1 = nI (St - 1) := nx_s1 (by omega)
    have hvi : vp_in (nI (St - 1)) 2 := vp_in_nI (by omega) (by omega)
    have e0 : (nI (St - 1) * 6 + a_given (nI (St - 1)).toNatClampNeg) * 4 = nI (((St - 1) * 6 + g) * 4) := by rw [cs, hg1, nx_m6, nI_add, nx_m4]
    have i0 : (nI (((St - 1) * 6 + g) * 4)).toNatClampNeg = ((St - 1) * 6 + g) * 4 := nI_clamp (by omega)
    have i1 : (nI (((St - 1) * 6 + g) * 4) + 1).toNatClampNeg = ((St - 1) * 6 + g) * 4 + 1 := cx_n _ (nI_1 _) (by omega)
    have i2 : (nI (((St - 1) * 6 + g) * 4) + 2).toNatClampNeg = ((St - 1) * 6 + g) * 4 + 2 := cx_n _ (nx_a2 _) (by omega)
    have i3 : (nI (((St - 1) * 6 + g) * 4) + 3).toNatClampNeg = ((St - 1) * 6 + g) * 4 + 3 := cx_n _ (nx_a3 _) (by omega)
    generalize hbase : ((St - 1) * 6 + g) * 4 = base at *
    have hb45 : base < 45 := by omega
    have hb4 : base % 4 = 0 := by omega
    generalize hsub : upd (upd (upd (upd a_subs base v1) (base + 1) v2) (base + 2) v3) (base + 3) v4 = sub'
    generalize hgv : upd a_given (St - 1) (nI (g + 1)) = gv'
    have hgvn : gv' (St - 1) = nI (g + 1) := by rw [← hgv]; exact pk_us
    -- the new state is related
    have rel : (D = 2 → v3 = 0) → i_Rel (k + 5) ((nI D), (nI S), (nI A), (nI St), 0, (nI P), (nI cnt), (nI F), (nI Cn), (nI Bs), f_accepted, f_blamed, (nI m), f_tunedFresh, f_rangeLow, f_rangeHigh, f_scanAt, f_scanFirst, f_scanCount, f_scanSize, f_scanPins, a_limits, a_ops, a_factors, gv', sub', a_pointX, a_numberAt, a_cells, a_seen, a_distances, a_matrix, a_prefix, a_prefixFrom, a_prefixTo, a_tunedOrder, a_tunedKey, a_toX, a_toZ, a_sysCoef, a_sysBound, a_sysCount, a_cand, a_hullLow, a_hullHigh, a_spanLow, a_spanHigh, a_cursor, a_limit, a_pin, a_echelon, a_pivot) ((nI D), (nI S), (nI A), (nI St), 0, (nI P), (nI F), (nI Cn), (nI Bs), f_accepted, g_blamed, (nI m), a_limits, a_ops, a_factors, gv', sub', a_cells, a_pointX, a_order, a_inD, a_t, b_prefix) := by
      intro hz
      refine zz_in ⟨q1, q2, q3, q4, q5, q6, fun j hj => ?_, fun s hs' => ?_, q9⟩ (fun h => absurd rfl h)
      · rw [← hsub]
        by_cases x3 : j = base + 3
        · subst x3; rw [iz_us]; exact ⟨fun h => absurd (by omega) h, r4, fun _ h => by omega⟩
        · rw [iz_un x3]
          by_cases x2 : j = base + 2
          · subst x2; rw [iz_us]; exact ⟨fun _ => r3, by omega, fun h _ => by rw [hz h]; decide⟩
          · rw [iz_un x2]
            by_cases x1 : j = base + 1
            · subst x1; rw [iz_us]; exact ⟨fun _ => r2, by omega, fun _ h => by omega⟩
            · rw [iz_un x1]
              by_cases x0 : j = base
              · subst x0; rw [iz_us]; exact ⟨fun _ => r1, by omega, fun _ h => by omega⟩
              · rw [iz_un x0]; exact q7 j hj
      · by_cases x : s = St - 1
        · subst x
          exact ⟨g + 1, hgvn, by omega, fun h => by omega, hg4⟩
        · obtain ⟨g', h1, h2, h3, h4⟩ := q8 s hs'
          exact ⟨g', by rw [← hgv, pk_un x]; exact h1, h2, h3, h4⟩
    have hgx : ∀ s, s < St → ∃ g', gv' s = nI g' ∧ g' ≤ nds (a_ops s) := fun s hs' => by
      by_cases x : s = St - 1
      · subst x; exact ⟨g + 1, hgvn, by omega⟩
      · obtain ⟨g', h1, h2, _⟩ := q8 s hs'
        exact ⟨g', by rw [← hgv, pk_un x]; exact h1, h2⟩
    have eaw : nI (nds (a_ops (St - 1))) - gv' (nI (St - 1)).toNatClampNeg = nI (awt St a_ops gv') := by
      unfold awt
      rw [cs, hgvn, pk_sub (by omega), if_neg hst, nI_clamp (by omega)]
    have eg : a_given (nI (St - 1)).toNatClampNeg + 1 = nI (g + 1) := by rw [cs, hg1, nI_1]
    have h92 : (D = 2 → v3 = 0) → wX_subscript_92 (fun r u' => wpY_subscript (fun r' v' => r' = r ∧ i_Rel (k + 5) u' v') ((nI D), (nI S), (nI A), (nI St), 0, (nI P), (nI F), (nI Cn), (nI Bs), f_accepted, g_blamed, (nI m), a_limits, a_ops, a_factors, a_given, a_subs, a_cells, a_pointX, a_order, a_inD, a_t, b_prefix) v1 v2 v3 v4) v1 v2 v3 v4 (nI D) (nI S) (nI A) (nI St) 0 (nI P) (nI cnt) (nI F) (nI Cn) (nI Bs) f_accepted f_blamed (nI m) f_tunedFresh f_rangeLow f_rangeHigh f_scanAt f_scanFirst f_scanCount f_scanSize f_scanPins a_limits a_ops a_factors a_given a_subs a_pointX a_numberAt a_cells a_seen a_distances a_matrix a_prefix a_prefixFrom a_prefixTo a_tunedOrder a_tunedKey a_toX a_toZ a_sysCoef a_sysBound a_sysCount a_cand a_hullLow a_hullHigh a_spanLow a_spanHigh a_cursor a_limit a_pin a_echelon a_pivot := by
      intro hz
      refine nm_r es ⟨hvi, nm_r e0 ⟨vp_in_nI (by omega) (by omega), nm_r (e' := upd a_subs base v1) (by rw [i0]) ⟨vx_n _ (nI_1 _) (by omega) (by omega), nm_r (e' := upd (upd a_subs base v1) (base + 1) v2) (by rw [i1]) ⟨vx_n _ (nx_a2 _) (by omega) (by omega), nm_r (e' := upd (upd (upd a_subs base v1) (base + 1) v2) (base + 2) v3) (by rw [i2]) ⟨vx_n _ (nx_a3 _) (by omega) (by omega), nm_r (e' := sub') (by rw [i3]; exact hsub) ⟨hvi, hvi, nm_r (e' := gv') (by rw [eg, cs]; exact hgv) (xw_await q4 hgx (y5 _ ?_))⟩⟩⟩⟩⟩⟩
      have h88 : wY_subscript_88 (fun r' v' => r' = nI (awt St a_ops gv') ∧ i_Rel (k + 5) ((nI D), (nI S), (nI A), (nI St), 0, (nI P), (nI cnt), (nI F), (nI Cn), (nI Bs), f_accepted, f_blamed, (nI m), f_tunedFresh, f_rangeLow, f_rangeHigh, f_scanAt, f_scanFirst, f_scanCount, f_scanSize, f_scanPins, a_limits, a_ops, a_factors, gv', sub', a_pointX, a_numberAt, a_cells, a_seen, a_distances, a_matrix, a_prefix, a_prefixFrom, a_prefixTo, a_tunedOrder, a_tunedKey, a_toX, a_toZ, a_sysCoef, a_sysBound, a_sysCount, a_cand, a_hullLow, a_hullHigh, a_spanLow, a_spanHigh, a_cursor, a_limit, a_pin, a_echelon, a_pivot) v') v1 v2 v3 v4 (nI D) (nI S) (nI A) (nI St) 0 (nI P) (nI F) (nI Cn) (nI Bs) f_accepted g_blamed (nI m) a_limits a_ops a_factors a_given a_subs a_cells a_pointX a_order a_inD a_t b_prefix := by
        refine nm_r es ⟨hvi, nm_r e0 ⟨vp_in_nI (by omega) (by omega), nm_r (e' := upd a_subs base v1) (by rw [i0]) ⟨vx_n _ (nI_1 _) (by omega) (by omega), nm_r (e' := upd (upd a_subs base v1) (base + 1) v2) (by rw [i1]) ⟨vx_n _ (nx_a2 _) (by omega) (by omega), nm_r (e' := upd (upd (upd a_subs base v1) (base + 1) v2) (base + 2) v3) (by rw [i2]) ⟨vx_n _ (nx_a3 _) (by omega) (by omega), nm_r (e' := sub') (by rw [i3]; exact hsub) ⟨hvi, hvi, nm_r (e' := gv') (by rw [eg, cs]; exact hgv) ⟨hvi, ?_⟩⟩⟩⟩⟩⟩⟩
        rw [show a_ops (nI (St - 1)).toNatClampNeg = a_ops (St - 1) from by rw [cs]]
        exact yd_needs ⟨hvi, eaw, rel hz⟩
      exact pk_eq D 2 (fun e => br_t (hz e) h88) (fun _ => h88)
    refine pk_eq D 2 (fun e => br_c (fun h3 => h92 (fun _ => h3)) (fun h3 => y5 _ (br_t (congrArg nI e) (br_f h3 (done _))))) (fun e => h92 (fun h => absurd h e))
  · exact br_f h0 (br_f h0 ⟨rfl, zz_in hb' hs⟩)
end
section
/-! coefficient, store, fill, cell, entry, climb, tile -/

theorem out0 {x : Int32} {N : Nat} (hN : N < 1000) (h : ¬ ∃ j, j ≤ N ∧ x = nI j) : x < 0 ∨ ¬ x ≤ nI N := by
  by_cases h1 : x < 0
  · exact Or.inl h1
  · right
    intro h2
    obtain ⟨j, hj, rfl⟩ := nI_of h1
    rw [nI_leI hj (by omega)] at h2
    exact h ⟨j, h2, rfl⟩
theorem i_vc_coefficient {k : Nat} {u : SX} {v : SY} (I : i_Rel k u v) (hk : k + 5 ≤ 2563) (v1 : Int32) (v2 : Int32) (v3 : Int32) : wpX_coefficient (fun r => wpY_coefficient (fun r' => r' = r ∧ i_Rel (k + 5) u v) v v1 v2 v3) u v1 v2 v3 := by
  refine zz_el (Q := fun u v => wpX_coefficient (fun r => wpY_coefficient (fun r' => r' = r ∧ i_Rel (k + 5) u v) v v1 v2 v3) u v1 v2 v3) ?_ I
  intro D S A St P cnt F Cn Bs m f_sealed f_accepted f_blamed f_tunedFresh f_scanAt f_scanFirst f_scanCount f_scanSize f_scanPins f_rangeLow f_rangeHigh a_limits a_ops a_factors a_given a_subs a_pointX a_numberAt a_cells a_seen a_distances a_matrix a_prefix a_prefixFrom a_prefixTo a_tunedOrder a_tunedKey a_toX a_toZ a_sysCount a_hullLow a_hullHigh a_cursor a_limit a_pin a_echelon a_pivot a_sysCoef a_sysBound a_cand a_spanLow a_spanHigh g_blamed a_order a_inD a_t b_prefix hb hs
  have hb' := hb
  obtain ⟨q1, q2, q3, q4, q5, q6, q7, q8, q9⟩ := hb
  have done : ∀ r : Int32, (r = r) ∧ i_Rel (k + 5) ((nI D), (nI S), (nI A), (nI St), f_sealed, (nI P), (nI cnt), (nI F), (nI Cn), (nI Bs), f_accepted, f_blamed, (nI m), f_tunedFresh, f_rangeLow, f_rangeHigh, f_scanAt, f_scanFirst, f_scanCount, f_scanSize, f_scanPins, a_limits, a_ops, a_factors, a_given, a_subs, a_pointX, a_numberAt, a_cells, a_seen, a_distances, a_matrix, a_prefix, a_prefixFrom, a_prefixTo, a_tunedOrder, a_tunedKey, a_toX, a_toZ, a_sysCoef, a_sysBound, a_sysCount, a_cand, a_hullLow, a_hullHigh, a_spanLow, a_spanHigh, a_cursor, a_limit, a_pin, a_echelon, a_pivot) ((nI D), (nI S), (nI A), (nI St), f_sealed, (nI P), (nI F), (nI Cn), (nI Bs), f_accepted, g_blamed, (nI m), a_limits, a_ops, a_factors, a_given, a_subs, a_cells, a_pointX, a_order, a_inD, a_t, b_prefix) := fun r => ⟨rfl, zz_in hb' hs⟩
  have e2D : 2 * nI D = nI (2 * D) := nx_m2 D
  have hle : ∀ {x a : Int32}, ¬ x ≤ a → a < x := fun h => Int32.not_le.mp h
  -- part
  by_cases hp : ∃ j, j ≤ 2 ∧ v1 = nI j
  · obtain ⟨p, hp, rfl⟩ := hp
    have y1 : ∀ post : Int32 → Prop, ((nI p = 2 → (wpY_out (fun r_86 => ((r_86 = 0 → (wpY_out (fun r_111 => ((r_111 = 0 → (vp_in ((v2 * 3) + v3) 18 ∧ post (a_limits ((v2 * 3) + v3).toNatClampNeg))) ∧ (¬ r_111 = 0 → post (-1001)))) ((nI D), (nI S), (nI A), (nI St), f_sealed, (nI P), (nI F), (nI Cn), (nI Bs), f_accepted, g_blamed, (nI m), a_limits, a_ops, a_factors, a_given, a_subs, a_cells, a_pointX, a_order, a_inD, a_t, b_prefix) v3 0 2)) ∧ (¬ r_86 = 0 → post (-1001)))) ((nI D), (nI S), (nI A), (nI St), f_sealed, (nI P), (nI F), (nI Cn), (nI Bs), f_accepted, g_blamed, (nI m), a_limits, a_ops, a_factors, a_given, a_subs, a_cells, a_pointX, a_order, a_inD, a_t, b_prefix) v2 0 (2 * nI D - 1))) ∧ (¬ nI p = 2 → (wpY_out (fun r_27 => ((r_27 = 0 → ((v2 = 6 → wY_coefficient_86 post (nI p) v2 v3 1 0 v3 (nI D) (nI S) (nI A) (nI St) f_sealed (nI P) (nI F) (nI Cn) (nI Bs) f_accepted g_blamed (nI m) a_limits a_ops a_factors a_given a_subs a_cells a_pointX a_order a_inD a_t b_prefix) ∧ (¬ v2 = 6 → wY_coefficient_86 post (nI p) v2 v3 3 0 v3 (nI D) (nI S) (nI A) (nI St) f_sealed (nI P) (nI F) (nI Cn) (nI Bs) f_accepted g_blamed (nI m) a_limits a_ops a_factors a_given a_subs a_cells a_pointX a_order a_inD a_t b_prefix))) ∧ (¬ r_27 = 0 → post (-1001)))) ((nI D), (nI S), (nI A), (nI St), f_sealed, (nI P), (nI F), (nI Cn), (nI Bs), f_accepted, g_blamed, (nI m), a_limits, a_ops, a_factors, a_given, a_subs, a_cells, a_pointX, a_order, a_inD, a_t, b_prefix) v2 0 6))) → wpY_coefficient post ((nI D), (nI S), (nI A), (nI St), f_sealed, (nI P), (nI F), (nI Cn), (nI Bs), f_accepted, g_blamed, (nI m), a_limits, a_ops, a_factors, a_given, a_subs, a_cells, a_pointX, a_order, a_inD, a_t, b_prefix) (nI p) v2 v3 :=
      fun post h => by
        unfold wpY_coefficient
        dsimp only
        exact y_out (fun z => absurd z (nab (nI_pos (by omega)) (nI_le (b := 2) hp (by omega)))) (fun _ _ => br_t rfl h)
    refine br_f (nI_pos (by omega)) (br_t (nI_le (b := 2) hp (by omega)) (pk_eq p 2 (fun e => ?_) (fun e => ?_)))
    · subst e
      by_cases hw : ∃ j, j < 2 * D ∧ v2 = nI j
      · obtain ⟨w, hw, rfl⟩ := hw
        have yw := ok_y hw (by omega)
        refine br_f (nI_pos (by omega)) ?_
        rw [e2D]
        refine br_f (nI_ge hw (by omega)) ?_
        have y2 : ∀ post : Int32 → Prop, wpY_out (fun r_111 => ((r_111 = 0 → (vp_in ((nI w * 3) + v3) 18 ∧ post (a_limits ((nI w * 3) + v3).toNatClampNeg))) ∧ (¬ r_111 = 0 → post (-1001)))) ((nI D), (nI S), (nI A), (nI St), f_sealed, (nI P), (nI F), (nI Cn), (nI Bs), f_accepted, g_blamed, (nI m), a_limits, a_ops, a_factors, a_given, a_subs, a_cells, a_pointX, a_order, a_inD, a_t, b_prefix) v3 0 2 → wpY_coefficient post ((nI D), (nI S), (nI A), (nI St), f_sealed, (nI P), (nI F), (nI Cn), (nI Bs), f_accepted, g_blamed, (nI m), a_limits, a_ops, a_factors, a_given, a_subs, a_cells, a_pointX, a_order, a_inD, a_t, b_prefix) (nI 2) (nI w) v3 := fun post h => y1 post (br_t rfl (by
          rw [e2D]
          exact y_out (fun z => absurd z (nab yw.1 yw.2)) (fun _ _ => br_t rfl h)))
        by_cases hi : ∃ j, j ≤ 2 ∧ v3 = nI j
        · obtain ⟨i, hi, rfl⟩ := hi
          have ei : nI w * 3 + nI i = nI (w * 3 + i) := by rw [nx_m3, nI_add]
          exact br_f (nI_pos (by omega)) (br_t (nI_le (b := 2) hi (by omega)) ⟨vx_n _ ei (by omega) (by omega), y2 _ (y_out (fun z => absurd z (nab (nI_pos (by omega)) (nI_le (b := 2) hi (by omega)))) (fun _ _ => br_t rfl ⟨vx_n _ ei (by omega) (by omega), done _⟩))⟩)
        · have ho := out0 (N := 2) (by omega) hi
          have yb := fun (r : Int32) (e : r = -1001) => y2 (fun r' => r' = r ∧ i_Rel (k + 5) ((nI D), (nI S), (nI A), (nI St), f_sealed, (nI P), (nI cnt), (nI F), (nI Cn), (nI Bs), f_accepted, f_blamed, (nI m), f_tunedFresh, f_rangeLow, f_rangeHigh, f_scanAt, f_scanFirst, f_scanCount, f_scanSize, f_scanPins, a_limits, a_ops, a_factors, a_given, a_subs, a_pointX, a_numberAt, a_cells, a_seen, a_distances, a_matrix, a_prefix, a_prefixFrom, a_prefixTo, a_tunedOrder, a_tunedKey, a_toX, a_toZ, a_sysCoef, a_sysBound, a_sysCount, a_cand, a_hullLow, a_hullHigh, a_spanLow, a_spanHigh, a_cursor, a_limit, a_pin, a_echelon, a_pivot) ((nI D), (nI S), (nI A), (nI St), f_sealed, (nI P), (nI F), (nI Cn), (nI Bs), f_accepted, g_blamed, (nI m), a_limits, a_ops, a_factors, a_given, a_subs, a_cells, a_pointX, a_order, a_inD, a_t, b_prefix)) (y_out (fun _ => br_f (by decide) ⟨e.symm, zz_in hb' hs⟩) (fun g1 g2 => absurd ho (nab g1 g2)))
          exact br_c (fun _ => yb _ rfl) (fun g => br_f (bna ho g) (yb _ rfl))
      · have hbad : v2 < 0 ∨ ¬ v2 < nI (2 * D) := by
          rcases in_or (x := v2) (N := 2 * D) (by omega) with h | h
          · exact absurd h hw
          · exact h
        have yb := fun (r : Int32) (e : r = -1001) => y1 (fun r' => r' = r ∧ i_Rel (k + 5) ((nI D), (nI S), (nI A), (nI St), f_sealed, (nI P), (nI cnt), (nI F), (nI Cn), (nI Bs), f_accepted, f_blamed, (nI m), f_tunedFresh, f_rangeLow, f_rangeHigh, f_scanAt, f_scanFirst, f_scanCount, f_scanSize, f_scanPins, a_limits, a_ops, a_factors, a_given, a_subs, a_pointX, a_numberAt, a_cells, a_seen, a_distances, a_matrix, a_prefix, a_prefixFrom, a_prefixTo, a_tunedOrder, a_tunedKey, a_toX, a_toZ, a_sysCoef, a_sysBound, a_sysCount, a_cand, a_hullLow, a_hullHigh, a_spanLow, a_spanHigh, a_cursor, a_limit, a_pin, a_echelon, a_pivot) ((nI D), (nI S), (nI A), (nI St), f_sealed, (nI P), (nI F), (nI Cn), (nI Bs), f_accepted, g_blamed, (nI m), a_limits, a_ops, a_factors, a_given, a_subs, a_cells, a_pointX, a_order, a_inD, a_t, b_prefix)) (br_t rfl (by
          rw [e2D]
          exact y_out (fun _ => br_f (by decide) ⟨e.symm, zz_in hb' hs⟩) (fun g1 g2 => absurd (bad_y (by omega) hbad) (nab g1 g2))))
        refine br_c (fun _ => yb _ rfl) (fun g => ?_)
        rw [e2D]
        exact br_t (Int32.not_lt.mp (fun z => by rcases hbad with h | h; exact g h; exact h z)) (yb _ rfl)
    · by_cases hj : ∃ j, j ≤ 6 ∧ v2 = nI j
      · obtain ⟨j, hj, rfl⟩ := hj
        have y2 : ∀ post : Int32 → Prop, ((nI j = 6 → wY_coefficient_86 post (nI p) (nI j) v3 1 0 v3 (nI D) (nI S) (nI A) (nI St) f_sealed (nI P) (nI F) (nI Cn) (nI Bs) f_accepted g_blamed (nI m) a_limits a_ops a_factors a_given a_subs a_cells a_pointX a_order a_inD a_t b_prefix) ∧ (¬ nI j = 6 → wY_coefficient_86 post (nI p) (nI j) v3 3 0 v3 (nI D) (nI S) (nI A) (nI St) f_sealed (nI P) (nI F) (nI Cn) (nI Bs) f_accepted g_blamed (nI m) a_limits a_ops a_factors a_given a_subs a_cells a_pointX a_order a_inD a_t b_prefix)) → wpY_coefficient post ((nI D), (nI S), (nI A), (nI St), f_sealed, (nI P), (nI F), (nI Cn), (nI Bs), f_accepted, g_blamed, (nI m), a_limits, a_ops, a_factors, a_given, a_subs, a_cells, a_pointX, a_order, a_inD, a_t, b_prefix) (nI p) (nI j) v3 := fun post h => y1 post (br_f (fun z => e ((nI_eq (b := 2) (by omega) (by omega)).mp z)) (y_out (fun z => absurd z (nab (nI_pos (by omega)) (nI_le (b := 6) hj (by omega)))) (fun _ _ => br_t rfl h)))
        refine br_f (nI_pos (by omega)) (br_f (nI_nlt (a := 6) hj (by omega)) ?_)
        by_cases hi : ∃ i, i ≤ (if j = 6 then 1 else 3) ∧ v3 = nI i
        · obtain ⟨i, hi, rfl⟩ := hi
          have hi3 : i ≤ 3 := by split at hi <;> omega
          -- both sides behind the checks
          have core : ∀ post : Int32 → Prop, (∀ r : Int32, post r → ((nI p < nI St → ((nI j = 6 → ((nI i = 0 → vp_in (nI p) 2 ∧ post (a_ops (nI p).toNatClampNeg)) ∧ (¬ nI i = 0 → vp_in (nI p) 2 ∧ post (a_factors (nI p).toNatClampNeg)))) ∧ (¬ nI j = 6 → (vp_in (nI p) 2 ∧ ((nI j < a_given (nI p).toNatClampNeg → (vp_in ((((nI p * 6) + nI j) * 4) + nI i) 48 ∧ post (a_subs ((((nI p * 6) + nI j) * 4) + nI i).toNatClampNeg))) ∧ (¬ nI j < a_given (nI p).toNatClampNeg → post (-1012))))))) ∧ (¬ nI p < nI St → post (-1012))) → True) := fun _ _ _ _ => trivial
          have hp2 : p < 2 := by omega
          have vp : vp_in (nI p) 2 := vp_in_nI hp2 (by omega)
          have ei : (nI p * 6 + nI j) * 4 + nI i = nI ((p * 6 + j) * 4 + i) := by rw [nx_m6, nI_add, nx_m4, nI_add]
          have sel : ∃ r : Int32, ∀ post : Int32 → Prop, post r → ((nI p < nI St → ((nI j = 6 → ((nI i = 0 → vp_in (nI p) 2 ∧ post (a_ops (nI p).toNatClampNeg)) ∧ (¬ nI i = 0 → vp_in (nI p) 2 ∧ post (a_factors (nI p).toNatClampNeg)))) ∧ (¬ nI j = 6 → (vp_in (nI p) 2 ∧ ((nI j < a_given (nI p).toNatClampNeg → (vp_in ((((nI p * 6) + nI j) * 4) + nI i) 48 ∧ post (a_subs ((((nI p * 6) + nI j) * 4) + nI i).toNatClampNeg))) ∧ (¬ nI j < a_given (nI p).toNatClampNeg → post (-1012))))))) ∧ (¬ nI p < nI St → post (-1012))) := by
            by_cases h1 : nI p < nI St
            · by_cases h2 : nI j = 6
              · by_cases h3 : nI i = 0
                · exact ⟨_, fun post h => br_t h1 (br_t h2 (br_t h3 ⟨vp, h⟩))⟩
                · exact ⟨_, fun post h => br_t h1 (br_t h2 (br_f h3 ⟨vp, h⟩))⟩
              · have hj6 : j ≠ 6 := fun z => h2 (congrArg nI z)
                by_cases h3 : nI j < a_given (nI p).toNatClampNeg
                · exact ⟨_, fun post h => br_t h1 (br_f h2 ⟨vp, br_t h3 ⟨vx_n _ ei (by omega) (by omega), h⟩⟩)⟩
                · exact ⟨_, fun post h => br_t h1 (br_f h2 ⟨vp, br_f h3 h⟩)⟩
            · exact ⟨_, fun post h => br_f h1 h⟩
          obtain ⟨r, hr⟩ := sel
          have y86 : ∀ (post : Int32 → Prop) (c : Nat), post r → i ≤ c → c < 1000 → wY_coefficient_86 post (nI p) (nI j) (nI i) (nI c) 0 (nI i) (nI D) (nI S) (nI A) (nI St) f_sealed (nI P) (nI F) (nI Cn) (nI Bs) f_accepted g_blamed (nI m) a_limits a_ops a_factors a_given a_subs a_cells a_pointX a_order a_inD a_t b_prefix := fun post c h hc hc' => y_out (fun z => absurd z (nab (nI_pos (by omega)) (nI_le hc (by omega)))) (fun _ _ => br_t rfl (hr post h))
          have yy : ∀ post : Int32 → Prop, post r → wpY_coefficient post ((nI D), (nI S), (nI A), (nI St), f_sealed, (nI P), (nI F), (nI Cn), (nI Bs), f_accepted, g_blamed, (nI m), a_limits, a_ops, a_factors, a_given, a_subs, a_cells, a_pointX, a_order, a_inD, a_t, b_prefix) (nI p) (nI j) (nI i) := fun post h => y2 post (pk_eq j 6 (fun z => y86 post 1 h (by rw [if_pos z] at hi; exact hi) (by omega)) (fun z => y86 post 3 h hi3 (by omega)))
          have x100 : wX_coefficient_100 (fun r => wpY_coefficient (fun r' => r' = r ∧ i_Rel (k + 5) ((nI D), (nI S), (nI A), (nI St), f_sealed, (nI P), (nI cnt), (nI F), (nI Cn), (nI Bs), f_accepted, f_blamed, (nI m), f_tunedFresh, f_rangeLow, f_rangeHigh, f_scanAt, f_scanFirst, f_scanCount, f_scanSize, f_scanPins, a_limits, a_ops, a_factors, a_given, a_subs, a_pointX, a_numberAt, a_cells, a_seen, a_distances, a_matrix, a_prefix, a_prefixFrom, a_prefixTo, a_tunedOrder, a_tunedKey, a_toX, a_toZ, a_sysCoef, a_sysBound, a_sysCount, a_cand, a_hullLow, a_hullHigh, a_spanLow, a_spanHigh, a_cursor, a_limit, a_pin, a_echelon, a_pivot) ((nI D), (nI S), (nI A), (nI St), f_sealed, (nI P), (nI F), (nI Cn), (nI Bs), f_accepted, g_blamed, (nI m), a_limits, a_ops, a_factors, a_given, a_subs, a_cells, a_pointX, a_order, a_inD, a_t, b_prefix)) ((nI D), (nI S), (nI A), (nI St), f_sealed, (nI P), (nI F), (nI Cn), (nI Bs), f_accepted, g_blamed, (nI m), a_limits, a_ops, a_factors, a_given, a_subs, a_cells, a_pointX, a_order, a_inD, a_t, b_prefix) (nI p) (nI j) (nI i)) (nI p) (nI j) (nI i) (nI D) (nI S) (nI A) (nI St) f_sealed (nI P) (nI cnt) (nI F) (nI Cn) (nI Bs) f_accepted f_blamed (nI m) f_tunedFresh f_rangeLow f_rangeHigh f_scanAt f_scanFirst f_scanCount f_scanSize f_scanPins a_limits a_ops a_factors a_given a_subs a_pointX a_numberAt a_cells a_seen a_distances a_matrix a_prefix a_prefixFrom a_prefixTo a_tunedOrder a_tunedKey a_toX a_toZ a_sysCoef a_sysBound a_sysCount a_cand a_hullLow a_hullHigh a_spanLow a_spanHigh a_cursor a_limit a_pin a_echelon a_pivot := hr (fun r => wpY_coefficient (fun r' => r' = r ∧ i_Rel (k + 5) ((nI D), (nI S), (nI A), (nI St), f_sealed, (nI P), (nI cnt), (nI F), (nI Cn), (nI Bs), f_accepted, f_blamed, (nI m), f_tunedFresh, f_rangeLow, f_rangeHigh, f_scanAt, f_scanFirst, f_scanCount, f_scanSize, f_scanPins, a_limits, a_ops, a_factors, a_given, a_subs, a_pointX, a_numberAt, a_cells, a_seen, a_distances, a_matrix, a_prefix, a_prefixFrom, a_prefixTo, a_tunedOrder, a_tunedKey, a_toX, a_toZ, a_sysCoef, a_sysBound, a_sysCount, a_cand, a_hullLow, a_hullHigh, a_spanLow, a_spanHigh, a_cursor, a_limit, a_pin, a_echelon, a_pivot) ((nI D), (nI S), (nI A), (nI St), f_sealed, (nI P), (nI F), (nI Cn), (nI Bs), f_accepted, g_blamed, (nI m), a_limits, a_ops, a_factors, a_given, a_subs, a_cells, a_pointX, a_order, a_inD, a_t, b_prefix)) ((nI D), (nI S), (nI A), (nI St), f_sealed, (nI P), (nI F), (nI Cn), (nI Bs), f_accepted, g_blamed, (nI m), a_limits, a_ops, a_factors, a_given, a_subs, a_cells, a_pointX, a_order, a_inD, a_t, b_prefix) (nI p) (nI j) (nI i)) (yy _ (done _))
          have x85 : wX_coefficient_85 (fun r => wpY_coefficient (fun r' => r' = r ∧ i_Rel (k + 5) ((nI D), (nI S), (nI A), (nI St), f_sealed, (nI P), (nI cnt), (nI F), (nI Cn), (nI Bs), f_accepted, f_blamed, (nI m), f_tunedFresh, f_rangeLow, f_rangeHigh, f_scanAt, f_scanFirst, f_scanCount, f_scanSize, f_scanPins, a_limits, a_ops, a_factors, a_given, a_subs, a_pointX, a_numberAt, a_cells, a_seen, a_distances, a_matrix, a_prefix, a_prefixFrom, a_prefixTo, a_tunedOrder, a_tunedKey, a_toX, a_toZ, a_sysCoef, a_sysBound, a_sysCount, a_cand, a_hullLow, a_hullHigh, a_spanLow, a_spanHigh, a_cursor, a_limit, a_pin, a_echelon, a_pivot) ((nI D), (nI S), (nI A), (nI St), f_sealed, (nI P), (nI F), (nI Cn), (nI Bs), f_accepted, g_blamed, (nI m), a_limits, a_ops, a_factors, a_given, a_subs, a_cells, a_pointX, a_order, a_inD, a_t, b_prefix)) ((nI D), (nI S), (nI A), (nI St), f_sealed, (nI P), (nI F), (nI Cn), (nI Bs), f_accepted, g_blamed, (nI m), a_limits, a_ops, a_factors, a_given, a_subs, a_cells, a_pointX, a_order, a_inD, a_t, b_prefix) (nI p) (nI j) (nI i)) (nI p) (nI j) (nI i) (nI D) (nI S) (nI A) (nI St) f_sealed (nI P) (nI cnt) (nI F) (nI Cn) (nI Bs) f_accepted f_blamed (nI m) f_tunedFresh f_rangeLow f_rangeHigh f_scanAt f_scanFirst f_scanCount f_scanSize f_scanPins a_limits a_ops a_factors a_given a_subs a_pointX a_numberAt a_cells a_seen a_distances a_matrix a_prefix a_prefixFrom a_prefixTo a_tunedOrder a_tunedKey a_toX a_toZ a_sysCoef a_sysBound a_sysCount a_cand a_hullLow a_hullHigh a_spanLow a_spanHigh a_cursor a_limit a_pin a_echelon a_pivot := pk_eq j 6 (fun z => br_t (nI_le (b := 1) (by rw [if_pos z] at hi; exact hi) (by omega)) x100) (fun _ => x100)
          exact br_t (nI_pos' (by omega)) (pk_le 6 j (fun _ => x85) (fun z => br_f (nI_nlt (a := 3) hi3 (by omega)) x85))
        · have yb : wpY_coefficient (fun r' => r' = -1001 ∧ i_Rel (k + 5) ((nI D), (nI S), (nI A), (nI St), f_sealed, (nI P), (nI cnt), (nI F), (nI Cn), (nI Bs), f_accepted, f_blamed, (nI m), f_tunedFresh, f_rangeLow, f_rangeHigh, f_scanAt, f_scanFirst, f_scanCount, f_scanSize, f_scanPins, a_limits, a_ops, a_factors, a_given, a_subs, a_pointX, a_numberAt, a_cells, a_seen, a_distances, a_matrix, a_prefix, a_prefixFrom, a_prefixTo, a_tunedOrder, a_tunedKey, a_toX, a_toZ, a_sysCoef, a_sysBound, a_sysCount, a_cand, a_hullLow, a_hullHigh, a_spanLow, a_spanHigh, a_cursor, a_limit, a_pin, a_echelon, a_pivot) ((nI D), (nI S), (nI A), (nI St), f_sealed, (nI P), (nI F), (nI Cn), (nI Bs), f_accepted, g_blamed, (nI m), a_limits, a_ops, a_factors, a_given, a_subs, a_cells, a_pointX, a_order, a_inD, a_t, b_prefix)) ((nI D), (nI S), (nI A), (nI St), f_sealed, (nI P), (nI F), (nI Cn), (nI Bs), f_accepted, g_blamed, (nI m), a_limits, a_ops, a_factors, a_given, a_subs, a_cells, a_pointX, a_order, a_inD, a_t, b_prefix) (nI p) (nI j) v3 := by
            refine y2 _ (pk_eq j 6 (fun z => ?_) (fun z => ?_))
            · rw [if_pos z] at hi
              have ho := out0 (N := 1) (by omega) hi
              exact y_out (fun _ => br_f (by decide) (done _)) (fun g1 g2 => absurd ho (nab g1 g2))
            · rw [if_neg z] at hi
              have ho := out0 (N := 3) (by omega) hi
              exact y_out (fun _ => br_f (by decide) (done _)) (fun g1 g2 => absurd ho (nab g1 g2))
          refine br_c (fun g0 => pk_le 6 j (fun z => ?_) (fun z => ?_)) (fun _ => yb)
          · rw [if_pos (by omega)] at hi
            have ho := out0 (N := 1) (by omega) hi
            exact br_t (congrArg nI (show j = 6 by omega)) (br_f (bna ho (Int32.not_lt.mpr g0)) yb)
          · rw [if_neg (by omega)] at hi
            have ho := out0 (N := 3) (by omega) hi
            exact br_t (hle (bna ho (Int32.not_lt.mpr g0))) yb
      · have ho := out0 (N := 6) (by omega) hj
        have yb := fun (r : Int32) (e' : r = -1001) => y1 (fun r' => r' = r ∧ i_Rel (k + 5) ((nI D), (nI S), (nI A), (nI St), f_sealed, (nI P), (nI cnt), (nI F), (nI Cn), (nI Bs), f_accepted, f_blamed, (nI m), f_tunedFresh, f_rangeLow, f_rangeHigh, f_scanAt, f_scanFirst, f_scanCount, f_scanSize, f_scanPins, a_limits, a_ops, a_factors, a_given, a_subs, a_pointX, a_numberAt, a_cells, a_seen, a_distances, a_matrix, a_prefix, a_prefixFrom, a_prefixTo, a_tunedOrder, a_tunedKey, a_toX, a_toZ, a_sysCoef, a_sysBound, a_sysCount, a_cand, a_hullLow, a_hullHigh, a_spanLow, a_spanHigh, a_cursor, a_limit, a_pin, a_echelon, a_pivot) ((nI D), (nI S), (nI A), (nI St), f_sealed, (nI P), (nI F), (nI Cn), (nI Bs), f_accepted, g_blamed, (nI m), a_limits, a_ops, a_factors, a_given, a_subs, a_cells, a_pointX, a_order, a_inD, a_t, b_prefix)) (br_f (fun z => e ((nI_eq (b := 2) (by omega) (by omega)).mp z)) (y_out (fun _ => br_f (by decide) ⟨e'.symm, zz_in hb' hs⟩) (fun g1 g2 => absurd ho (nab g1 g2))))
        exact br_c (fun _ => yb _ rfl) (fun g => br_t (hle (bna ho g)) (yb _ rfl))
  · have ho := out0 (N := 2) (by omega) hp
    have yb : wpY_coefficient (fun r' => r' = -1001 ∧ i_Rel (k + 5) ((nI D), (nI S), (nI A), (nI St), f_sealed, (nI P), (nI cnt), (nI F), (nI Cn), (nI Bs), f_accepted, f_blamed, (nI m), f_tunedFresh, f_rangeLow, f_rangeHigh, f_scanAt, f_scanFirst, f_scanCount, f_scanSize, f_scanPins, a_limits, a_ops, a_factors, a_given, a_subs, a_pointX, a_numberAt, a_cells, a_seen, a_distances, a_matrix, a_prefix, a_prefixFrom, a_prefixTo, a_tunedOrder, a_tunedKey, a_toX, a_toZ, a_sysCoef, a_sysBound, a_sysCount, a_cand, a_hullLow, a_hullHigh, a_spanLow, a_spanHigh, a_cursor, a_limit, a_pin, a_echelon, a_pivot) ((nI D), (nI S), (nI A), (nI St), f_sealed, (nI P), (nI F), (nI Cn), (nI Bs), f_accepted, g_blamed, (nI m), a_limits, a_ops, a_factors, a_given, a_subs, a_cells, a_pointX, a_order, a_inD, a_t, b_prefix)) ((nI D), (nI S), (nI A), (nI St), f_sealed, (nI P), (nI F), (nI Cn), (nI Bs), f_accepted, g_blamed, (nI m), a_limits, a_ops, a_factors, a_given, a_subs, a_cells, a_pointX, a_order, a_inD, a_t, b_prefix) v1 v2 v3 := by
        unfold wpY_coefficient
        dsimp only
        exact y_out (fun _ => br_f (by decide) (done _)) (fun g1 g2 => absurd ho (nab g1 g2))
    exact br_c (fun _ => yb) (fun g => br_f (bna ho g) yb)
theorem i_vc_store {k : Nat} {u : SX} {v : SY} (I : i_Rel k u v) (hk : k + 5 ≤ 2563) (v1 : Int32) (v2 : Int32) (v3 : Int32) : wpX_store (fun r u' => wpY_store (fun r' v' => r' = r ∧ i_Rel (k + 5) u' v') v v1 v2 v3) u v1 v2 v3 := by
  refine zz_el (Q := fun u v => wpX_store (fun r u' => wpY_store (fun r' v' => r' = r ∧ i_Rel (k + 5) u' v') v v1 v2 v3) u v1 v2 v3) ?_ I
  intro D S A St P cnt F Cn Bs m f_sealed f_accepted f_blamed f_tunedFresh f_scanAt f_scanFirst f_scanCount f_scanSize f_scanPins f_rangeLow f_rangeHigh a_limits a_ops a_factors a_given a_subs a_pointX a_numberAt a_cells a_seen a_distances a_matrix a_prefix a_prefixFrom a_prefixTo a_tunedOrder a_tunedKey a_toX a_toZ a_sysCount a_hullLow a_hullHigh a_cursor a_limit a_pin a_echelon a_pivot a_sysCoef a_sysBound a_cand a_spanLow a_spanHigh g_blamed a_order a_inD a_t b_prefix hb hs
  have hb' := hb
  obtain ⟨q1, q2, q3, q4, q5, q6, q7, q8, q9⟩ := hb
  have done : ∀ r : Int32, (r = r) ∧ i_Rel (k + 5) ((nI D), (nI S), (nI A), (nI St), f_sealed, (nI P), (nI cnt), (nI F), (nI Cn), (nI Bs), f_accepted, f_blamed, (nI m), f_tunedFresh, f_rangeLow, f_rangeHigh, f_scanAt, f_scanFirst, f_scanCount, f_scanSize, f_scanPins, a_limits, a_ops, a_factors, a_given, a_subs, a_pointX, a_numberAt, a_cells, a_seen, a_distances, a_matrix, a_prefix, a_prefixFrom, a_prefixTo, a_tunedOrder, a_tunedKey, a_toX, a_toZ, a_sysCoef, a_sysBound, a_sysCount, a_cand, a_hullLow, a_hullHigh, a_spanLow, a_spanHigh, a_cursor, a_limit, a_pin, a_echelon, a_pivot) ((nI D), (nI S), (nI A), (nI St), f_sealed, (nI P), (nI F), (nI Cn), (nI Bs), f_accepted, g_blamed, (nI m), a_limits, a_ops, a_factors, a_given, a_subs, a_cells, a_pointX, a_order, a_inD, a_t, b_prefix) := fun r => ⟨rfl, zz_in hb' hs⟩
  rcases in_or (x := v1) (N := A) (by omega) with ⟨r, hr, rfl⟩ | hbad
  · have yr := ok_y hr (by omega)
    rcases in_or (x := v2) (N := A) (by omega) with ⟨c, hc, rfl⟩ | hbad
    · have yc := ok_y hc (by omega)
      have e : nI r * 15 + nI c = nI (r * 15 + c) := by rw [nx_m15, nI_add]
      refine br_f (nI_pos (by omega)) (br_f (nI_ge hr (by omega)) (br_f (nI_pos (by omega)) (br_t (nI_lt hc (by omega)) ⟨vx_n _ e (by omega) (by omega), nm_r (e' := upd a_cells (r * 15 + c) v3) (by rw [cx_n _ e (by omega)]) ?_⟩)))
      unfold wpY_store
      dsimp only
      exact y_out (fun z => absurd z (nab yr.1 yr.2)) (fun _ _ => br_t rfl (y_out (fun z => absurd z (nab yc.1 yc.2)) (fun _ _ => br_t rfl ⟨vx_n _ e (by omega) (by omega), nm_r (e' := upd a_cells (r * 15 + c) v3) (by rw [cx_n _ e (by omega)]) ⟨rfl, zz_in hb' hs⟩⟩)))
    · have yb : wpY_store (fun r' v' => r' = -1001 ∧ i_Rel (k + 5) ((nI D), (nI S), (nI A), (nI St), f_sealed, (nI P), (nI cnt), (nI F), (nI Cn), (nI Bs), f_accepted, f_blamed, (nI m), f_tunedFresh, f_rangeLow, f_rangeHigh, f_scanAt, f_scanFirst, f_scanCount, f_scanSize, f_scanPins, a_limits, a_ops, a_factors, a_given, a_subs, a_pointX, a_numberAt, a_cells, a_seen, a_distances, a_matrix, a_prefix, a_prefixFrom, a_prefixTo, a_tunedOrder, a_tunedKey, a_toX, a_toZ, a_sysCoef, a_sysBound, a_sysCount, a_cand, a_hullLow, a_hullHigh, a_spanLow, a_spanHigh, a_cursor, a_limit, a_pin, a_echelon, a_pivot) v') ((nI D), (nI S), (nI A), (nI St), f_sealed, (nI P), (nI F), (nI Cn), (nI Bs), f_accepted, g_blamed, (nI m), a_limits, a_ops, a_factors, a_given, a_subs, a_cells, a_pointX, a_order, a_inD, a_t, b_prefix) (nI r) v2 v3 := by
          unfold wpY_store
          dsimp only
          exact y_out (fun z => absurd z (nab yr.1 yr.2)) (fun _ _ => br_t rfl (y_out (fun _ => br_f (by decide) (done _)) (fun g1 g2 => absurd (bad_y (by omega) hbad) (nab g1 g2))))
      exact br_f (nI_pos (by omega)) (br_f (nI_ge hr (by omega)) (br_c (fun _ => yb) (fun g => br_f (fun z => by rcases hbad with h | h; exact g h; exact h z) yb)))
  · have yb : wpY_store (fun r' v' => r' = -1001 ∧ i_Rel (k + 5) ((nI D), (nI S), (nI A), (nI St), f_sealed, (nI P), (nI cnt), (nI F), (nI Cn), (nI Bs), f_accepted, f_blamed, (nI m), f_tunedFresh, f_rangeLow, f_rangeHigh, f_scanAt, f_scanFirst, f_scanCount, f_scanSize, f_scanPins, a_limits, a_ops, a_factors, a_given, a_subs, a_pointX, a_numberAt, a_cells, a_seen, a_distances, a_matrix, a_prefix, a_prefixFrom, a_prefixTo, a_tunedOrder, a_tunedKey, a_toX, a_toZ, a_sysCoef, a_sysBound, a_sysCount, a_cand, a_hullLow, a_hullHigh, a_spanLow, a_spanHigh, a_cursor, a_limit, a_pin, a_echelon, a_pivot) v') ((nI D), (nI S), (nI A), (nI St), f_sealed, (nI P), (nI F), (nI Cn), (nI Bs), f_accepted, g_blamed, (nI m), a_limits, a_ops, a_factors, a_given, a_subs, a_cells, a_pointX, a_order, a_inD, a_t, b_prefix) v1 v2 v3 := by
        unfold wpY_store
        dsimp only
        exact y_out (fun _ => br_f (by decide) (done _)) (fun g1 g2 => absurd (bad_y (by omega) hbad) (nab g1 g2))
    exact br_c (fun _ => yb) (fun g => br_t (Int32.not_lt.mp (fun z => by rcases hbad with h | h; exact g h; exact h z)) yb)
theorem i_vc_cell {k : Nat} {u : SX} {v : SY} (I : i_Rel k u v) (hk : k + 5 ≤ 2563) (v1 : Int32) (v2 : Int32) (v3 : Int32) : wpX_cell (fun r => wpY_cell (fun r' => r' = r ∧ i_Rel (k + 5) u v) v v1 v2 v3) u v1 v2 v3 := by
  refine zz_el (Q := fun u v => wpX_cell (fun r => wpY_cell (fun r' => r' = r ∧ i_Rel (k + 5) u v) v v1 v2 v3) u v1 v2 v3) ?_ I
  intro D S A St P cnt F Cn Bs m f_sealed f_accepted f_blamed f_tunedFresh f_scanAt f_scanFirst f_scanCount f_scanSize f_scanPins f_rangeLow f_rangeHigh a_limits a_ops a_factors a_given a_subs a_pointX a_numberAt a_cells a_seen a_distances a_matrix a_prefix a_prefixFrom a_prefixTo a_tunedOrder a_tunedKey a_toX a_toZ a_sysCount a_hullLow a_hullHigh a_cursor a_limit a_pin a_echelon a_pivot a_sysCoef a_sysBound a_cand a_spanLow a_spanHigh g_blamed a_order a_inD a_t b_prefix hb hs
  have hb' := hb
  obtain ⟨q1, q2, q3, q4, q5, q6, q7, q8, q9⟩ := hb
  have done : ∀ r : Int32, (r = r) ∧ i_Rel (k + 5) ((nI D), (nI S), (nI A), (nI St), f_sealed, (nI P), (nI cnt), (nI F), (nI Cn), (nI Bs), f_accepted, f_blamed, (nI m), f_tunedFresh, f_rangeLow, f_rangeHigh, f_scanAt, f_scanFirst, f_scanCount, f_scanSize, f_scanPins, a_limits, a_ops, a_factors, a_given, a_subs, a_pointX, a_numberAt, a_cells, a_seen, a_distances, a_matrix, a_prefix, a_prefixFrom, a_prefixTo, a_tunedOrder, a_tunedKey, a_toX, a_toZ, a_sysCoef, a_sysBound, a_sysCount, a_cand, a_hullLow, a_hullHigh, a_spanLow, a_spanHigh, a_cursor, a_limit, a_pin, a_echelon, a_pivot) ((nI D), (nI S), (nI A), (nI St), f_sealed, (nI P), (nI F), (nI Cn), (nI Bs), f_accepted, g_blamed, (nI m), a_limits, a_ops, a_factors, a_given, a_subs, a_cells, a_pointX, a_order, a_inD, a_t, b_prefix) := fun r => ⟨rfl, zz_in hb' hs⟩
  by_cases hp : ∃ j, j ≤ 2 ∧ v1 = nI j
  · obtain ⟨p, hp, rfl⟩ := hp
    have yp := nab (nI_pos (n := p) (by omega)) (nI_le (b := 2) hp (by omega))
    refine br_f (nI_pos (by omega)) (br_t (nI_le (b := 2) hp (by omega)) ?_)
    rcases in_or (x := v2) (N := A) (by omega) with ⟨r, hr, rfl⟩ | hbad
    · have yr := ok_y hr (by omega)
      rcases in_or (x := v3) (N := A) (by omega) with ⟨c, hc, rfl⟩ | hbad
      · have yc := ok_y hc (by omega)
        have e : nI p * 225 + nI r * 15 + nI c = nI (p * 225 + r * 15 + c) := by rw [nx_m225, nx_m15, nI_add, nI_add]
        refine br_f (nI_pos (by omega)) (br_f (nI_ge hr (by omega)) (br_f (nI_pos (by omega)) (br_t (nI_lt hc (by omega)) ⟨vx_n _ e (by omega) (by omega), ?_⟩)))
        unfold wpY_cell
        dsimp only
        exact y_out (fun z => absurd z yp) (fun _ _ => br_t rfl (y_out (fun z => absurd z (nab yr.1 yr.2)) (fun _ _ => br_t rfl (y_out (fun z => absurd z (nab yc.1 yc.2)) (fun _ _ => br_t rfl ⟨vx_n _ e (by omega) (by omega), done _⟩)))))
      · have yb : wpY_cell (fun r' => r' = -1001 ∧ i_Rel (k + 5) ((nI D), (nI S), (nI A), (nI St), f_sealed, (nI P), (nI cnt), (nI F), (nI Cn), (nI Bs), f_accepted, f_blamed, (nI m), f_tunedFresh, f_rangeLow, f_rangeHigh, f_scanAt, f_scanFirst, f_scanCount, f_scanSize, f_scanPins, a_limits, a_ops, a_factors, a_given, a_subs, a_pointX, a_numberAt, a_cells, a_seen, a_distances, a_matrix, a_prefix, a_prefixFrom, a_prefixTo, a_tunedOrder, a_tunedKey, a_toX, a_toZ, a_sysCoef, a_sysBound, a_sysCount, a_cand, a_hullLow, a_hullHigh, a_spanLow, a_spanHigh, a_cursor, a_limit, a_pin, a_echelon, a_pivot) ((nI D), (nI S), (nI A), (nI St), f_sealed, (nI P), (nI F), (nI Cn), (nI Bs), f_accepted, g_blamed, (nI m), a_limits, a_ops, a_factors, a_given, a_subs, a_cells, a_pointX, a_order, a_inD, a_t, b_prefix)) ((nI D), (nI S), (nI A), (nI St), f_sealed, (nI P), (nI F), (nI Cn), (nI Bs), f_accepted, g_blamed, (nI m), a_limits, a_ops, a_factors, a_given, a_subs, a_cells, a_pointX, a_order, a_inD, a_t, b_prefix) (nI p) (nI r) v3 := by
            unfold wpY_cell
            dsimp only
            exact y_out (fun z => absurd z yp) (fun _ _ => br_t rfl (y_out (fun z => absurd z (nab yr.1 yr.2)) (fun _ _ => br_t rfl (y_out (fun _ => br_f (by decide) (done _)) (fun g1 g2 => absurd (bad_y (by omega) hbad) (nab g1 g2))))))
        exact br_f (nI_pos (by omega)) (br_f (nI_ge hr (by omega)) (br_c (fun _ => yb) (fun g => br_f (fun z => by rcases hbad with h | h; exact g h; exact h z) yb)))
    · have yb : wpY_cell (fun r' => r' = -1001 ∧ i_Rel (k + 5) ((nI D), (nI S), (nI A), (nI St), f_sealed, (nI P), (nI cnt), (nI F), (nI Cn), (nI Bs), f_accepted, f_blamed, (nI m), f_tunedFresh, f_rangeLow, f_rangeHigh, f_scanAt, f_scanFirst, f_scanCount, f_scanSize, f_scanPins, a_limits, a_ops, a_factors, a_given, a_subs, a_pointX, a_numberAt, a_cells, a_seen, a_distances, a_matrix, a_prefix, a_prefixFrom, a_prefixTo, a_tunedOrder, a_tunedKey, a_toX, a_toZ, a_sysCoef, a_sysBound, a_sysCount, a_cand, a_hullLow, a_hullHigh, a_spanLow, a_spanHigh, a_cursor, a_limit, a_pin, a_echelon, a_pivot) ((nI D), (nI S), (nI A), (nI St), f_sealed, (nI P), (nI F), (nI Cn), (nI Bs), f_accepted, g_blamed, (nI m), a_limits, a_ops, a_factors, a_given, a_subs, a_cells, a_pointX, a_order, a_inD, a_t, b_prefix)) ((nI D), (nI S), (nI A), (nI St), f_sealed, (nI P), (nI F), (nI Cn), (nI Bs), f_accepted, g_blamed, (nI m), a_limits, a_ops, a_factors, a_given, a_subs, a_cells, a_pointX, a_order, a_inD, a_t, b_prefix) (nI p) v2 v3 := by
          unfold wpY_cell
          dsimp only
          exact y_out (fun z => absurd z yp) (fun _ _ => br_t rfl (y_out (fun _ => br_f (by decide) (done _)) (fun g1 g2 => absurd (bad_y (by omega) hbad) (nab g1 g2))))
      exact br_c (fun _ => yb) (fun g => br_t (Int32.not_lt.mp (fun z => by rcases hbad with h | h; exact g h; exact h z)) yb)
  · have ho := out0 (N := 2) (by omega) hp
    have yb : wpY_cell (fun r' => r' = -1001 ∧ i_Rel (k + 5) ((nI D), (nI S), (nI A), (nI St), f_sealed, (nI P), (nI cnt), (nI F), (nI Cn), (nI Bs), f_accepted, f_blamed, (nI m), f_tunedFresh, f_rangeLow, f_rangeHigh, f_scanAt, f_scanFirst, f_scanCount, f_scanSize, f_scanPins, a_limits, a_ops, a_factors, a_given, a_subs, a_pointX, a_numberAt, a_cells, a_seen, a_distances, a_matrix, a_prefix, a_prefixFrom, a_prefixTo, a_tunedOrder, a_tunedKey, a_toX, a_toZ, a_sysCoef, a_sysBound, a_sysCount, a_cand, a_hullLow, a_hullHigh, a_spanLow, a_spanHigh, a_cursor, a_limit, a_pin, a_echelon, a_pivot) ((nI D), (nI S), (nI A), (nI St), f_sealed, (nI P), (nI F), (nI Cn), (nI Bs), f_accepted, g_blamed, (nI m), a_limits, a_ops, a_factors, a_given, a_subs, a_cells, a_pointX, a_order, a_inD, a_t, b_prefix)) ((nI D), (nI S), (nI A), (nI St), f_sealed, (nI P), (nI F), (nI Cn), (nI Bs), f_accepted, g_blamed, (nI m), a_limits, a_ops, a_factors, a_given, a_subs, a_cells, a_pointX, a_order, a_inD, a_t, b_prefix) v1 v2 v3 := by
        unfold wpY_cell
        dsimp only
        exact y_out (fun _ => br_f (by decide) (done _)) (fun g1 g2 => absurd ho (nab g1 g2))
    exact br_c (fun _ => yb) (fun g => br_f (bna ho g) yb)
theorem i_vc_climb {k : Nat} {u : SX} {v : SY} (I : i_Rel k u v) (hk : k + 5 ≤ 2563) : wpX_climb (fun r u' => wpY_climb (fun r' v' => r' = r ∧ i_Rel (k + 5) u' v') v) u := by
  refine zz_el (Q := fun u v => wpX_climb (fun r u' => wpY_climb (fun r' v' => r' = r ∧ i_Rel (k + 5) u' v') v) u) ?_ I
  intro D S A St P cnt F Cn Bs m f_sealed f_accepted f_blamed f_tunedFresh f_scanAt f_scanFirst f_scanCount f_scanSize f_scanPins f_rangeLow f_rangeHigh a_limits a_ops a_factors a_given a_subs a_pointX a_numberAt a_cells a_seen a_distances a_matrix a_prefix a_prefixFrom a_prefixTo a_tunedOrder a_tunedKey a_toX a_toZ a_sysCount a_hullLow a_hullHigh a_cursor a_limit a_pin a_echelon a_pivot a_sysCoef a_sysBound a_cand a_spanLow a_spanHigh g_blamed a_order a_inD a_t b_prefix hb hs
  by_cases h0 : f_sealed = 0
  · exact br_t h0 (br_t h0 ⟨rfl, zz_in hb hs⟩)
  · obtain ⟨s1, s2, s3, s4, s5, s6, s7, s8, s9, s10, s11, s12, s13, s14⟩ := hs h0
    have hm6 : m ≤ 6 := by have := hb.1; have := s8.1; omega
    by_cases hm : m = 0
    · subst hm
      exact br_f h0 (br_t rfl (br_f h0 (br_t rfl ⟨rfl, zz_in hb hs⟩)))
    · have hne : ¬ nI m = 0 := nI_ne0 (by omega) (by omega)
      refine br_f h0 (br_f hne (nm_r (nx_s1 (by omega)) (br_f h0 (br_f hne (nm_r (nx_s1 (by omega)) ⟨rfl, zz_in (m := m - 1) hb (fun _ => ⟨s1, s2, s3, s4, s5, s6, s7, s8, s9, s10, by omega, fun h => s12 (by omega), fun j hj => s13 j (by omega), fun k' hk' => s14 k' (by omega)⟩)⟩)))))
theorem i_vc_tile {k : Nat} {u : SX} {v : SY} (I : i_Rel k u v) (hk : k + 5 ≤ 2563) (v1 : Int32) (v2 : Int32) (v3 : Int32) : wpX_tile (fun r u' => wpY_tile (fun r' v' => r' = r ∧ i_Rel (k + 5) u' v') v v1 v2 v3) u v1 v2 v3 := by
  refine zz_el (Q := fun u v => wpX_tile (fun r u' => wpY_tile (fun r' v' => r' = r ∧ i_Rel (k + 5) u' v') v v1 v2 v3) u v1 v2 v3) ?_ I
  intro D S A St P cnt F Cn Bs m f_sealed f_accepted f_blamed f_tunedFresh f_scanAt f_scanFirst f_scanCount f_scanSize f_scanPins f_rangeLow f_rangeHigh a_limits a_ops a_factors a_given a_subs a_pointX a_numberAt a_cells a_seen a_distances a_matrix a_prefix a_prefixFrom a_prefixTo a_tunedOrder a_tunedKey a_toX a_toZ a_sysCount a_hullLow a_hullHigh a_cursor a_limit a_pin a_echelon a_pivot a_sysCoef a_sysBound a_cand a_spanLow a_spanHigh g_blamed a_order a_inD a_t b_prefix hb hs
  by_cases h0 : f_sealed = 0
  · exact br_t h0 (br_t h0 ⟨rfl, zz_in hb hs⟩)
  · obtain ⟨s1, s2, s3, s4, s5, s6, s7, s8, s9, s10, s11⟩ := hs h0
    obtain ⟨q1, q2, q3, q4, q5, q6, q7, q8, q9⟩ := hb
    have done : ∀ r : Int32, (r = r) ∧ i_Rel (k + 5) ((nI D), (nI S), (nI A), (nI St), f_sealed, (nI P), (nI cnt), (nI F), (nI Cn), (nI Bs), f_accepted, f_blamed, (nI m), f_tunedFresh, f_rangeLow, f_rangeHigh, f_scanAt, f_scanFirst, f_scanCount, f_scanSize, f_scanPins, a_limits, a_ops, a_factors, a_given, a_subs, a_pointX, a_numberAt, a_cells, a_seen, a_distances, a_matrix, a_prefix, a_prefixFrom, a_prefixTo, a_tunedOrder, a_tunedKey, a_toX, a_toZ, a_sysCoef, a_sysBound, a_sysCount, a_cand, a_hullLow, a_hullHigh, a_spanLow, a_spanHigh, a_cursor, a_limit, a_pin, a_echelon, a_pivot) ((nI D), (nI S), (nI A), (nI St), f_sealed, (nI P), (nI F), (nI Cn), (nI Bs), f_accepted, g_blamed, (nI m), a_limits, a_ops, a_factors, a_given, a_subs, a_cells, a_pointX, a_order, a_inD, a_t, b_prefix) := fun r => ⟨rfl, zz_in ⟨q1, q2, q3, q4, q5, q6, q7, q8, q9⟩ hs⟩
    have hCn : Cn ≤ 3 := by have := s8.1; omega
    rcases in_or (x := v1) (N := D) (by omega) with ⟨f, hf, rfl⟩ | hbad
    · have yf := ok_y hf (by omega)
      have ed : nI D - nI f = nI (D - f) := pk_sub (by omega)
      have y1 : ∀ post : Int32 → SY → Prop, wpY_out (fun r_27 => ((r_27 = 0 → (wpY_out (fun r_52 => ((r_52 = 0 → ((nI Cn ≤ 0 → (wpY_disturb (fun u => match u with | (f_depth_79, f_side_80, f_arraySide_81, f_statements_82, f_sealed_83, f_pointCount_84, f_bandFirst_85, f_bandCount_86, f_bandSize_87, f_accepted_88, f_blamed_89, f_prefixLength_90, a_bounds_91, a_ops_92, a_factors_93, a_given_94, a_subs_95, a_cells_96, a_xs_97, a_order_98, a_inD_99, a_t_100, a_prefix_101) => post 0 (f_depth_79, f_side_80, f_arraySide_81, f_statements_82, f_sealed_83, f_pointCount_84, f_bandFirst_85, f_bandCount_86, f_bandSize_87, f_accepted_88, f_blamed_89, f_prefixLength_90, a_bounds_91, a_ops_92, a_factors_93, a_given_94, a_subs_95, a_cells_96, a_xs_97, a_order_98, a_inD_99, a_t_100, a_prefix_101)) ((nI D), (nI S), (nI A), (nI St), f_sealed, (nI P), nI f, v2, v3, f_accepted, g_blamed, (nI m), a_limits, a_ops, a_factors, a_given, a_subs, a_cells, a_pointX, a_order, a_inD, a_t, b_prefix))) ∧ (¬ nI Cn ≤ 0 → post (-1009) ((nI D), (nI S), (nI A), (nI St), f_sealed, (nI P), (nI F), (nI Cn), (nI Bs), f_accepted, g_blamed, (nI m), a_limits, a_ops, a_factors, a_given, a_subs, a_cells, a_pointX, a_order, a_inD, a_t, b_prefix)))) ∧ (¬ r_52 = 0 → post (-1001) ((nI D), (nI S), (nI A), (nI St), f_sealed, (nI P), (nI F), (nI Cn), (nI Bs), f_accepted, g_blamed, (nI m), a_limits, a_ops, a_factors, a_given, a_subs, a_cells, a_pointX, a_order, a_inD, a_t, b_prefix)))) ((nI D), (nI S), (nI A), (nI St), f_sealed, (nI P), (nI F), (nI Cn), (nI Bs), f_accepted, g_blamed, (nI m), a_limits, a_ops, a_factors, a_given, a_subs, a_cells, a_pointX, a_order, a_inD, a_t, b_prefix) v3 2 8)) ∧ (¬ r_27 = 0 → post (-1001) ((nI D), (nI S), (nI A), (nI St), f_sealed, (nI P), (nI F), (nI Cn), (nI Bs), f_accepted, g_blamed, (nI m), a_limits, a_ops, a_factors, a_given, a_subs, a_cells, a_pointX, a_order, a_inD, a_t, b_prefix)))) ((nI D), (nI S), (nI A), (nI St), f_sealed, (nI P), (nI F), (nI Cn), (nI Bs), f_accepted, g_blamed, (nI m), a_limits, a_ops, a_factors, a_given, a_subs, a_cells, a_pointX, a_order, a_inD, a_t, b_prefix) v2 1 (nI D - nI f) → wpY_tile post ((nI D), (nI S), (nI A), (nI St), f_sealed, (nI P), (nI F), (nI Cn), (nI Bs), f_accepted, g_blamed, (nI m), a_limits, a_ops, a_factors, a_given, a_subs, a_cells, a_pointX, a_order, a_inD, a_t, b_prefix) (nI f) v2 v3 :=
        fun post h => br_f h0 (y_out (fun z => absurd z (nab yf.1 yf.2)) (fun _ _ => br_t rfl h))
      refine br_f h0 (br_f (nI_pos (by omega)) (br_t (nI_lt hf (by omega)) ?_))
      by_cases a1 : v2 < 1
      · exact br_t a1 (y1 _ (y_out (fun _ => br_f (by decide) (done _)) (fun g1 _ => absurd a1 g1)))
      · by_cases a2 : v2 ≤ nI D - nI f
        · have y2 := fun post h => y1 post (y_out (fun z => absurd z (nab a1 a2)) (fun _ _ => br_t rfl h))
          refine br_f a1 (br_t a2 ?_)
          by_cases b1 : v3 < 2
          · exact br_t b1 (y2 _ (y_out (fun _ => br_f (by decide) (done _)) (fun g1 _ => absurd b1 g1)))
          · by_cases b2 : v3 ≤ 8
            · have y3 := fun post h => y2 post (y_out (fun z => absurd z (nab b1 b2)) (fun _ _ => br_t rfl h))
              refine br_f b1 (br_t b2 (pk_le Cn 0 (fun hc => ?_) (fun hc => y3 _ (br_f (nI_nle hc (by omega)) (done _)))))
              have w1 : ∃ c, c ≤ D - f ∧ 1 ≤ c ∧ v2 = nI c := by
                rw [ed, ti_le, nI_toInt (by omega)] at a2
                rw [ti_lt, show (1 : Int32).toInt = 1 from by decide] at a1
                have h0 : ¬ v2 < 0 := by rw [ti_lt, show (0 : Int32).toInt = 0 from by decide]; omega
                obtain ⟨c, hc', rfl⟩ := nI_of h0
                rw [nI_toInt hc'] at a1 a2
                exact ⟨c, by omega, by omega, rfl⟩
              have w2 : ∃ z, 2 ≤ z ∧ z ≤ 8 ∧ v3 = nI z := by
                rw [ti_le, show (8 : Int32).toInt = 8 from by decide] at b2
                rw [ti_lt, show (2 : Int32).toInt = 2 from by decide] at b1
                have h0 : ¬ v3 < 0 := by rw [ti_lt, show (0 : Int32).toInt = 0 from by decide]; omega
                obtain ⟨c, hc', rfl⟩ := nI_of h0
                rw [nI_toInt hc'] at b1 b2
                exact ⟨c, by omega, by omega, rfl⟩
              obtain ⟨c, hc1, hc2, rfl⟩ := w1
              obtain ⟨z, hz1, hz2, rfl⟩ := w2
              refine xi_dis (y3 _ (br_t (nI_le (b := 0) hc (by omega)) (y_dis ⟨rfl, ?_⟩)))
              exact zz_in (F := f) (Cn := c) (Bs := z) (m := 0) ⟨q1, q2, q3, q4, q5, q6, q7, q8, q9⟩ (fun _ => ⟨s1, s2, s3, s4, s5, s6, s7, ⟨by omega, hf, Or.inr ⟨hc2, hz1, hz2⟩⟩, Or.inl ⟨rfl, rfl⟩, fun h => absurd rfl h, by omega, fun h => by omega, fun j hj => by omega, pre_0 s3.1.1⟩)
            · exact br_f b1 (br_f b2 (y2 _ (y_out (fun _ => br_f (by decide) (done _)) (fun _ g2 => absurd g2 b2))))
        · exact br_f a1 (br_f a2 (y1 _ (y_out (fun _ => br_f (by decide) (done _)) (fun _ g2 => absurd g2 a2))))
    · have yb : wpY_tile (fun r' v' => r' = -1001 ∧ i_Rel (k + 5) ((nI D), (nI S), (nI A), (nI St), f_sealed, (nI P), (nI cnt), (nI F), (nI Cn), (nI Bs), f_accepted, f_blamed, (nI m), f_tunedFresh, f_rangeLow, f_rangeHigh, f_scanAt, f_scanFirst, f_scanCount, f_scanSize, f_scanPins, a_limits, a_ops, a_factors, a_given, a_subs, a_pointX, a_numberAt, a_cells, a_seen, a_distances, a_matrix, a_prefix, a_prefixFrom, a_prefixTo, a_tunedOrder, a_tunedKey, a_toX, a_toZ, a_sysCoef, a_sysBound, a_sysCount, a_cand, a_hullLow, a_hullHigh, a_spanLow, a_spanHigh, a_cursor, a_limit, a_pin, a_echelon, a_pivot) v') ((nI D), (nI S), (nI A), (nI St), f_sealed, (nI P), (nI F), (nI Cn), (nI Bs), f_accepted, g_blamed, (nI m), a_limits, a_ops, a_factors, a_given, a_subs, a_cells, a_pointX, a_order, a_inD, a_t, b_prefix) v1 v2 v3 := br_f h0 (y_out (fun _ => br_f (by decide) (done _)) (fun g1 g2 => absurd (bad_y (by omega) hbad) (nab g1 g2)))
      exact br_f h0 (br_c (fun _ => yb) (fun g => br_f (fun z => by rcases hbad with h | h; exact g h; exact h z) yb))
end
section
/-! fill, entry, interchange, reverse, skew -/
def frow (x : Int32) (r : Nat) : Nat → Nat → (Nat → Int32) → (Nat → Int32)
  | 0, _, a => a
  | d + 1, c, a => frow x r d (c + 1) (upd a (r * 15 + c) (x * (nI r + 1) + 17 * nI c))
def fall (x : Int32) (A : Nat) : Nat → Nat → (Nat → Int32) → (Nat → Int32)
  | 0, _, a => a
  | d + 1, r, a => fall x A d (r + 1) (frow x r A 0 a)
section
variable {A : Nat} {f_depth f_side f_statements f_sealed f_points f_distanceCount f_bandFirst f_bandCount f_bandSize f_accepted f_blamed f_prefixLength f_tunedFresh f_scanAt f_scanFirst f_scanCount f_scanSize f_scanPins : Int32} {f_rangeLow f_rangeHigh : Int64} {a_limits a_ops a_factors a_given a_subs a_pointX a_numberAt a_cells a_seen a_distances a_matrix a_prefix a_prefixFrom a_prefixTo a_tunedOrder a_tunedKey a_toX a_toZ a_sysCount a_hullLow a_hullHigh a_cursor a_limit a_pin a_echelon a_pivot : Nat → Int32} {a_sysCoef a_sysBound a_cand a_spanLow a_spanHigh : Nat → Int64}
theorem xf_fill {post : SX → Prop} {x : Int32} (hA : A ≤ 15) (K : post (f_depth, f_side, (nI A), f_statements, f_sealed, f_points, f_distanceCount, f_bandFirst, f_bandCount, f_bandSize, f_accepted, f_blamed, f_prefixLength, f_tunedFresh, f_rangeLow, f_rangeHigh, f_scanAt, f_scanFirst, f_scanCount, f_scanSize, f_scanPins, a_limits, a_ops, a_factors, a_given, a_subs, a_pointX, a_numberAt, fall x A A 0 a_cells, a_seen, a_distances, a_matrix, a_prefix, a_prefixFrom, a_prefixTo, a_tunedOrder, a_tunedKey, a_toX, a_toZ, a_sysCoef, a_sysBound, a_sysCount, a_cand, a_hullLow, a_hullHigh, a_spanLow, a_spanHigh, a_cursor, a_limit, a_pin, a_echelon, a_pivot)) : wpX_fill post (f_depth, f_side, (nI A), f_statements, f_sealed, f_points, f_distanceCount, f_bandFirst, f_bandCount, f_bandSize, f_accepted, f_blamed, f_prefixLength, f_tunedFresh, f_rangeLow, f_rangeHigh, f_scanAt, f_scanFirst, f_scanCount, f_scanSize, f_scanPins, a_limits, a_ops, a_factors, a_given, a_subs, a_pointX, a_numberAt, a_cells, a_seen, a_distances, a_matrix, a_prefix, a_prefixFrom, a_prefixTo, a_tunedOrder, a_tunedKey, a_toX, a_toZ, a_sysCoef, a_sysBound, a_sysCount, a_cand, a_hullLow, a_hullHigh, a_spanLow, a_spanHigh, a_cursor, a_limit, a_pin, a_echelon, a_pivot) x := by
  refine ⟨A + 1, ?_⟩
  have go : ∀ (d r : Nat) (a : Nat → Int32), r + d = A → post (f_depth, f_side, (nI A), f_statements, f_sealed, f_points, f_distanceCount, f_bandFirst, f_bandCount, f_bandSize, f_accepted, f_blamed, f_prefixLength, f_tunedFresh, f_rangeLow, f_rangeHigh, f_scanAt, f_scanFirst, f_scanCount, f_scanSize, f_scanPins, a_limits, a_ops, a_factors, a_given, a_subs, a_pointX, a_numberAt, fall x A d r a, a_seen, a_distances, a_matrix, a_prefix, a_prefixFrom, a_prefixTo, a_tunedOrder, a_tunedKey, a_toX, a_toZ, a_sysCoef, a_sysBound, a_sysCount, a_cand, a_hullLow, a_hullHigh, a_spanLow, a_spanHigh, a_cursor, a_limit, a_pin, a_echelon, a_pivot) → wX_fill_2 post x f_depth f_side (nI A) f_statements f_sealed f_points f_distanceCount f_bandFirst f_bandCount f_bandSize f_accepted f_blamed f_prefixLength f_tunedFresh f_rangeLow f_rangeHigh f_scanAt f_scanFirst f_scanCount f_scanSize f_scanPins (d + 1) (nI r) a_limits a_ops a_factors a_given a_subs a_pointX a_numberAt a a_seen a_distances a_matrix a_prefix a_prefixFrom a_prefixTo a_tunedOrder a_tunedKey a_toX a_toZ a_sysCoef a_sysBound a_sysCount a_cand a_hullLow a_hullHigh a_spanLow a_spanHigh a_cursor a_limit a_pin a_echelon a_pivot := by
    intro d
    induction d with
    | zero => intro r a hr h; exact br_t (nI_le (by omega) (by omega)) h
    | succ d ih =>
      intro r a hr h
      refine br_f (nI_ge (by omega) (by omega)) ⟨A + 1, ?_⟩
      have go2 : ∀ (e c : Nat) (a : Nat → Int32), c + e = A → wX_fill_2 post x f_depth f_side (nI A) f_statements f_sealed f_points f_distanceCount f_bandFirst f_bandCount f_bandSize f_accepted f_blamed f_prefixLength f_tunedFresh f_rangeLow f_rangeHigh f_scanAt f_scanFirst f_scanCount f_scanSize f_scanPins (d + 1) (nI (r + 1)) a_limits a_ops a_factors a_given a_subs a_pointX a_numberAt (frow x r e c a) a_seen a_distances a_matrix a_prefix a_prefixFrom a_prefixTo a_tunedOrder a_tunedKey a_toX a_toZ a_sysCoef a_sysBound a_sysCount a_cand a_hullLow a_hullHigh a_spanLow a_spanHigh a_cursor a_limit a_pin a_echelon a_pivot → wX_fill_12 post (wX_fill_2 post x f_depth f_side (nI A) f_statements f_sealed f_points f_distanceCount f_bandFirst f_bandCount f_bandSize f_accepted f_blamed f_prefixLength f_tunedFresh f_rangeLow f_rangeHigh f_scanAt f_scanFirst f_scanCount f_scanSize f_scanPins (d + 1)) x (nI r) f_depth f_side (nI A) f_statements f_sealed f_points f_distanceCount f_bandFirst f_bandCount f_bandSize f_accepted f_blamed f_prefixLength f_tunedFresh f_rangeLow f_rangeHigh f_scanAt f_scanFirst f_scanCount f_scanSize f_scanPins (e + 1) (nI c) a_limits a_ops a_factors a_given a_subs a_pointX a_numberAt a a_seen a_distances a_matrix a_prefix a_prefixFrom a_prefixTo a_tunedOrder a_tunedKey a_toX a_toZ a_sysCoef a_sysBound a_sysCount a_cand a_hullLow a_hullHigh a_spanLow a_spanHigh a_cursor a_limit a_pin a_echelon a_pivot := by
        intro e
        induction e with
        | zero => intro c a hc h; exact br_t (nI_le (by omega) (by omega)) (nm_r (nI_1 r) h)
        | succ e ih' =>
          intro c a hc h
          have e1 : nI r * 15 + nI c = nI (r * 15 + c) := by rw [nx_m15, nI_add]
          exact br_f (nI_ge (by omega) (by omega)) ⟨vx_n _ e1 (by omega) (by omega), nm_r (e' := upd a (r * 15 + c) (x * (nI r + 1) + 17 * nI c)) (by rw [cx_n _ e1 (by omega)]) (nm_r (nI_1 c) (ih' (c + 1) _ (by omega) h))⟩
      exact go2 A 0 a (by omega) (ih (r + 1) _ (by omega) h)
  exact go A 0 a_cells (by omega) K
end
section
variable {A : Nat} {f_depth f_side f_statements f_sealed f_pointCount f_bandFirst f_bandCount f_bandSize f_accepted f_blamed f_prefixLength : Int32} {a_bounds a_ops a_factors a_given a_subs a_cells a_xs a_order a_inD a_t a_prefix : Nat → Int32}
theorem yf_fill {post : SY → Prop} {x : Int32} (hA : A ≤ 15) (K : post (f_depth, f_side, (nI A), f_statements, f_sealed, f_pointCount, f_bandFirst, f_bandCount, f_bandSize, f_accepted, f_blamed, f_prefixLength, a_bounds, a_ops, a_factors, a_given, a_subs, fall x A A 0 a_cells, a_xs, a_order, a_inD, a_t, a_prefix)) : wpY_fill post (f_depth, f_side, (nI A), f_statements, f_sealed, f_pointCount, f_bandFirst, f_bandCount, f_bandSize, f_accepted, f_blamed, f_prefixLength, a_bounds, a_ops, a_factors, a_given, a_subs, a_cells, a_xs, a_order, a_inD, a_t, a_prefix) x := by
  refine ⟨A + 1, ?_⟩
  have go : ∀ (d r : Nat) (a : Nat → Int32), r + d = A → post (f_depth, f_side, (nI A), f_statements, f_sealed, f_pointCount, f_bandFirst, f_bandCount, f_bandSize, f_accepted, f_blamed, f_prefixLength, a_bounds, a_ops, a_factors, a_given, a_subs, fall x A d r a, a_xs, a_order, a_inD, a_t, a_prefix) → wY_fill_2 post x f_depth f_side (nI A) f_statements f_sealed f_pointCount f_bandFirst f_bandCount f_bandSize f_accepted f_blamed f_prefixLength (d + 1) (nI r) a_bounds a_ops a_factors a_given a_subs a a_xs a_order a_inD a_t a_prefix := by
    intro d
    induction d with
    | zero => intro r a hr h; exact br_t (nI_le (by omega) (by omega)) h
    | succ d ih =>
      intro r a hr h
      refine br_f (nI_ge (by omega) (by omega)) ⟨A + 1, ?_⟩
      have go2 : ∀ (e c : Nat) (a : Nat → Int32), c + e = A → wY_fill_2 post x f_depth f_side (nI A) f_statements f_sealed f_pointCount f_bandFirst f_bandCount f_bandSize f_accepted f_blamed f_prefixLength (d + 1) (nI (r + 1)) a_bounds a_ops a_factors a_given a_subs (frow x r e c a) a_xs a_order a_inD a_t a_prefix → wY_fill_12 post (wY_fill_2 post x f_depth f_side (nI A) f_statements f_sealed f_pointCount f_bandFirst f_bandCount f_bandSize f_accepted f_blamed f_prefixLength (d + 1)) x (nI r) f_depth f_side (nI A) f_statements f_sealed f_pointCount f_bandFirst f_bandCount f_bandSize f_accepted f_blamed f_prefixLength (e + 1) (nI c) a_bounds a_ops a_factors a_given a_subs a a_xs a_order a_inD a_t a_prefix := by
        intro e
        induction e with
        | zero => intro c a hc h; exact br_t (nI_le (by omega) (by omega)) (nm_r (nI_1 r) h)
        | succ e ih' =>
          intro c a hc h
          have e1 : nI r * 15 + nI c = nI (r * 15 + c) := by rw [nx_m15, nI_add]
          exact br_f (nI_ge (by omega) (by omega)) ⟨vx_n _ e1 (by omega) (by omega), nm_r (e' := upd a (r * 15 + c) (x * (nI r + 1) + 17 * nI c)) (by rw [cx_n _ e1 (by omega)]) (nm_r (nI_1 c) (ih' (c + 1) _ (by omega) h))⟩
      exact go2 A 0 a (by omega) (ih (r + 1) _ (by omega) h)
  exact go A 0 a_cells (by omega) K
end
def swr (a b r : Nat) : Nat := if r = a then b else if r = b then a else r
section
variable {f_depth f_side f_arraySide f_statements f_sealed f_points f_distanceCount f_bandFirst f_bandCount f_bandSize f_accepted f_blamed f_prefixLength f_tunedFresh f_scanAt f_scanFirst f_scanCount f_scanSize f_scanPins : Int32} {f_rangeLow f_rangeHigh : Int64} {a_limits a_ops a_factors a_given a_subs a_pointX a_numberAt a_cells a_seen a_distances a_matrix a_prefix a_prefixFrom a_prefixTo a_tunedOrder a_tunedKey a_toX a_toZ a_sysCount a_hullLow a_hullHigh a_cursor a_limit a_pin a_echelon a_pivot : Nat → Int32} {a_sysCoef a_sysBound a_cand a_spanLow a_spanHigh : Nat → Int64}
theorem xm_int {post : Int32 → SX → Prop} {a b : Nat} (ha : a < 3) (hb : b < 3) (hab : a ≠ b) (K : ∀ mt : Nat → Int32, (∀ r c, r < 3 → c < 3 → mt (r * 3 + c) = a_matrix (swr a b r * 3 + c)) → post 0 (f_depth, f_side, f_arraySide, f_statements, f_sealed, f_points, f_distanceCount, f_bandFirst, f_bandCount, f_bandSize, 0, (-1), 0, 0, f_rangeLow, f_rangeHigh, f_scanAt, f_scanFirst, f_scanCount, f_scanSize, f_scanPins, a_limits, a_ops, a_factors, a_given, a_subs, a_pointX, a_numberAt, a_cells, a_seen, a_distances, mt, a_prefix, upd a_prefixFrom 0 0, upd a_prefixTo 0 f_points, a_tunedOrder, a_tunedKey, a_toX, a_toZ, a_sysCoef, a_sysBound, a_sysCount, a_cand, a_hullLow, a_hullHigh, a_spanLow, a_spanHigh, a_cursor, a_limit, a_pin, a_echelon, a_pivot)) :
    ∃ n57 : Nat, wX_interchange_57 post (nI a) (nI b) f_depth f_side f_arraySide f_statements f_sealed f_points f_distanceCount f_bandFirst f_bandCount f_bandSize f_accepted f_blamed f_prefixLength f_tunedFresh f_rangeLow f_rangeHigh f_scanAt f_scanFirst f_scanCount f_scanSize f_scanPins n57 0 a_limits a_ops a_factors a_given a_subs a_pointX a_numberAt a_cells a_seen a_distances a_matrix a_prefix a_prefixFrom a_prefixTo a_tunedOrder a_tunedKey a_toX a_toZ a_sysCoef a_sysBound a_sysCount a_cand a_hullLow a_hullHigh a_spanLow a_spanHigh a_cursor a_limit a_pin a_echelon a_pivot := by
  refine loop_0 (fun n i s => wX_interchange_57 post (nI a) (nI b) f_depth f_side f_arraySide f_statements f_sealed f_points f_distanceCount f_bandFirst f_bandCount f_bandSize f_accepted f_blamed f_prefixLength f_tunedFresh f_rangeLow f_rangeHigh f_scanAt f_scanFirst f_scanCount f_scanSize f_scanPins n (nI i) a_limits a_ops a_factors a_given a_subs a_pointX a_numberAt a_cells a_seen a_distances s a_prefix a_prefixFrom a_prefixTo a_tunedOrder a_tunedKey a_toX a_toZ a_sysCoef a_sysBound a_sysCount a_cand a_hullLow a_hullHigh a_spanLow a_spanHigh a_cursor a_limit a_pin a_echelon a_pivot) (fun i s => ∀ r c, r < 3 → c < 3 → s (r * 3 + c) = if c < i then a_matrix (swr a b r * 3 + c) else a_matrix (r * 3 + c)) 3 a_matrix (fun r c _ _ => by rw [if_neg (by omega)]) ?_ ?_
  · intro n s hs
    exact br_t (by decide) (xi_dis (K s (fun r c hr hc => by rw [hs r c hr hc, if_pos hc])))
  · intro n i s hi hs hK
    have e1 : nI a * 3 + nI i = nI (a * 3 + i) := by rw [nx_m3, nI_add]
    have e2 : nI b * 3 + nI i = nI (b * 3 + i) := by rw [nx_m3, nI_add]
    have sa := hs a i ha hi
    have sb := hs b i hb hi
    rw [if_neg (by omega)] at sa sb
    refine br_f (nI_ge (b := 3) hi (by omega)) ⟨vx_n _ e1 (by omega) (by omega), nm_r (e' := a_matrix (a * 3 + i)) (by rw [cx_n _ e1 (by omega)]; exact sa) ⟨vx_n _ e2 (by omega) (by omega), vx_n _ e1 (by omega) (by omega), nm_r (e' := upd s (a * 3 + i) (a_matrix (b * 3 + i))) (by rw [cx_n _ e1 (by omega), cx_n _ e2 (by omega), sb]) ⟨vx_n _ e2 (by omega) (by omega), nm_r (e' := upd (upd s (a * 3 + i) (a_matrix (b * 3 + i))) (b * 3 + i) (a_matrix (a * 3 + i))) (by rw [cx_n _ e2 (by omega)]) (nm_r (nI_1 i) (hK _ (fun r c hr hc => ?_)))⟩⟩⟩
    have hrc := hs r c hr hc
    by_cases y : c = i
    · subst y
      rw [if_pos (by omega)]
      unfold swr
      by_cases x : r = b
      · subst x; rw [pk_us, if_neg (by omega), if_pos rfl]
      · by_cases z : r = a
        · subst z; rw [pk_un (by omega), pk_us, if_pos rfl]
        · rw [pk_un (by omega), pk_un (by omega), if_neg z, if_neg x]
          rw [if_neg (by omega)] at hrc
          exact hrc
    · rw [pk_un (by omega), pk_un (by omega), hrc]
      by_cases z : c < i
      · rw [if_pos z, if_pos (by omega)]
      · rw [if_neg z, if_neg (by omega)]
theorem xm_rev {post : Int32 → SX → Prop} {a : Nat} (ha : a < 3) (K : ∀ mt : Nat → Int32, (∀ r c, r < 3 → c < 3 → mt (r * 3 + c) = if r = a then -a_matrix (r * 3 + c) else a_matrix (r * 3 + c)) → post 0 (f_depth, f_side, f_arraySide, f_statements, f_sealed, f_points, f_distanceCount, f_bandFirst, f_bandCount, f_bandSize, 0, (-1), 0, 0, f_rangeLow, f_rangeHigh, f_scanAt, f_scanFirst, f_scanCount, f_scanSize, f_scanPins, a_limits, a_ops, a_factors, a_given, a_subs, a_pointX, a_numberAt, a_cells, a_seen, a_distances, mt, a_prefix, upd a_prefixFrom 0 0, upd a_prefixTo 0 f_points, a_tunedOrder, a_tunedKey, a_toX, a_toZ, a_sysCoef, a_sysBound, a_sysCount, a_cand, a_hullLow, a_hullHigh, a_spanLow, a_spanHigh, a_cursor, a_limit, a_pin, a_echelon, a_pivot)) :
    ∃ n40 : Nat, wX_reverse_40 post (nI a) f_depth f_side f_arraySide f_statements f_sealed f_points f_distanceCount f_bandFirst f_bandCount f_bandSize f_accepted f_blamed f_prefixLength f_tunedFresh f_rangeLow f_rangeHigh f_scanAt f_scanFirst f_scanCount f_scanSize f_scanPins n40 0 a_limits a_ops a_factors a_given a_subs a_pointX a_numberAt a_cells a_seen a_distances a_matrix a_prefix a_prefixFrom a_prefixTo a_tunedOrder a_tunedKey a_toX a_toZ a_sysCoef a_sysBound a_sysCount a_cand a_hullLow a_hullHigh a_spanLow a_spanHigh a_cursor a_limit a_pin a_echelon a_pivot := by
  refine loop_0 (fun n i s => wX_reverse_40 post (nI a) f_depth f_side f_arraySide f_statements f_sealed f_points f_distanceCount f_bandFirst f_bandCount f_bandSize f_accepted f_blamed f_prefixLength f_tunedFresh f_rangeLow f_rangeHigh f_scanAt f_scanFirst f_scanCount f_scanSize f_scanPins n (nI i) a_limits a_ops a_factors a_given a_subs a_pointX a_numberAt a_cells a_seen a_distances s a_prefix a_prefixFrom a_prefixTo a_tunedOrder a_tunedKey a_toX a_toZ a_sysCoef a_sysBound a_sysCount a_cand a_hullLow a_hullHigh a_spanLow a_spanHigh a_cursor a_limit a_pin a_echelon a_pivot) (fun i s => ∀ r c, r < 3 → c < 3 → s (r * 3 + c) = if r = a ∧ c < i then -a_matrix (r * 3 + c) else a_matrix (r * 3 + c)) 3 a_matrix (fun r c _ _ => by rw [if_neg (by omega)]) ?_ ?_
  · intro n s hs
    refine br_t (by decide) (xi_dis (K s (fun r c hr hc => ?_)))
    rw [hs r c hr hc]
    by_cases x : r = a
    · rw [if_pos ⟨x, hc⟩, if_pos x]
    · rw [if_neg (fun z => x z.1), if_neg x]
  · intro n i s hi hs hK
    have e1 : nI a * 3 + nI i = nI (a * 3 + i) := by rw [nx_m3, nI_add]
    have sa := hs a i ha hi
    rw [if_neg (by omega)] at sa
    refine br_f (nI_ge (b := 3) hi (by omega)) ⟨vx_n _ e1 (by omega) (by omega), vx_n _ e1 (by omega) (by omega), nm_r (e' := upd s (a * 3 + i) (-a_matrix (a * 3 + i))) (by rw [cx_n _ e1 (by omega), sa]) (nm_r (nI_1 i) (hK _ (fun r c hr hc => ?_)))⟩
    by_cases y : r = a ∧ c = i
    · obtain ⟨rfl, rfl⟩ := y
      rw [pk_us, if_pos (by omega)]
    · rw [pk_un (by omega), hs r c hr hc]
      by_cases z : r = a ∧ c < i
      · rw [if_pos z, if_pos (by omega)]
      · rw [if_neg z, if_neg (by omega)]
theorem xm_skw {post : Int32 → SX → Prop} {a b : Nat} {f : Int32} (ha : a < 3) (hb : b < 3) (hab : a ≠ b)
    (KF : (∃ c, c < 3 ∧ (a_matrix (a * 3 + c) + f * a_matrix (b * 3 + c) < -8 ∨ ¬ a_matrix (a * 3 + c) + f * a_matrix (b * 3 + c) ≤ 8)) → post (-1010) (f_depth, f_side, f_arraySide, f_statements, f_sealed, f_points, f_distanceCount, f_bandFirst, f_bandCount, f_bandSize, f_accepted, f_blamed, f_prefixLength, f_tunedFresh, f_rangeLow, f_rangeHigh, f_scanAt, f_scanFirst, f_scanCount, f_scanSize, f_scanPins, a_limits, a_ops, a_factors, a_given, a_subs, a_pointX, a_numberAt, a_cells, a_seen, a_distances, a_matrix, a_prefix, a_prefixFrom, a_prefixTo, a_tunedOrder, a_tunedKey, a_toX, a_toZ, a_sysCoef, a_sysBound, a_sysCount, a_cand, a_hullLow, a_hullHigh, a_spanLow, a_spanHigh, a_cursor, a_limit, a_pin, a_echelon, a_pivot))
    (K : (∀ c, c < 3 → ¬ a_matrix (a * 3 + c) + f * a_matrix (b * 3 + c) < -8 ∧ a_matrix (a * 3 + c) + f * a_matrix (b * 3 + c) ≤ 8) → ∀ mt : Nat → Int32, (∀ r c, r < 3 → c < 3 → mt (r * 3 + c) = if r = a then a_matrix (a * 3 + c) + f * a_matrix (b * 3 + c) else a_matrix (r * 3 + c)) →
      post 0 (f_depth, f_side, f_arraySide, f_statements, f_sealed, f_points, f_distanceCount, f_bandFirst, f_bandCount, f_bandSize, 0, (-1), 0, 0, f_rangeLow, f_rangeHigh, f_scanAt, f_scanFirst, f_scanCount, f_scanSize, f_scanPins, a_limits, a_ops, a_factors, a_given, a_subs, a_pointX, a_numberAt, a_cells, a_seen, a_distances, mt, a_prefix, upd a_prefixFrom 0 0, upd a_prefixTo 0 f_points, a_tunedOrder, a_tunedKey, a_toX, a_toZ, a_sysCoef, a_sysBound, a_sysCount, a_cand, a_hullLow, a_hullHigh, a_spanLow, a_spanHigh, a_cursor, a_limit, a_pin, a_echelon, a_pivot)) :
    ∃ n77 : Nat, wX_skew_77 post (nI a) (nI b) f f_depth f_side f_arraySide f_statements f_sealed f_points f_distanceCount f_bandFirst f_bandCount f_bandSize f_accepted f_blamed f_prefixLength f_tunedFresh f_rangeLow f_rangeHigh f_scanAt f_scanFirst f_scanCount f_scanSize f_scanPins a_limits a_ops a_factors a_given a_subs a_pointX a_numberAt a_cells a_seen a_distances a_matrix a_prefix a_prefixFrom a_prefixTo a_tunedOrder a_tunedKey a_toX a_toZ a_sysCoef a_sysBound a_sysCount a_cand a_hullLow a_hullHigh a_spanLow a_spanHigh a_cursor a_limit a_pin a_echelon a_pivot n77 0 := by
  refine ⟨4, ?_⟩
  have go : ∀ d c : Nat, c + d = 3 → (∀ c', c' < c → ¬ a_matrix (a * 3 + c') + f * a_matrix (b * 3 + c') < -8 ∧ a_matrix (a * 3 + c') + f * a_matrix (b * 3 + c') ≤ 8) → wX_skew_77 post (nI a) (nI b) f f_depth f_side f_arraySide f_statements f_sealed f_points f_distanceCount f_bandFirst f_bandCount f_bandSize f_accepted f_blamed f_prefixLength f_tunedFresh f_rangeLow f_rangeHigh f_scanAt f_scanFirst f_scanCount f_scanSize f_scanPins a_limits a_ops a_factors a_given a_subs a_pointX a_numberAt a_cells a_seen a_distances a_matrix a_prefix a_prefixFrom a_prefixTo a_tunedOrder a_tunedKey a_toX a_toZ a_sysCoef a_sysBound a_sysCount a_cand a_hullLow a_hullHigh a_spanLow a_spanHigh a_cursor a_limit a_pin a_echelon a_pivot (d + 1) (nI c) := by
    intro d
    induction d with
    | zero =>
      intro c hc h
      cases (show c = 3 by omega)
      refine br_t (by decide) ?_
      refine loop_0 (fun n i s => wX_skew_137 post (nI a) (nI b) f f_depth f_side f_arraySide f_statements f_sealed f_points f_distanceCount f_bandFirst f_bandCount f_bandSize f_accepted f_blamed f_prefixLength f_tunedFresh f_rangeLow f_rangeHigh f_scanAt f_scanFirst f_scanCount f_scanSize f_scanPins n (nI i) a_limits a_ops a_factors a_given a_subs a_pointX a_numberAt a_cells a_seen a_distances s a_prefix a_prefixFrom a_prefixTo a_tunedOrder a_tunedKey a_toX a_toZ a_sysCoef a_sysBound a_sysCount a_cand a_hullLow a_hullHigh a_spanLow a_spanHigh a_cursor a_limit a_pin a_echelon a_pivot) (fun i s => ∀ r c, r < 3 → c < 3 → s (r * 3 + c) = if r = a ∧ c < i then a_matrix (a * 3 + c) + f * a_matrix (b * 3 + c) else a_matrix (r * 3 + c)) 3 a_matrix (fun r c _ _ => by rw [if_neg (by omega)]) ?_ ?_
      · intro n s hs
        refine br_t (by decide) (xi_dis (K h s (fun r c hr hc => ?_)))
        rw [hs r c hr hc]
        by_cases x : r = a
        · rw [if_pos ⟨x, hc⟩, if_pos x]
        · rw [if_neg (fun z => x z.1), if_neg x]
      · intro n i s hi hs hK
        have e1 : nI a * 3 + nI i = nI (a * 3 + i) := by rw [nx_m3, nI_add]
        have e2 : nI b * 3 + nI i = nI (b * 3 + i) := by rw [nx_m3, nI_add]
        have sa := hs a i ha hi
        have sb := hs b i hb hi
        rw [if_neg (by omega)] at sa sb
        refine br_f (nI_ge (b := 3) hi (by omega)) ⟨vx_n _ e1 (by omega) (by omega), vx_n _ e2 (by omega) (by omega), vx_n _ e1 (by omega) (by omega), nm_r (e' := upd s (a * 3 + i) (a_matrix (a * 3 + i) + f * a_matrix (b * 3 + i))) (by rw [cx_n _ e1 (by omega), cx_n _ e2 (by omega), sa, sb]) (nm_r (nI_1 i) (hK _ (fun r c hr hc => ?_)))⟩
        by_cases y : r = a ∧ c = i
        · obtain ⟨rfl, rfl⟩ := y
          rw [pk_us, if_pos (by omega)]
        · rw [pk_un (by omega), hs r c hr hc]
          by_cases z : r = a ∧ c < i
          · rw [if_pos z, if_pos (by omega)]
          · rw [if_neg z, if_neg (by omega)]
    | succ d ih =>
      intro c hc h
      have e1 : nI a * 3 + nI c = nI (a * 3 + c) := by rw [nx_m3, nI_add]
      have e2 : nI b * 3 + nI c = nI (b * 3 + c) := by rw [nx_m3, nI_add]
      refine br_f (nI_ge (b := 3) (by omega) (by omega)) ⟨vx_n _ e1 (by omega) (by omega), vx_n _ e2 (by omega) (by omega), nm_r (e' := a_matrix (a * 3 + c) + f * a_matrix (b * 3 + c)) (by rw [cx_n _ e1 (by omega), cx_n _ e2 (by omega)]) (br_c (fun g => KF ⟨c, by omega, Or.inl g⟩) (fun g => br_c (fun g' => nm_r (nI_1 c) (ih (c + 1) (by omega) (fun c' hc' => ?_))) (fun g' => KF ⟨c, by omega, Or.inr g'⟩)))⟩
      by_cases x : c' = c
      · subst x; exact ⟨g, g'⟩
      · exact h c' (by omega)
  exact go 3 0 rfl (fun c' h => by omega)
end
section
variable {D : Nat} {f_side f_arraySide f_statements f_sealed f_pointCount f_bandFirst f_bandCount f_bandSize f_accepted f_blamed f_prefixLength : Int32} {a_bounds a_ops a_factors a_given a_subs a_cells a_xs a_order a_inD a_t a_prefix : Nat → Int32}
theorem ym_int {post : Int32 → SY → Prop} {a b : Nat} (hD : D ≤ 3) (ha : a < 3) (hb : b < 3) (hab : a ≠ b) (K : ∀ mt : Nat → Int32, (∀ r c, r < 3 → c < 3 → mt (r * 3 + c) = if c < D then a_t (swr a b r * 3 + c) else a_t (r * 3 + c)) → post 0 ((nI D), f_side, f_arraySide, f_statements, f_sealed, f_pointCount, f_bandFirst, f_bandCount, f_bandSize, 0, (-1), 0, a_bounds, a_ops, a_factors, a_given, a_subs, a_cells, a_xs, a_order, a_inD, mt, a_prefix)) :
    ∃ n63 : Nat, wY_interchange_63 post (nI a) (nI b) (nI D) f_side f_arraySide f_statements f_sealed f_pointCount f_bandFirst f_bandCount f_bandSize f_accepted f_blamed f_prefixLength n63 0 a_bounds a_ops a_factors a_given a_subs a_cells a_xs a_order a_inD a_t a_prefix := by
  refine loop_0 (fun n i s => wY_interchange_63 post (nI a) (nI b) (nI D) f_side f_arraySide f_statements f_sealed f_pointCount f_bandFirst f_bandCount f_bandSize f_accepted f_blamed f_prefixLength n (nI i) a_bounds a_ops a_factors a_given a_subs a_cells a_xs a_order a_inD s a_prefix) (fun i s => ∀ r c, r < 3 → c < 3 → s (r * 3 + c) = if c < i then a_t (swr a b r * 3 + c) else a_t (r * 3 + c)) D a_t (fun r c _ _ => by rw [if_neg (by omega)]) ?_ ?_
  · intro n s hs
    exact br_t (nI_le (by omega) (by omega)) (y_dis (K s hs))
  · intro n i s hi hs hK
    have e1 : nI a * 3 + nI i = nI (a * 3 + i) := by rw [nx_m3, nI_add]
    have e2 : nI b * 3 + nI i = nI (b * 3 + i) := by rw [nx_m3, nI_add]
    have sa := hs a i ha (by omega)
    have sb := hs b i hb (by omega)
    rw [if_neg (by omega)] at sa sb
    refine br_f (nI_ge hi (by omega)) ⟨vx_n _ e1 (by omega) (by omega), nm_r (e' := a_t (a * 3 + i)) (by rw [cx_n _ e1 (by omega)]; exact sa) ⟨vx_n _ e2 (by omega) (by omega), vx_n _ e1 (by omega) (by omega), nm_r (e' := upd s (a * 3 + i) (a_t (b * 3 + i))) (by rw [cx_n _ e1 (by omega), cx_n _ e2 (by omega), sb]) ⟨vx_n _ e2 (by omega) (by omega), nm_r (e' := upd (upd s (a * 3 + i) (a_t (b * 3 + i))) (b * 3 + i) (a_t (a * 3 + i))) (by rw [cx_n _ e2 (by omega)]) (nm_r (nI_1 i) (hK _ (fun r c hr hc => ?_)))⟩⟩⟩
    have hrc := hs r c hr hc
    by_cases y : c = i
    · subst y
      rw [if_pos (by omega)]
      unfold swr
      by_cases x : r = b
      · subst x; rw [pk_us, if_neg (by omega), if_pos rfl]
      · by_cases z : r = a
        · subst z; rw [pk_un (by omega), pk_us, if_pos rfl]
        · rw [pk_un (by omega), pk_un (by omega), if_neg z, if_neg x]
          rw [if_neg (by omega)] at hrc
          exact hrc
    · rw [pk_un (by omega), pk_un (by omega), hrc]
      by_cases z : c < i
      · rw [if_pos z, if_pos (by omega)]
      · rw [if_neg z, if_neg (by omega)]
theorem ym_rev {post : Int32 → SY → Prop} {a : Nat} (hD : D ≤ 3) (ha : a < 3) (K : ∀ mt : Nat → Int32, (∀ r c, r < 3 → c < 3 → mt (r * 3 + c) = if r = a ∧ c < D then -a_t (r * 3 + c) else a_t (r * 3 + c)) → post 0 ((nI D), f_side, f_arraySide, f_statements, f_sealed, f_pointCount, f_bandFirst, f_bandCount, f_bandSize, 0, (-1), 0, a_bounds, a_ops, a_factors, a_given, a_subs, a_cells, a_xs, a_order, a_inD, mt, a_prefix)) :
    ∃ n43 : Nat, wY_reverse_43 post (nI a) (nI D) f_side f_arraySide f_statements f_sealed f_pointCount f_bandFirst f_bandCount f_bandSize f_accepted f_blamed f_prefixLength n43 0 a_bounds a_ops a_factors a_given a_subs a_cells a_xs a_order a_inD a_t a_prefix := by
  refine loop_0 (fun n i s => wY_reverse_43 post (nI a) (nI D) f_side f_arraySide f_statements f_sealed f_pointCount f_bandFirst f_bandCount f_bandSize f_accepted f_blamed f_prefixLength n (nI i) a_bounds a_ops a_factors a_given a_subs a_cells a_xs a_order a_inD s a_prefix) (fun i s => ∀ r c, r < 3 → c < 3 → s (r * 3 + c) = if r = a ∧ c < i then -a_t (r * 3 + c) else a_t (r * 3 + c)) D a_t (fun r c _ _ => by rw [if_neg (by omega)]) ?_ ?_
  · intro n s hs
    exact br_t (nI_le (by omega) (by omega)) (y_dis (K s hs))
  · intro n i s hi hs hK
    have e1 : nI a * 3 + nI i = nI (a * 3 + i) := by rw [nx_m3, nI_add]
    have sa := hs a i ha (by omega)
    rw [if_neg (by omega)] at sa
    refine br_f (nI_ge hi (by omega)) ⟨vx_n _ e1 (by omega) (by omega), vx_n _ e1 (by omega) (by omega), nm_r (e' := upd s (a * 3 + i) (-a_t (a * 3 + i))) (by rw [cx_n _ e1 (by omega), sa]) (nm_r (nI_1 i) (hK _ (fun r c hr hc => ?_)))⟩
    by_cases y : r = a ∧ c = i
    · obtain ⟨rfl, rfl⟩ := y
      rw [pk_us, if_pos (by omega)]
    · rw [pk_un (by omega), hs r c hr hc]
      by_cases z : r = a ∧ c < i
      · rw [if_pos z, if_pos (by omega)]
      · rw [if_neg z, if_neg (by omega)]
theorem ym_skw {post : Int32 → SY → Prop} {a b : Nat} {f : Int32} (hD : D ≤ 3) (ha : a < 3) (hb : b < 3) (hab : a ≠ b)
    (KF : (∃ c, c < D ∧ (a_t (a * 3 + c) + f * a_t (b * 3 + c) < -8 ∨ ¬ a_t (a * 3 + c) + f * a_t (b * 3 + c) ≤ 8)) → post (-1010) ((nI D), f_side, f_arraySide, f_statements, f_sealed, f_pointCount, f_bandFirst, f_bandCount, f_bandSize, f_accepted, f_blamed, f_prefixLength, a_bounds, a_ops, a_factors, a_given, a_subs, a_cells, a_xs, a_order, a_inD, a_t, a_prefix))
    (K : (∀ c, c < D → ¬ a_t (a * 3 + c) + f * a_t (b * 3 + c) < -8 ∧ a_t (a * 3 + c) + f * a_t (b * 3 + c) ≤ 8) → ∀ mt : Nat → Int32, (∀ r c, r < 3 → c < 3 → mt (r * 3 + c) = if r = a ∧ c < D then a_t (a * 3 + c) + f * a_t (b * 3 + c) else a_t (r * 3 + c)) →
      post 0 ((nI D), f_side, f_arraySide, f_statements, f_sealed, f_pointCount, f_bandFirst, f_bandCount, f_bandSize, 0, (-1), 0, a_bounds, a_ops, a_factors, a_given, a_subs, a_cells, a_xs, a_order, a_inD, mt, a_prefix)) :
    ∃ n83 : Nat, wY_skew_83 post (nI a) (nI b) f (nI D) f_side f_arraySide f_statements f_sealed f_pointCount f_bandFirst f_bandCount f_bandSize f_accepted f_blamed f_prefixLength a_bounds a_ops a_factors a_given a_subs a_cells a_xs a_order a_inD a_t a_prefix n83 0 := by
  refine ⟨D + 1, ?_⟩
  have go : ∀ d c : Nat, c + d = D → (∀ c', c' < c → ¬ a_t (a * 3 + c') + f * a_t (b * 3 + c') < -8 ∧ a_t (a * 3 + c') + f * a_t (b * 3 + c') ≤ 8) → wY_skew_83 post (nI a) (nI b) f (nI D) f_side f_arraySide f_statements f_sealed f_pointCount f_bandFirst f_bandCount f_bandSize f_accepted f_blamed f_prefixLength a_bounds a_ops a_factors a_given a_subs a_cells a_xs a_order a_inD a_t a_prefix (d + 1) (nI c) := by
    intro d
    induction d with
    | zero =>
      intro c hc h
      cases (show c = D by omega)
      refine br_t (nI_le (by omega) (by omega)) ?_
      refine loop_0 (fun n i s => wY_skew_141 post (nI a) (nI b) f (nI D) f_side f_arraySide f_statements f_sealed f_pointCount f_bandFirst f_bandCount f_bandSize f_accepted f_blamed f_prefixLength n (nI i) a_bounds a_ops a_factors a_given a_subs a_cells a_xs a_order a_inD s a_prefix) (fun i s => ∀ r c, r < 3 → c < 3 → s (r * 3 + c) = if r = a ∧ c < i then a_t (a * 3 + c) + f * a_t (b * 3 + c) else a_t (r * 3 + c)) D a_t (fun r c _ _ => by rw [if_neg (by omega)]) ?_ ?_
      · intro n s hs
        exact br_t (nI_le (by omega) (by omega)) (y_dis (K h s hs))
      · intro n i s hi hs hK
        have e1 : nI a * 3 + nI i = nI (a * 3 + i) := by rw [nx_m3, nI_add]
        have e2 : nI b * 3 + nI i = nI (b * 3 + i) := by rw [nx_m3, nI_add]
        have sa := hs a i ha (by omega)
        have sb := hs b i hb (by omega)
        rw [if_neg (by omega)] at sa sb
        refine br_f (nI_ge hi (by omega)) ⟨vx_n _ e1 (by omega) (by omega), vx_n _ e2 (by omega) (by omega), vx_n _ e1 (by omega) (by omega), nm_r (e' := upd s (a * 3 + i) (a_t (a * 3 + i) + f * a_t (b * 3 + i))) (by rw [cx_n _ e1 (by omega), cx_n _ e2 (by omega), sa, sb]) (nm_r (nI_1 i) (hK _ (fun r c hr hc => ?_)))⟩
        by_cases y : r = a ∧ c = i
        · obtain ⟨rfl, rfl⟩ := y
          rw [pk_us, if_pos (by omega)]
        · rw [pk_un (by omega), hs r c hr hc]
          by_cases z : r = a ∧ c < i
          · rw [if_pos z, if_pos (by omega)]
          · rw [if_neg z, if_neg (by omega)]
    | succ d ih =>
      intro c hc h
      have e1 : nI a * 3 + nI c = nI (a * 3 + c) := by rw [nx_m3, nI_add]
      have e2 : nI b * 3 + nI c = nI (b * 3 + c) := by rw [nx_m3, nI_add]
      refine br_f (nI_ge (by omega) (by omega)) ⟨vx_n _ e1 (by omega) (by omega), vx_n _ e2 (by omega) (by omega), ?_⟩
      rw [cx_n _ e1 (by omega), cx_n _ e2 (by omega)]
      refine y_out (fun g => br_f (by decide) (KF ⟨c, by omega, g⟩)) (fun g g' => br_t rfl (nm_r (nI_1 c) (ih (c + 1) (by omega) (fun c' hc' => ?_))))
      by_cases x : c' = c
      · subst x; exact ⟨g, g'⟩
      · exact h c' (by omega)
  exact go D 0 (by omega) (fun c' h => by omega)
end
/-! determinants -/
theorem dtr_e (T : Nat → Int) : dtr T 3 = 0 + T 0 * (T 4 * T 8 - T 5 * T 7) + T 1 * (T 5 * T 6 - T 3 * T 8) + T 2 * (T 3 * T 7 - T 4 * T 6) := rfl
theorem dt_01 {T T' : Nat → Int} (h0 : T' 0 = T 3) (h1 : T' 1 = T 4) (h2 : T' 2 = T 5) (h3 : T' 3 = T 0) (h4 : T' 4 = T 1) (h5 : T' 5 = T 2) (h6 : T' 6 = T 6) (h7 : T' 7 = T 7) (h8 : T' 8 = T 8) : dtr T' 3 = -dtr T 3 := by
  rw [dtr_e, dtr_e, h0, h1, h2, h3, h4, h5, h6, h7, h8]; grind
theorem dt_02 {T T' : Nat → Int} (h0 : T' 0 = T 6) (h1 : T' 1 = T 7) (h2 : T' 2 = T 8) (h3 : T' 3 = T 3) (h4 : T' 4 = T 4) (h5 : T' 5 = T 5) (h6 : T' 6 = T 0) (h7 : T' 7 = T 1) (h8 : T' 8 = T 2) : dtr T' 3 = -dtr T 3 := by
  rw [dtr_e, dtr_e, h0, h1, h2, h3, h4, h5, h6, h7, h8]; grind
theorem dt_12 {T T' : Nat → Int} (h0 : T' 0 = T 0) (h1 : T' 1 = T 1) (h2 : T' 2 = T 2) (h3 : T' 3 = T 6) (h4 : T' 4 = T 7) (h5 : T' 5 = T 8) (h6 : T' 6 = T 3) (h7 : T' 7 = T 4) (h8 : T' 8 = T 5) : dtr T' 3 = -dtr T 3 := by
  rw [dtr_e, dtr_e, h0, h1, h2, h3, h4, h5, h6, h7, h8]; grind
theorem dtr_sw {T T' : Nat → Int} {a b : Nat} (ha : a < 3) (hb : b < 3) (hab : a ≠ b) (h : ∀ r c, r < 3 → c < 3 → T' (r * 3 + c) = T (swr a b r * 3 + c)) : dtr T' 3 = -dtr T 3 := by
  rcases (show (a = 0 ∧ b = 1) ∨ (a = 1 ∧ b = 0) ∨ (a = 0 ∧ b = 2) ∨ (a = 2 ∧ b = 0) ∨ (a = 1 ∧ b = 2) ∨ (a = 2 ∧ b = 1) by omega) with ⟨rfl, rfl⟩ | ⟨rfl, rfl⟩ | ⟨rfl, rfl⟩ | ⟨rfl, rfl⟩ | ⟨rfl, rfl⟩ | ⟨rfl, rfl⟩
  · exact dt_01 (h 0 0 (by omega) (by omega)) (h 0 1 (by omega) (by omega)) (h 0 2 (by omega) (by omega)) (h 1 0 (by omega) (by omega)) (h 1 1 (by omega) (by omega)) (h 1 2 (by omega) (by omega)) (h 2 0 (by omega) (by omega)) (h 2 1 (by omega) (by omega)) (h 2 2 (by omega) (by omega))
  · exact dt_01 (h 0 0 (by omega) (by omega)) (h 0 1 (by omega) (by omega)) (h 0 2 (by omega) (by omega)) (h 1 0 (by omega) (by omega)) (h 1 1 (by omega) (by omega)) (h 1 2 (by omega) (by omega)) (h 2 0 (by omega) (by omega)) (h 2 1 (by omega) (by omega)) (h 2 2 (by omega) (by omega))
  · exact dt_02 (h 0 0 (by omega) (by omega)) (h 0 1 (by omega) (by omega)) (h 0 2 (by omega) (by omega)) (h 1 0 (by omega) (by omega)) (h 1 1 (by omega) (by omega)) (h 1 2 (by omega) (by omega)) (h 2 0 (by omega) (by omega)) (h 2 1 (by omega) (by omega)) (h 2 2 (by omega) (by omega))
  · exact dt_02 (h 0 0 (by omega) (by omega)) (h 0 1 (by omega) (by omega)) (h 0 2 (by omega) (by omega)) (h 1 0 (by omega) (by omega)) (h 1 1 (by omega) (by omega)) (h 1 2 (by omega) (by omega)) (h 2 0 (by omega) (by omega)) (h 2 1 (by omega) (by omega)) (h 2 2 (by omega) (by omega))
  · exact dt_12 (h 0 0 (by omega) (by omega)) (h 0 1 (by omega) (by omega)) (h 0 2 (by omega) (by omega)) (h 1 0 (by omega) (by omega)) (h 1 1 (by omega) (by omega)) (h 1 2 (by omega) (by omega)) (h 2 0 (by omega) (by omega)) (h 2 1 (by omega) (by omega)) (h 2 2 (by omega) (by omega))
  · exact dt_12 (h 0 0 (by omega) (by omega)) (h 0 1 (by omega) (by omega)) (h 0 2 (by omega) (by omega)) (h 1 0 (by omega) (by omega)) (h 1 1 (by omega) (by omega)) (h 1 2 (by omega) (by omega)) (h 2 0 (by omega) (by omega)) (h 2 1 (by omega) (by omega)) (h 2 2 (by omega) (by omega))
theorem dt_r0 {T T' : Nat → Int} (h0 : T' 0 = -T 0) (h1 : T' 1 = -T 1) (h2 : T' 2 = -T 2) (h3 : T' 3 = T 3) (h4 : T' 4 = T 4) (h5 : T' 5 = T 5) (h6 : T' 6 = T 6) (h7 : T' 7 = T 7) (h8 : T' 8 = T 8) : dtr T' 3 = -dtr T 3 := by
  rw [dtr_e, dtr_e, h0, h1, h2, h3, h4, h5, h6, h7, h8]; grind
theorem dt_r1 {T T' : Nat → Int} (h0 : T' 0 = T 0) (h1 : T' 1 = T 1) (h2 : T' 2 = T 2) (h3 : T' 3 = -T 3) (h4 : T' 4 = -T 4) (h5 : T' 5 = -T 5) (h6 : T' 6 = T 6) (h7 : T' 7 = T 7) (h8 : T' 8 = T 8) : dtr T' 3 = -dtr T 3 := by
  rw [dtr_e, dtr_e, h0, h1, h2, h3, h4, h5, h6, h7, h8]; grind
theorem dt_r2 {T T' : Nat → Int} (h0 : T' 0 = T 0) (h1 : T' 1 = T 1) (h2 : T' 2 = T 2) (h3 : T' 3 = T 3) (h4 : T' 4 = T 4) (h5 : T' 5 = T 5) (h6 : T' 6 = -T 6) (h7 : T' 7 = -T 7) (h8 : T' 8 = -T 8) : dtr T' 3 = -dtr T 3 := by
  rw [dtr_e, dtr_e, h0, h1, h2, h3, h4, h5, h6, h7, h8]; grind
theorem dtr_rv {T T' : Nat → Int} {a : Nat} (ha : a < 3) (h : ∀ r c, r < 3 → c < 3 → T' (r * 3 + c) = if r = a then -T (r * 3 + c) else T (r * 3 + c)) : dtr T' 3 = -dtr T 3 := by
  rcases (show a = 0 ∨ a = 1 ∨ a = 2 by omega) with rfl | rfl | rfl
  · exact dt_r0 (h 0 0 (by omega) (by omega)) (h 0 1 (by omega) (by omega)) (h 0 2 (by omega) (by omega)) (h 1 0 (by omega) (by omega)) (h 1 1 (by omega) (by omega)) (h 1 2 (by omega) (by omega)) (h 2 0 (by omega) (by omega)) (h 2 1 (by omega) (by omega)) (h 2 2 (by omega) (by omega))
  · exact dt_r1 (h 0 0 (by omega) (by omega)) (h 0 1 (by omega) (by omega)) (h 0 2 (by omega) (by omega)) (h 1 0 (by omega) (by omega)) (h 1 1 (by omega) (by omega)) (h 1 2 (by omega) (by omega)) (h 2 0 (by omega) (by omega)) (h 2 1 (by omega) (by omega)) (h 2 2 (by omega) (by omega))
  · exact dt_r2 (h 0 0 (by omega) (by omega)) (h 0 1 (by omega) (by omega)) (h 0 2 (by omega) (by omega)) (h 1 0 (by omega) (by omega)) (h 1 1 (by omega) (by omega)) (h 1 2 (by omega) (by omega)) (h 2 0 (by omega) (by omega)) (h 2 1 (by omega) (by omega)) (h 2 2 (by omega) (by omega))
theorem dt_s01 {T T' : Nat → Int} {f : Int} (h0 : T' 0 = T 0 + f * T 3) (h1 : T' 1 = T 1 + f * T 4) (h2 : T' 2 = T 2 + f * T 5) (h3 : T' 3 = T 3) (h4 : T' 4 = T 4) (h5 : T' 5 = T 5) (h6 : T' 6 = T 6) (h7 : T' 7 = T 7) (h8 : T' 8 = T 8) : dtr T' 3 = dtr T 3 := by
  rw [dtr_e, dtr_e, h0, h1, h2, h3, h4, h5, h6, h7, h8]; grind
theorem dt_s10 {T T' : Nat → Int} {f : Int} (h0 : T' 0 = T 0) (h1 : T' 1 = T 1) (h2 : T' 2 = T 2) (h3 : T' 3 = T 3 + f * T 0) (h4 : T' 4 = T 4 + f * T 1) (h5 : T' 5 = T 5 + f * T 2) (h6 : T' 6 = T 6) (h7 : T' 7 = T 7) (h8 : T' 8 = T 8) : dtr T' 3 = dtr T 3 := by
  rw [dtr_e, dtr_e, h0, h1, h2, h3, h4, h5, h6, h7, h8]; grind
theorem dt_s02 {T T' : Nat → Int} {f : Int} (h0 : T' 0 = T 0 + f * T 6) (h1 : T' 1 = T 1 + f * T 7) (h2 : T' 2 = T 2 + f * T 8) (h3 : T' 3 = T 3) (h4 : T' 4 = T 4) (h5 : T' 5 = T 5) (h6 : T' 6 = T 6) (h7 : T' 7 = T 7) (h8 : T' 8 = T 8) : dtr T' 3 = dtr T 3 := by
  rw [dtr_e, dtr_e, h0, h1, h2, h3, h4, h5, h6, h7, h8]; grind
theorem dt_s20 {T T' : Nat → Int} {f : Int} (h0 : T' 0 = T 0) (h1 : T' 1 = T 1) (h2 : T' 2 = T 2) (h3 : T' 3 = T 3) (h4 : T' 4 = T 4) (h5 : T' 5 = T 5) (h6 : T' 6 = T 6 + f * T 0) (h7 : T' 7 = T 7 + f * T 1) (h8 : T' 8 = T 8 + f * T 2) : dtr T' 3 = dtr T 3 := by
  rw [dtr_e, dtr_e, h0, h1, h2, h3, h4, h5, h6, h7, h8]; grind
theorem dt_s12 {T T' : Nat → Int} {f : Int} (h0 : T' 0 = T 0) (h1 : T' 1 = T 1) (h2 : T' 2 = T 2) (h3 : T' 3 = T 3 + f * T 6) (h4 : T' 4 = T 4 + f * T 7) (h5 : T' 5 = T 5 + f * T 8) (h6 : T' 6 = T 6) (h7 : T' 7 = T 7) (h8 : T' 8 = T 8) : dtr T' 3 = dtr T 3 := by
  rw [dtr_e, dtr_e, h0, h1, h2, h3, h4, h5, h6, h7, h8]; grind
theorem dt_s21 {T T' : Nat → Int} {f : Int} (h0 : T' 0 = T 0) (h1 : T' 1 = T 1) (h2 : T' 2 = T 2) (h3 : T' 3 = T 3) (h4 : T' 4 = T 4) (h5 : T' 5 = T 5) (h6 : T' 6 = T 6 + f * T 3) (h7 : T' 7 = T 7 + f * T 4) (h8 : T' 8 = T 8 + f * T 5) : dtr T' 3 = dtr T 3 := by
  rw [dtr_e, dtr_e, h0, h1, h2, h3, h4, h5, h6, h7, h8]; grind
theorem dtr_sk {T T' : Nat → Int} {a b : Nat} {f : Int} (ha : a < 3) (hb : b < 3) (hab : a ≠ b) (h : ∀ r c, r < 3 → c < 3 → T' (r * 3 + c) = if r = a then T (a * 3 + c) + f * T (b * 3 + c) else T (r * 3 + c)) : dtr T' 3 = dtr T 3 := by
  rcases (show (a = 0 ∧ b = 1) ∨ (a = 1 ∧ b = 0) ∨ (a = 0 ∧ b = 2) ∨ (a = 2 ∧ b = 0) ∨ (a = 1 ∧ b = 2) ∨ (a = 2 ∧ b = 1) by omega) with ⟨rfl, rfl⟩ | ⟨rfl, rfl⟩ | ⟨rfl, rfl⟩ | ⟨rfl, rfl⟩ | ⟨rfl, rfl⟩ | ⟨rfl, rfl⟩
  · exact dt_s01 (h 0 0 (by omega) (by omega)) (h 0 1 (by omega) (by omega)) (h 0 2 (by omega) (by omega)) (h 1 0 (by omega) (by omega)) (h 1 1 (by omega) (by omega)) (h 1 2 (by omega) (by omega)) (h 2 0 (by omega) (by omega)) (h 2 1 (by omega) (by omega)) (h 2 2 (by omega) (by omega))
  · exact dt_s10 (h 0 0 (by omega) (by omega)) (h 0 1 (by omega) (by omega)) (h 0 2 (by omega) (by omega)) (h 1 0 (by omega) (by omega)) (h 1 1 (by omega) (by omega)) (h 1 2 (by omega) (by omega)) (h 2 0 (by omega) (by omega)) (h 2 1 (by omega) (by omega)) (h 2 2 (by omega) (by omega))
  · exact dt_s02 (h 0 0 (by omega) (by omega)) (h 0 1 (by omega) (by omega)) (h 0 2 (by omega) (by omega)) (h 1 0 (by omega) (by omega)) (h 1 1 (by omega) (by omega)) (h 1 2 (by omega) (by omega)) (h 2 0 (by omega) (by omega)) (h 2 1 (by omega) (by omega)) (h 2 2 (by omega) (by omega))
  · exact dt_s20 (h 0 0 (by omega) (by omega)) (h 0 1 (by omega) (by omega)) (h 0 2 (by omega) (by omega)) (h 1 0 (by omega) (by omega)) (h 1 1 (by omega) (by omega)) (h 1 2 (by omega) (by omega)) (h 2 0 (by omega) (by omega)) (h 2 1 (by omega) (by omega)) (h 2 2 (by omega) (by omega))
  · exact dt_s12 (h 0 0 (by omega) (by omega)) (h 0 1 (by omega) (by omega)) (h 0 2 (by omega) (by omega)) (h 1 0 (by omega) (by omega)) (h 1 1 (by omega) (by omega)) (h 1 2 (by omega) (by omega)) (h 2 0 (by omega) (by omega)) (h 2 1 (by omega) (by omega)) (h 2 2 (by omega) (by omega))
  · exact dt_s21 (h 0 0 (by omega) (by omega)) (h 0 1 (by omega) (by omega)) (h 0 2 (by omega) (by omega)) (h 1 0 (by omega) (by omega)) (h 1 1 (by omega) (by omega)) (h 1 2 (by omega) (by omega)) (h 2 0 (by omega) (by omega)) (h 2 1 (by omega) (by omega)) (h 2 2 (by omega) (by omega))
end
section
/-! fill, entry, interchange, reverse, skew: the owed statements -/
theorem rc9 {P : Nat → Prop} (h : ∀ r c, r < 3 → c < 3 → P (r * 3 + c)) {j : Nat} (hj : j < 9) : P j := by
  have := h (j / 3) (j % 3) (by omega) (by omega)
  rw [show j / 3 * 3 + j % 3 = j by omega] at this
  exact this
theorem i_vc_fill {k : Nat} {u : SX} {v : SY} (I : i_Rel k u v) (hk : k + 5 ≤ 2563) (v1 : Int32) : wpX_fill (fun u' => wpY_fill (fun v' => i_Rel (k + 5) u' v') v v1) u v1 := by

  refine zz_el (Q := fun u v => wpX_fill (fun u' => wpY_fill (fun v' => i_Rel (k + 5) u' v') v v1) u v1) ?_ I
  intro D S A St P cnt F Cn Bs m f_sealed f_accepted f_blamed f_tunedFresh f_scanAt f_scanFirst f_scanCount f_scanSize f_scanPins f_rangeLow f_rangeHigh a_limits a_ops a_factors a_given a_subs a_pointX a_numberAt a_cells a_seen a_distances a_matrix a_prefix a_prefixFrom a_prefixTo a_tunedOrder a_tunedKey a_toX a_toZ a_sysCount a_hullLow a_hullHigh a_cursor a_limit a_pin a_echelon a_pivot a_sysCoef a_sysBound a_cand a_spanLow a_spanHigh g_blamed a_order a_inD a_t b_prefix hb hs
  have hA := hb.2.2.1.2
  exact xf_fill hA (yf_fill hA (zz_in hb hs))
theorem i_vc_entry {k : Nat} {u : SX} {v : SY} (I : i_Rel k u v) (hk : k + 5 ≤ 2563) (v1 : Int32) (v2 : Int32) : wpX_entry (fun r => wpY_entry (fun r' => r' = r ∧ i_Rel (k + 5) u v) v v1 v2) u v1 v2 := by
  refine zz_el (Q := fun u v => wpX_entry (fun r => wpY_entry (fun r' => r' = r ∧ i_Rel (k + 5) u v) v v1 v2) u v1 v2) ?_ I
  intro D S A St P cnt F Cn Bs m f_sealed f_accepted f_blamed f_tunedFresh f_scanAt f_scanFirst f_scanCount f_scanSize f_scanPins f_rangeLow f_rangeHigh a_limits a_ops a_factors a_given a_subs a_pointX a_numberAt a_cells a_seen a_distances a_matrix a_prefix a_prefixFrom a_prefixTo a_tunedOrder a_tunedKey a_toX a_toZ a_sysCount a_hullLow a_hullHigh a_cursor a_limit a_pin a_echelon a_pivot a_sysCoef a_sysBound a_cand a_spanLow a_spanHigh g_blamed a_order a_inD a_t b_prefix hb hs
  by_cases h0 : f_sealed = 0
  · exact br_t h0 (br_t h0 ⟨rfl, zz_in hb hs⟩)
  · obtain ⟨s1, s2, s3, s4, s5, s6, s7, s8, s9, s10, s11⟩ := hs h0
    obtain ⟨q1, q2, q3, q4, q5, q6, q7, q8, q9⟩ := hb
    have done : ∀ r : Int32, (r = r) ∧ i_Rel (k + 5) ((nI D), (nI S), (nI A), (nI St), f_sealed, (nI P), (nI cnt), (nI F), (nI Cn), (nI Bs), f_accepted, f_blamed, (nI m), f_tunedFresh, f_rangeLow, f_rangeHigh, f_scanAt, f_scanFirst, f_scanCount, f_scanSize, f_scanPins, a_limits, a_ops, a_factors, a_given, a_subs, a_pointX, a_numberAt, a_cells, a_seen, a_distances, a_matrix, a_prefix, a_prefixFrom, a_prefixTo, a_tunedOrder, a_tunedKey, a_toX, a_toZ, a_sysCoef, a_sysBound, a_sysCount, a_cand, a_hullLow, a_hullHigh, a_spanLow, a_spanHigh, a_cursor, a_limit, a_pin, a_echelon, a_pivot) ((nI D), (nI S), (nI A), (nI St), f_sealed, (nI P), (nI F), (nI Cn), (nI Bs), f_accepted, g_blamed, (nI m), a_limits, a_ops, a_factors, a_given, a_subs, a_cells, a_pointX, a_order, a_inD, a_t, b_prefix) := fun r => ⟨rfl, zz_in ⟨q1, q2, q3, q4, q5, q6, q7, q8, q9⟩ hs⟩
    have hle : ∀ {x a : Int32}, ¬ x ≤ a → a < x := fun h => Int32.not_le.mp h
    refine br_f h0 ?_
    by_cases hr : ∃ j, j ≤ D ∧ v1 = nI j
    · obtain ⟨r, hr, rfl⟩ := hr
      have y1 : ∀ post : Int32 → Prop, ((nI r = nI D → wY_entry_45 post (nI r) v2 2 0 v2 (nI D) (nI S) (nI A) (nI St) f_sealed (nI P) (nI F) (nI Cn) (nI Bs) f_accepted g_blamed (nI m) a_limits a_ops a_factors a_given a_subs a_cells a_pointX a_order a_inD a_t b_prefix) ∧ (¬ nI r = nI D → wY_entry_45 post (nI r) v2 (nI D - 1) 0 v2 (nI D) (nI S) (nI A) (nI St) f_sealed (nI P) (nI F) (nI Cn) (nI Bs) f_accepted g_blamed (nI m) a_limits a_ops a_factors a_given a_subs a_cells a_pointX a_order a_inD a_t b_prefix)) → wpY_entry post ((nI D), (nI S), (nI A), (nI St), f_sealed, (nI P), (nI F), (nI Cn), (nI Bs), f_accepted, g_blamed, (nI m), a_limits, a_ops, a_factors, a_given, a_subs, a_cells, a_pointX, a_order, a_inD, a_t, b_prefix) (nI r) v2 := fun post h => br_f h0 (y_out (fun z => absurd z (nab (nI_pos (by omega)) (nI_le hr (by omega)))) (fun _ _ => br_t rfl h))
      refine br_f (nI_pos (by omega)) (br_f (nI_nlt hr (by omega)) ?_)
      by_cases hD : r = D
      · subst hD
        by_cases hc : ∃ j, j ≤ 2 ∧ v2 = nI j
        · obtain ⟨c, hc, rfl⟩ := hc
          have y2 : ∀ post : Int32 → Prop, ((nI c = 0 → post (nI F)) ∧ (¬ nI c = 0 → ((nI c = 1 → post (nI Cn)) ∧ (¬ nI c = 1 → post (nI Bs))))) → wpY_entry post (nI r, (nI S), (nI A), (nI St), f_sealed, (nI P), (nI F), (nI Cn), (nI Bs), f_accepted, g_blamed, (nI m), a_limits, a_ops, a_factors, a_given, a_subs, a_cells, a_pointX, a_order, a_inD, a_t, b_prefix) (nI r) (nI c) := fun post h => y1 post (br_t rfl (y_out (fun z => absurd z (nab (nI_pos (by omega)) (nI_le (b := 2) hc (by omega)))) (fun _ _ => br_t rfl (br_t rfl h))))
          refine br_t (nI_pos' (by omega)) (br_t rfl (br_t (nI_le (b := 2) hc (by omega)) (br_c (fun z => y2 _ (br_t z (done _))) (fun z => br_c (fun z' => y2 _ (br_f z (br_t z' (done _)))) (fun z' => y2 _ (br_f z (br_f z' (done _))))))))
        · have ho := out0 (N := 2) (by omega) hc
          have yb : wpY_entry (fun r' => r' = -1001 ∧ i_Rel (k + 5) (nI r, (nI S), (nI A), (nI St), f_sealed, (nI P), (nI cnt), (nI F), (nI Cn), (nI Bs), f_accepted, f_blamed, (nI m), f_tunedFresh, f_rangeLow, f_rangeHigh, f_scanAt, f_scanFirst, f_scanCount, f_scanSize, f_scanPins, a_limits, a_ops, a_factors, a_given, a_subs, a_pointX, a_numberAt, a_cells, a_seen, a_distances, a_matrix, a_prefix, a_prefixFrom, a_prefixTo, a_tunedOrder, a_tunedKey, a_toX, a_toZ, a_sysCoef, a_sysBound, a_sysCount, a_cand, a_hullLow, a_hullHigh, a_spanLow, a_spanHigh, a_cursor, a_limit, a_pin, a_echelon, a_pivot) (nI r, (nI S), (nI A), (nI St), f_sealed, (nI P), (nI F), (nI Cn), (nI Bs), f_accepted, g_blamed, (nI m), a_limits, a_ops, a_factors, a_given, a_subs, a_cells, a_pointX, a_order, a_inD, a_t, b_prefix)) (nI r, (nI S), (nI A), (nI St), f_sealed, (nI P), (nI F), (nI Cn), (nI Bs), f_accepted, g_blamed, (nI m), a_limits, a_ops, a_factors, a_given, a_subs, a_cells, a_pointX, a_order, a_inD, a_t, b_prefix) (nI r) v2 := y1 _ (br_t rfl (y_out (fun _ => br_f (by decide) (done _)) (fun g1 g2 => absurd ho (nab g1 g2))))
          exact br_c (fun g => br_t rfl (br_f (bna ho (Int32.not_lt.mpr g)) yb)) (fun _ => yb)
      · have hne : ¬ nI r = nI D := fun z => hD ((nI_eq (by omega) (by omega)).mp z)
        rcases in_or (x := v2) (N := D) (by omega) with ⟨c, hc, rfl⟩ | hbad
        · have yc := ok_y hc (by omega)
          have e : nI r * 3 + nI c = nI (r * 3 + c) := by rw [nx_m3, nI_add]
          refine br_t (nI_pos' (by omega)) (br_f hne (br_t (nI_lt hc (by omega)) ⟨vx_n _ e (by omega) (by omega), ?_⟩))
          refine y1 _ (br_f hne (y_out (fun z => absurd z (nab yc.1 yc.2)) (fun _ _ => br_t rfl (br_f hne ⟨vx_n _ e (by omega) (by omega), ?_, (done 0).2⟩))))
          rw [cx_n _ e (by omega)]
          exact s6 _ (by omega)
        · have yb : wpY_entry (fun r' => r' = -1001 ∧ i_Rel (k + 5) ((nI D), (nI S), (nI A), (nI St), f_sealed, (nI P), (nI cnt), (nI F), (nI Cn), (nI Bs), f_accepted, f_blamed, (nI m), f_tunedFresh, f_rangeLow, f_rangeHigh, f_scanAt, f_scanFirst, f_scanCount, f_scanSize, f_scanPins, a_limits, a_ops, a_factors, a_given, a_subs, a_pointX, a_numberAt, a_cells, a_seen, a_distances, a_matrix, a_prefix, a_prefixFrom, a_prefixTo, a_tunedOrder, a_tunedKey, a_toX, a_toZ, a_sysCoef, a_sysBound, a_sysCount, a_cand, a_hullLow, a_hullHigh, a_spanLow, a_spanHigh, a_cursor, a_limit, a_pin, a_echelon, a_pivot) ((nI D), (nI S), (nI A), (nI St), f_sealed, (nI P), (nI F), (nI Cn), (nI Bs), f_accepted, g_blamed, (nI m), a_limits, a_ops, a_factors, a_given, a_subs, a_cells, a_pointX, a_order, a_inD, a_t, b_prefix)) ((nI D), (nI S), (nI A), (nI St), f_sealed, (nI P), (nI F), (nI Cn), (nI Bs), f_accepted, g_blamed, (nI m), a_limits, a_ops, a_factors, a_given, a_subs, a_cells, a_pointX, a_order, a_inD, a_t, b_prefix) (nI r) v2 := y1 _ (br_f hne (y_out (fun _ => br_f (by decide) (done _)) (fun g1 g2 => absurd (bad_y (by omega) hbad) (nab g1 g2))))
          exact br_c (fun g => br_f hne (br_f (fun z => by rcases hbad with h | h; exact absurd g (Int32.not_le.mpr h); exact h z) yb)) (fun _ => yb)
    · have ho := out0 (N := D) (by omega) hr
      have yb : wpY_entry (fun r' => r' = -1001 ∧ i_Rel (k + 5) ((nI D), (nI S), (nI A), (nI St), f_sealed, (nI P), (nI cnt), (nI F), (nI Cn), (nI Bs), f_accepted, f_blamed, (nI m), f_tunedFresh, f_rangeLow, f_rangeHigh, f_scanAt, f_scanFirst, f_scanCount, f_scanSize, f_scanPins, a_limits, a_ops, a_factors, a_given, a_subs, a_pointX, a_numberAt, a_cells, a_seen, a_distances, a_matrix, a_prefix, a_prefixFrom, a_prefixTo, a_tunedOrder, a_tunedKey, a_toX, a_toZ, a_sysCoef, a_sysBound, a_sysCount, a_cand, a_hullLow, a_hullHigh, a_spanLow, a_spanHigh, a_cursor, a_limit, a_pin, a_echelon, a_pivot) ((nI D), (nI S), (nI A), (nI St), f_sealed, (nI P), (nI F), (nI Cn), (nI Bs), f_accepted, g_blamed, (nI m), a_limits, a_ops, a_factors, a_given, a_subs, a_cells, a_pointX, a_order, a_inD, a_t, b_prefix)) ((nI D), (nI S), (nI A), (nI St), f_sealed, (nI P), (nI F), (nI Cn), (nI Bs), f_accepted, g_blamed, (nI m), a_limits, a_ops, a_factors, a_given, a_subs, a_cells, a_pointX, a_order, a_inD, a_t, b_prefix) v1 v2 := br_f h0 (y_out (fun _ => br_f (by decide) (done _)) (fun g1 g2 => absurd ho (nab g1 g2)))
      exact br_c (fun _ => yb) (fun g => br_t (hle (bna ho g)) yb)
theorem i_vc_interchange {k : Nat} {u : SX} {v : SY} (I : i_Rel k u v) (hk : k + 5 ≤ 2563) (v1 : Int32) (v2 : Int32) : wpX_interchange (fun r u' => wpY_interchange (fun r' v' => r' = r ∧ i_Rel (k + 5) u' v') v v1 v2) u v1 v2 := by
  refine zz_el (Q := fun u v => wpX_interchange (fun r u' => wpY_interchange (fun r' v' => r' = r ∧ i_Rel (k + 5) u' v') v v1 v2) u v1 v2) ?_ I
  intro D S A St P cnt F Cn Bs m f_sealed f_accepted f_blamed f_tunedFresh f_scanAt f_scanFirst f_scanCount f_scanSize f_scanPins f_rangeLow f_rangeHigh a_limits a_ops a_factors a_given a_subs a_pointX a_numberAt a_cells a_seen a_distances a_matrix a_prefix a_prefixFrom a_prefixTo a_tunedOrder a_tunedKey a_toX a_toZ a_sysCount a_hullLow a_hullHigh a_cursor a_limit a_pin a_echelon a_pivot a_sysCoef a_sysBound a_cand a_spanLow a_spanHigh g_blamed a_order a_inD a_t b_prefix hb hs
  by_cases h0 : f_sealed = 0
  · exact br_t h0 (br_t h0 ⟨rfl, zz_in hb hs⟩)
  · obtain ⟨s1, s2, s3, s4, s5, s6, s7, s8, s9, s10, s11⟩ := hs h0
    obtain ⟨q1, q2, q3, q4, q5, q6, q7, q8, q9⟩ := hb
    have done : ∀ r : Int32, (r = r) ∧ i_Rel (k + 5) ((nI D), (nI S), (nI A), (nI St), f_sealed, (nI P), (nI cnt), (nI F), (nI Cn), (nI Bs), f_accepted, f_blamed, (nI m), f_tunedFresh, f_rangeLow, f_rangeHigh, f_scanAt, f_scanFirst, f_scanCount, f_scanSize, f_scanPins, a_limits, a_ops, a_factors, a_given, a_subs, a_pointX, a_numberAt, a_cells, a_seen, a_distances, a_matrix, a_prefix, a_prefixFrom, a_prefixTo, a_tunedOrder, a_tunedKey, a_toX, a_toZ, a_sysCoef, a_sysBound, a_sysCount, a_cand, a_hullLow, a_hullHigh, a_spanLow, a_spanHigh, a_cursor, a_limit, a_pin, a_echelon, a_pivot) ((nI D), (nI S), (nI A), (nI St), f_sealed, (nI P), (nI F), (nI Cn), (nI Bs), f_accepted, g_blamed, (nI m), a_limits, a_ops, a_factors, a_given, a_subs, a_cells, a_pointX, a_order, a_inD, a_t, b_prefix) := fun r => ⟨rfl, zz_in ⟨q1, q2, q3, q4, q5, q6, q7, q8, q9⟩ hs⟩
    have hCn : Cn ≤ 3 := by have := s8.1; omega
    rcases in_or (x := v1) (N := D) (by omega) with ⟨a, ha, rfl⟩ | hbad
    · have ya := ok_y ha (by omega)
      refine br_f h0 (br_f (nI_pos (by omega)) (br_f (nI_ge ha (by omega)) ?_))
      rcases in_or (x := v2) (N := D) (by omega) with ⟨b, hb, rfl⟩ | hbad
      · have yb := ok_y hb (by omega)
        have y1 : ∀ post : Int32 → SY → Prop, ((nI a = nI b → post (-1001) ((nI D), (nI S), (nI A), (nI St), f_sealed, (nI P), (nI F), (nI Cn), (nI Bs), f_accepted, g_blamed, (nI m), a_limits, a_ops, a_factors, a_given, a_subs, a_cells, a_pointX, a_order, a_inD, a_t, b_prefix)) ∧ (¬ nI a = nI b → ((nI Cn ≤ 0 → ∃ n63 : Nat, wY_interchange_63 post (nI a) (nI b) (nI D) (nI S) (nI A) (nI St) f_sealed (nI P) (nI F) (nI Cn) (nI Bs) f_accepted g_blamed (nI m) n63 0 a_limits a_ops a_factors a_given a_subs a_cells a_pointX a_order a_inD a_t b_prefix) ∧ (¬ nI Cn ≤ 0 → post (-1009) ((nI D), (nI S), (nI A), (nI St), f_sealed, (nI P), (nI F), (nI Cn), (nI Bs), f_accepted, g_blamed, (nI m), a_limits, a_ops, a_factors, a_given, a_subs, a_cells, a_pointX, a_order, a_inD, a_t, b_prefix))))) → wpY_interchange post ((nI D), (nI S), (nI A), (nI St), f_sealed, (nI P), (nI F), (nI Cn), (nI Bs), f_accepted, g_blamed, (nI m), a_limits, a_ops, a_factors, a_given, a_subs, a_cells, a_pointX, a_order, a_inD, a_t, b_prefix) (nI a) (nI b) := fun post h => br_f h0 (y_out (fun z => absurd z (nab ya.1 ya.2)) (fun _ _ => br_t rfl (y_out (fun z => absurd z (nab yb.1 yb.2)) (fun _ _ => br_t rfl h))))
        refine br_f (nI_pos (by omega)) (br_f (nI_ge hb (by omega)) (pk_eq a b (fun e => y1 _ (br_t (congrArg nI e) (done _))) (fun e => ?_)))
        have hne : ¬ nI a = nI b := fun z => e ((nI_eq (by omega) (by omega)).mp z)
        refine pk_le Cn 0 (fun hc => ?_) (fun hc => y1 _ (br_f hne (br_f (nI_nle hc (by omega)) (done _))))
        refine xm_int (by omega) (by omega) e (fun mt hmt => y1 _ (br_f hne (br_t (nI_le (b := 0) hc (by omega)) (ym_int (by omega) (by omega) (by omega) e (fun tt htt => ⟨rfl, ?_⟩)))))
        have hT := s7
        have ez : ∀ r c, r < 3 → c < 3 → iz mt (r * 3 + c) = iz a_matrix (swr a b r * 3 + c) := fun r c hr hc' => by show (mt _).toInt = _; rw [hmt r c hr hc']; rfl
        have hsw : ∀ r, r < 3 → swr a b r < 3 := fun r hr => by unfold swr; split <;> (try split) <;> omega
        have hpad : D = 2 → ∀ r c, r < 3 → c < 3 → (c = 2 ∨ r = 2) → swr a b r * 3 + c = r * 3 + c ∨ (iz a_matrix (swr a b r * 3 + c) = 0 ∧ iz a_matrix (r * 3 + c) = 0) := by
          intro e2 r c hr hc' hor
          obtain ⟨t2, t5, t6, t7, t8⟩ := hT.2.2 e2
          subst e2
          by_cases x : r = 2
          · left; unfold swr; rw [if_neg (by omega), if_neg (by omega)]
          · right
            cases (show c = 2 by omega)
            have : swr a b r = 0 ∨ swr a b r = 1 := by unfold swr; split <;> (try split) <;> omega
            have h2 : r = 0 ∨ r = 1 := by omega
            rcases this with w | w <;> rcases h2 with rfl | rfl <;> rw [w] <;> exact ⟨by assumption, by assumption⟩
        refine zz_in (m := 0) ⟨q1, q2, q3, q4, q5, q6, q7, q8, q9⟩ (fun _ => ⟨s1, s2, s3, s4, s5, fun j hj => rc9 (P := fun j => tt j = mt j) (fun r c hr hc' => ?_) hj, ⟨fun j hj => ⟨iz_z mt j, rc9 (P := fun j => -8 ≤ iz mt j ∧ iz mt j ≤ 8) (fun r c hr hc' => ?_) hj⟩, ?_, fun e2 => ?_⟩, s8, Or.inl ⟨rfl, rfl⟩, fun h => absurd rfl h, by omega, fun h => by omega, fun j hj => by omega, pre_0 s3.1.1⟩)
        · rw [htt r c hr hc', hmt r c hr hc']
          have := hsw r hr
          by_cases x : c < D
          · rw [if_pos x]; exact s6 _ (by omega)
          · rw [if_neg x, s6 _ (by omega)]
            rcases hpad (by omega) r c hr hc' (by omega) with w | w
            · rw [w]
            · rw [iz_z a_matrix (r * 3 + c), iz_z a_matrix (swr a b r * 3 + c), w.1, w.2]
        · rw [ez r c hr hc']
          have := hsw r hr
          exact (hT.1 _ (by omega)).2
        · have := dtr_sw (T := iz a_matrix) (T' := iz mt) (by omega) (by omega) e ez
          rcases hT.2.1 with w | w <;> rw [w] at this <;> omega
        · obtain ⟨t2, t5, t6, t7, t8⟩ := hT.2.2 e2
          have g : ∀ r c, r < 3 → c < 3 → (c = 2 ∨ r = 2) → iz mt (r * 3 + c) = iz a_matrix (r * 3 + c) := fun r c hr hc' hor => by
            rw [ez r c hr hc']
            rcases hpad e2 r c hr hc' hor with w | w
            · rw [w]
            · rw [w.1, w.2]
          exact ⟨(g 0 2 (by omega) (by omega) (by omega)).trans t2, (g 1 2 (by omega) (by omega) (by omega)).trans t5, (g 2 0 (by omega) (by omega) (by omega)).trans t6, (g 2 1 (by omega) (by omega) (by omega)).trans t7, (g 2 2 (by omega) (by omega) (by omega)).trans t8⟩
      · have yb : wpY_interchange (fun r' v' => r' = -1001 ∧ i_Rel (k + 5) ((nI D), (nI S), (nI A), (nI St), f_sealed, (nI P), (nI cnt), (nI F), (nI Cn), (nI Bs), f_accepted, f_blamed, (nI m), f_tunedFresh, f_rangeLow, f_rangeHigh, f_scanAt, f_scanFirst, f_scanCount, f_scanSize, f_scanPins, a_limits, a_ops, a_factors, a_given, a_subs, a_pointX, a_numberAt, a_cells, a_seen, a_distances, a_matrix, a_prefix, a_prefixFrom, a_prefixTo, a_tunedOrder, a_tunedKey, a_toX, a_toZ, a_sysCoef, a_sysBound, a_sysCount, a_cand, a_hullLow, a_hullHigh, a_spanLow, a_spanHigh, a_cursor, a_limit, a_pin, a_echelon, a_pivot) v') ((nI D), (nI S), (nI A), (nI St), f_sealed, (nI P), (nI F), (nI Cn), (nI Bs), f_accepted, g_blamed, (nI m), a_limits, a_ops, a_factors, a_given, a_subs, a_cells, a_pointX, a_order, a_inD, a_t, b_prefix) (nI a) v2 := br_f h0 (y_out (fun z => absurd z (nab ya.1 ya.2)) (fun _ _ => br_t rfl (y_out (fun _ => br_f (by decide) (done _)) (fun g1 g2 => absurd (bad_y (by omega) hbad) (nab g1 g2)))))
        exact br_c (fun _ => yb) (fun g => br_t (Int32.not_lt.mp (fun z => by rcases hbad with h | h; exact g h; exact h z)) yb)
    · have yb : wpY_interchange (fun r' v' => r' = -1001 ∧ i_Rel (k + 5) ((nI D), (nI S), (nI A), (nI St), f_sealed, (nI P), (nI cnt), (nI F), (nI Cn), (nI Bs), f_accepted, f_blamed, (nI m), f_tunedFresh, f_rangeLow, f_rangeHigh, f_scanAt, f_scanFirst, f_scanCount, f_scanSize, f_scanPins, a_limits, a_ops, a_factors, a_given, a_subs, a_pointX, a_numberAt, a_cells, a_seen, a_distances, a_matrix, a_prefix, a_prefixFrom, a_prefixTo, a_tunedOrder, a_tunedKey, a_toX, a_toZ, a_sysCoef, a_sysBound, a_sysCount, a_cand, a_hullLow, a_hullHigh, a_spanLow, a_spanHigh, a_cursor, a_limit, a_pin, a_echelon, a_pivot) v') ((nI D), (nI S), (nI A), (nI St), f_sealed, (nI P), (nI F), (nI Cn), (nI Bs), f_accepted, g_blamed, (nI m), a_limits, a_ops, a_factors, a_given, a_subs, a_cells, a_pointX, a_order, a_inD, a_t, b_prefix) v1 v2 := br_f h0 (y_out (fun _ => br_f (by decide) (done _)) (fun g1 g2 => absurd (bad_y (by omega) hbad) (nab g1 g2)))
      exact br_f h0 (br_c (fun _ => yb) (fun g => br_t (Int32.not_lt.mp (fun z => by rcases hbad with h | h; exact g h; exact h z)) yb))
end
section
/-! reverse, skew -/

theorem neg_z {x : Int32} (h : -1000 ≤ x.toInt ∧ x.toInt ≤ 1000) : (-x).toInt = -x.toInt := by
  rw [zI_of x, zI_neg, zI_t (by omega) (by omega), zI_t (by omega) (by omega)]
theorem i_vc_reverse {k : Nat} {u : SX} {v : SY} (I : i_Rel k u v) (hk : k + 5 ≤ 2563) (v1 : Int32) : wpX_reverse (fun r u' => wpY_reverse (fun r' v' => r' = r ∧ i_Rel (k + 5) u' v') v v1) u v1 := by
  refine zz_el (Q := fun u v => wpX_reverse (fun r u' => wpY_reverse (fun r' v' => r' = r ∧ i_Rel (k + 5) u' v') v v1) u v1) ?_ I
  intro D S A St P cnt F Cn Bs m f_sealed f_accepted f_blamed f_tunedFresh f_scanAt f_scanFirst f_scanCount f_scanSize f_scanPins f_rangeLow f_rangeHigh a_limits a_ops a_factors a_given a_subs a_pointX a_numberAt a_cells a_seen a_distances a_matrix a_prefix a_prefixFrom a_prefixTo a_tunedOrder a_tunedKey a_toX a_toZ a_sysCount a_hullLow a_hullHigh a_cursor a_limit a_pin a_echelon a_pivot a_sysCoef a_sysBound a_cand a_spanLow a_spanHigh g_blamed a_order a_inD a_t b_prefix hb hs
  by_cases h0 : f_sealed = 0
  · exact br_t h0 (br_t h0 ⟨rfl, zz_in hb hs⟩)
  · obtain ⟨s1, s2, s3, s4, s5, s6, s7, s8, s9, s10, s11⟩ := hs h0
    obtain ⟨q1, q2, q3, q4, q5, q6, q7, q8, q9⟩ := hb
    have done : ∀ r : Int32, (r = r) ∧ i_Rel (k + 5) ((nI D), (nI S), (nI A), (nI St), f_sealed, (nI P), (nI cnt), (nI F), (nI Cn), (nI Bs), f_accepted, f_blamed, (nI m), f_tunedFresh, f_rangeLow, f_rangeHigh, f_scanAt, f_scanFirst, f_scanCount, f_scanSize, f_scanPins, a_limits, a_ops, a_factors, a_given, a_subs, a_pointX, a_numberAt, a_cells, a_seen, a_distances, a_matrix, a_prefix, a_prefixFrom, a_prefixTo, a_tunedOrder, a_tunedKey, a_toX, a_toZ, a_sysCoef, a_sysBound, a_sysCount, a_cand, a_hullLow, a_hullHigh, a_spanLow, a_spanHigh, a_cursor, a_limit, a_pin, a_echelon, a_pivot) ((nI D), (nI S), (nI A), (nI St), f_sealed, (nI P), (nI F), (nI Cn), (nI Bs), f_accepted, g_blamed, (nI m), a_limits, a_ops, a_factors, a_given, a_subs, a_cells, a_pointX, a_order, a_inD, a_t, b_prefix) := fun r => ⟨rfl, zz_in ⟨q1, q2, q3, q4, q5, q6, q7, q8, q9⟩ hs⟩
    have hCn : Cn ≤ 3 := by have := s8.1; omega
    rcases in_or (x := v1) (N := D) (by omega) with ⟨a, ha, rfl⟩ | hbad
    · have ya := ok_y ha (by omega)
      have y1 : ∀ post : Int32 → SY → Prop, ((nI Cn ≤ 0 → ∃ n43 : Nat, wY_reverse_43 post (nI a) (nI D) (nI S) (nI A) (nI St) f_sealed (nI P) (nI F) (nI Cn) (nI Bs) f_accepted g_blamed (nI m) n43 0 a_limits a_ops a_factors a_given a_subs a_cells a_pointX a_order a_inD a_t b_prefix) ∧ (¬ nI Cn ≤ 0 → post (-1009) ((nI D), (nI S), (nI A), (nI St), f_sealed, (nI P), (nI F), (nI Cn), (nI Bs), f_accepted, g_blamed, (nI m), a_limits, a_ops, a_factors, a_given, a_subs, a_cells, a_pointX, a_order, a_inD, a_t, b_prefix))) → wpY_reverse post ((nI D), (nI S), (nI A), (nI St), f_sealed, (nI P), (nI F), (nI Cn), (nI Bs), f_accepted, g_blamed, (nI m), a_limits, a_ops, a_factors, a_given, a_subs, a_cells, a_pointX, a_order, a_inD, a_t, b_prefix) (nI a) := fun post h => br_f h0 (y_out (fun z => absurd z (nab ya.1 ya.2)) (fun _ _ => br_t rfl h))
      refine br_f h0 (br_f (nI_pos (by omega)) (br_t (nI_lt ha (by omega)) (pk_le Cn 0 (fun hc => ?_) (fun hc => y1 _ (br_f (nI_nle hc (by omega)) (done _))))))
      refine xm_rev (by omega) (fun mt hmt => y1 _ (br_t (nI_le (b := 0) hc (by omega)) (ym_rev (by omega) (by omega) (fun tt htt => ⟨rfl, ?_⟩))))
      have hT := s7
      have ez : ∀ r c, r < 3 → c < 3 → iz mt (r * 3 + c) = if r = a then -iz a_matrix (r * 3 + c) else iz a_matrix (r * 3 + c) := fun r c hr hc' => by
        show (mt _).toInt = _
        rw [hmt r c hr hc']
        have bb := (hT.1 (r * 3 + c) (by omega)).2
        by_cases x : r = a
        · rw [if_pos x, if_pos x]
          exact neg_z (by show -1000 ≤ iz a_matrix (r * 3 + c) ∧ iz a_matrix (r * 3 + c) ≤ 1000; omega)
        · rw [if_neg x, if_neg x]; rfl
      have hz2 : D = 2 → ∀ r, r < 2 → a_matrix (r * 3 + 2) = 0 := fun e2 r hr => by
        obtain ⟨t2, t5, t6, t7, t8⟩ := hT.2.2 e2
        rcases (show r = 0 ∨ r = 1 by omega) with rfl | rfl
        · exact Int32.toInt_inj.mp (t2.trans (by decide))
        · exact Int32.toInt_inj.mp (t5.trans (by decide))
      refine zz_in (m := 0) ⟨q1, q2, q3, q4, q5, q6, q7, q8, q9⟩ (fun _ => ⟨s1, s2, s3, s4, s5, fun j hj => rc9 (P := fun j => tt j = mt j) (fun r c hr hc' => ?_) hj, ⟨fun j hj => ⟨iz_z mt j, rc9 (P := fun j => -8 ≤ iz mt j ∧ iz mt j ≤ 8) (fun r c hr hc' => ?_) hj⟩, ?_, fun e2 => ?_⟩, s8, Or.inl ⟨rfl, rfl⟩, fun h => absurd rfl h, by omega, fun h => by omega, fun j hj => by omega, pre_0 s3.1.1⟩)
      · rw [htt r c hr hc', hmt r c hr hc', s6 _ (by omega)]
        by_cases x : r = a
        · by_cases y : c < D
          · rw [if_pos ⟨x, y⟩, if_pos x]
          · rw [if_neg (fun z => y z.2), if_pos x]
            cases (show c = 2 by omega)
            have e2 : D = 2 := by omega
            rw [hz2 e2 r (by omega)]; decide
        · rw [if_neg (fun z => x z.1), if_neg x]
      · rw [ez r c hr hc']
        have bb := (hT.1 (r * 3 + c) (by omega)).2
        split <;> omega
      · have := dtr_rv (T := iz a_matrix) (T' := iz mt) (by omega) ez
        rcases hT.2.1 with w | w <;> rw [w] at this <;> omega
      · obtain ⟨t2, t5, t6, t7, t8⟩ := hT.2.2 e2
        have e02 := ez 0 2 (by omega) (by omega)
        have e12 := ez 1 2 (by omega) (by omega)
        have e20 := ez 2 0 (by omega) (by omega)
        have e21 := ez 2 1 (by omega) (by omega)
        have e22 := ez 2 2 (by omega) (by omega)
        rw [if_neg (by omega)] at e20 e21 e22
        refine ⟨?_, ?_, e20.trans t6, e21.trans t7, e22.trans t8⟩
        · have e02' : iz mt 2 = if 0 = a then -iz a_matrix 2 else iz a_matrix 2 := e02
          rw [e02', t2]; split <;> rfl
        · have e12' : iz mt 5 = if 1 = a then -iz a_matrix 5 else iz a_matrix 5 := e12
          rw [e12', t5]; split <;> rfl
    · have yb : wpY_reverse (fun r' v' => r' = -1001 ∧ i_Rel (k + 5) ((nI D), (nI S), (nI A), (nI St), f_sealed, (nI P), (nI cnt), (nI F), (nI Cn), (nI Bs), f_accepted, f_blamed, (nI m), f_tunedFresh, f_rangeLow, f_rangeHigh, f_scanAt, f_scanFirst, f_scanCount, f_scanSize, f_scanPins, a_limits, a_ops, a_factors, a_given, a_subs, a_pointX, a_numberAt, a_cells, a_seen, a_distances, a_matrix, a_prefix, a_prefixFrom, a_prefixTo, a_tunedOrder, a_tunedKey, a_toX, a_toZ, a_sysCoef, a_sysBound, a_sysCount, a_cand, a_hullLow, a_hullHigh, a_spanLow, a_spanHigh, a_cursor, a_limit, a_pin, a_echelon, a_pivot) v') ((nI D), (nI S), (nI A), (nI St), f_sealed, (nI P), (nI F), (nI Cn), (nI Bs), f_accepted, g_blamed, (nI m), a_limits, a_ops, a_factors, a_given, a_subs, a_cells, a_pointX, a_order, a_inD, a_t, b_prefix) v1 := br_f h0 (y_out (fun _ => br_f (by decide) (done _)) (fun g1 g2 => absurd (bad_y (by omega) hbad) (nab g1 g2)))
      exact br_f h0 (br_c (fun _ => yb) (fun g => br_f (fun z => by rcases hbad with h | h; exact g h; exact h z) yb))
theorem i_vc_skew {k : Nat} {u : SX} {v : SY} (I : i_Rel k u v) (hk : k + 5 ≤ 2563) (v1 : Int32) (v2 : Int32) (v3 : Int32) : wpX_skew (fun r u' => wpY_skew (fun r' v' => r' = r ∧ i_Rel (k + 5) u' v') v v1 v2 v3) u v1 v2 v3 := by
  refine zz_el (Q := fun u v => wpX_skew (fun r u' => wpY_skew (fun r' v' => r' = r ∧ i_Rel (k + 5) u' v') v v1 v2 v3) u v1 v2 v3) ?_ I
  intro D S A St P cnt F Cn Bs m f_sealed f_accepted f_blamed f_tunedFresh f_scanAt f_scanFirst f_scanCount f_scanSize f_scanPins f_rangeLow f_rangeHigh a_limits a_ops a_factors a_given a_subs a_pointX a_numberAt a_cells a_seen a_distances a_matrix a_prefix a_prefixFrom a_prefixTo a_tunedOrder a_tunedKey a_toX a_toZ a_sysCount a_hullLow a_hullHigh a_cursor a_limit a_pin a_echelon a_pivot a_sysCoef a_sysBound a_cand a_spanLow a_spanHigh g_blamed a_order a_inD a_t b_prefix hb hs
  by_cases h0 : f_sealed = 0
  · exact br_t h0 (br_t h0 ⟨rfl, zz_in hb hs⟩)
  · obtain ⟨s1, s2, s3, s4, s5, s6, s7, s8, s9, s10, s11⟩ := hs h0
    obtain ⟨q1, q2, q3, q4, q5, q6, q7, q8, q9⟩ := hb
    have done : ∀ r : Int32, (r = r) ∧ i_Rel (k + 5) ((nI D), (nI S), (nI A), (nI St), f_sealed, (nI P), (nI cnt), (nI F), (nI Cn), (nI Bs), f_accepted, f_blamed, (nI m), f_tunedFresh, f_rangeLow, f_rangeHigh, f_scanAt, f_scanFirst, f_scanCount, f_scanSize, f_scanPins, a_limits, a_ops, a_factors, a_given, a_subs, a_pointX, a_numberAt, a_cells, a_seen, a_distances, a_matrix, a_prefix, a_prefixFrom, a_prefixTo, a_tunedOrder, a_tunedKey, a_toX, a_toZ, a_sysCoef, a_sysBound, a_sysCount, a_cand, a_hullLow, a_hullHigh, a_spanLow, a_spanHigh, a_cursor, a_limit, a_pin, a_echelon, a_pivot) ((nI D), (nI S), (nI A), (nI St), f_sealed, (nI P), (nI F), (nI Cn), (nI Bs), f_accepted, g_blamed, (nI m), a_limits, a_ops, a_factors, a_given, a_subs, a_cells, a_pointX, a_order, a_inD, a_t, b_prefix) := fun r => ⟨rfl, zz_in ⟨q1, q2, q3, q4, q5, q6, q7, q8, q9⟩ hs⟩
    have hCn : Cn ≤ 3 := by have := s8.1; omega
    rcases in_or (x := v1) (N := D) (by omega) with ⟨a, ha, rfl⟩ | hbad
    · have ya := ok_y ha (by omega)
      refine br_f h0 (br_f (nI_pos (by omega)) (br_f (nI_ge ha (by omega)) ?_))
      rcases in_or (x := v2) (N := D) (by omega) with ⟨b, hb, rfl⟩ | hbad
      · have yb := ok_y hb (by omega)
        have y1 : ∀ post : Int32 → SY → Prop, ((nI a = nI b → post (-1001) ((nI D), (nI S), (nI A), (nI St), f_sealed, (nI P), (nI F), (nI Cn), (nI Bs), f_accepted, g_blamed, (nI m), a_limits, a_ops, a_factors, a_given, a_subs, a_cells, a_pointX, a_order, a_inD, a_t, b_prefix)) ∧ (¬ nI a = nI b → wpY_out (fun r_53 => ((r_53 = 0 → ((v3 = 0 → post (-1001) ((nI D), (nI S), (nI A), (nI St), f_sealed, (nI P), (nI F), (nI Cn), (nI Bs), f_accepted, g_blamed, (nI m), a_limits, a_ops, a_factors, a_given, a_subs, a_cells, a_pointX, a_order, a_inD, a_t, b_prefix)) ∧ (¬ v3 = 0 → ((nI Cn ≤ 0 → ∃ n83 : Nat, wY_skew_83 post (nI a) (nI b) v3 (nI D) (nI S) (nI A) (nI St) f_sealed (nI P) (nI F) (nI Cn) (nI Bs) f_accepted g_blamed (nI m) a_limits a_ops a_factors a_given a_subs a_cells a_pointX a_order a_inD a_t b_prefix n83 0) ∧ (¬ nI Cn ≤ 0 → post (-1009) ((nI D), (nI S), (nI A), (nI St), f_sealed, (nI P), (nI F), (nI Cn), (nI Bs), f_accepted, g_blamed, (nI m), a_limits, a_ops, a_factors, a_given, a_subs, a_cells, a_pointX, a_order, a_inD, a_t, b_prefix)))))) ∧ (¬ r_53 = 0 → post (-1001) ((nI D), (nI S), (nI A), (nI St), f_sealed, (nI P), (nI F), (nI Cn), (nI Bs), f_accepted, g_blamed, (nI m), a_limits, a_ops, a_factors, a_given, a_subs, a_cells, a_pointX, a_order, a_inD, a_t, b_prefix)))) ((nI D), (nI S), (nI A), (nI St), f_sealed, (nI P), (nI F), (nI Cn), (nI Bs), f_accepted, g_blamed, (nI m), a_limits, a_ops, a_factors, a_given, a_subs, a_cells, a_pointX, a_order, a_inD, a_t, b_prefix) v3 (-3) 3)) → wpY_skew post ((nI D), (nI S), (nI A), (nI St), f_sealed, (nI P), (nI F), (nI Cn), (nI Bs), f_accepted, g_blamed, (nI m), a_limits, a_ops, a_factors, a_given, a_subs, a_cells, a_pointX, a_order, a_inD, a_t, b_prefix) (nI a) (nI b) v3 := fun post h => br_f h0 (y_out (fun z => absurd z (nab ya.1 ya.2)) (fun _ _ => br_t rfl (y_out (fun z => absurd z (nab yb.1 yb.2)) (fun _ _ => br_t rfl h))))
        refine br_f (nI_pos (by omega)) (br_f (nI_ge hb (by omega)) (pk_eq a b (fun e => y1 _ (br_t (congrArg nI e) (done _))) (fun e => ?_)))
        have hne : ¬ nI a = nI b := fun z => e ((nI_eq (by omega) (by omega)).mp z)
        refine x_in (fun g => br_t rfl (y1 _ (br_f hne (y_out (fun _ => br_f (by decide) (done _)) (fun g1 g2 => absurd g (nab g1 g2)))))) (fun a1 a2 => br_f (by decide) ?_)
        have y2 := fun post h => y1 post (br_f hne (y_out (fun z => absurd z (nab a1 a2)) (fun _ _ => br_t rfl h)))
        have r3 := rng (A := -3) (B := 3) (by decide) (by decide) a1 a2
        refine br_c (fun hf => y2 _ (br_t hf (done _))) (fun hf => pk_le Cn 0 (fun hc => ?_) (fun hc => y2 _ (br_f hf (br_f (nI_nle hc (by omega)) (done _)))))
        have y3 := fun post h => y2 post (br_f hf (br_t (nI_le (b := 0) hc (by omega)) h))
        have hT := s7
        have tv : ∀ c, c < 3 → a_t (a * 3 + c) + v3 * a_t (b * 3 + c) = a_matrix (a * 3 + c) + v3 * a_matrix (b * 3 + c) := fun c hc' => by rw [s6 _ (by omega), s6 _ (by omega)]
        have vz : ∀ c, c < 3 → a_matrix (a * 3 + c) + v3 * a_matrix (b * 3 + c) = zI (iz a_matrix (a * 3 + c) + v3.toInt * iz a_matrix (b * 3 + c)) := fun c hc' => by
          conv => lhs; rw [iz_z a_matrix (a * 3 + c), iz_z a_matrix (b * 3 + c), zI_of v3]
          rw [zI_mul, zI_add]
        have vb : ∀ c, c < 3 → -100 ≤ iz a_matrix (a * 3 + c) + v3.toInt * iz a_matrix (b * 3 + c) ∧ iz a_matrix (a * 3 + c) + v3.toInt * iz a_matrix (b * 3 + c) ≤ 100 := fun c hc' => by
          have b1 := (hT.1 (a * 3 + c) (by omega)).2
          have b2 := (hT.1 (b * 3 + c) (by omega)).2
          have := ab_mul r3.1 r3.2 b2.1 b2.2
          omega
        have hz2 : D = 2 → ∀ r, r < 2 → a_matrix (r * 3 + 2) = 0 := fun e2 r hr => by
          obtain ⟨t2, t5, t6, t7, t8⟩ := hT.2.2 e2
          rcases (show r = 0 ∨ r = 1 by omega) with rfl | rfl
          · exact Int32.toInt_inj.mp (t2.trans (by decide))
          · exact Int32.toInt_inj.mp (t5.trans (by decide))
        have v2z : D = 2 → a_matrix (a * 3 + 2) + v3 * a_matrix (b * 3 + 2) = 0 := fun e2 => by
          rw [hz2 e2 a (by omega), hz2 e2 b (by omega), Int32.mul_zero]; rfl
        refine xm_skw (by omega) (by omega) e (fun ⟨c, hc1, hc2⟩ => ?_) (fun hok mt hmt => ?_)
        · have hcD : c < D := by
            by_cases y : c < D
            · exact y
            · exfalso
              cases (show c = 2 by omega)
              rw [v2z (by omega)] at hc2
              exact absurd hc2 (by decide)
          refine y3 _ (ym_skw (by omega) (by omega) (by omega) e (fun _ => done _) (fun hall => ?_))
          exfalso
          have := hall c hcD
          rw [tv c hc1] at this
          exact nab this.1 this.2 hc2
        · refine y3 _ (ym_skw (by omega) (by omega) (by omega) e (fun ⟨c, hc1, hc2⟩ => ?_) (fun _ tt htt => ⟨rfl, ?_⟩))
          · exfalso
            rw [tv c (by omega)] at hc2
            exact nab (hok c (by omega)).1 (hok c (by omega)).2 hc2
          have ez : ∀ r c, r < 3 → c < 3 → iz mt (r * 3 + c) = if r = a then iz a_matrix (a * 3 + c) + v3.toInt * iz a_matrix (b * 3 + c) else iz a_matrix (r * 3 + c) := fun r c hr hc' => by
            show (mt _).toInt = _
            rw [hmt r c hr hc']
            by_cases x : r = a
            · rw [if_pos x, if_pos x, vz c hc']
              have := vb c hc'
              exact zI_t (by omega) (by omega)
            · rw [if_neg x, if_neg x]; rfl
          refine zz_in (m := 0) ⟨q1, q2, q3, q4, q5, q6, q7, q8, q9⟩ (fun _ => ⟨s1, s2, s3, s4, s5, fun j hj => rc9 (P := fun j => tt j = mt j) (fun r c hr hc' => ?_) hj, ⟨fun j hj => ⟨iz_z mt j, rc9 (P := fun j => -8 ≤ iz mt j ∧ iz mt j ≤ 8) (fun r c hr hc' => ?_) hj⟩, ?_, fun e2 => ?_⟩, s8, Or.inl ⟨rfl, rfl⟩, fun h => absurd rfl h, by omega, fun h => by omega, fun j hj => by omega, pre_0 s3.1.1⟩)
          · rw [htt r c hr hc', hmt r c hr hc', tv c hc']
            by_cases x : r = a
            · by_cases y : c < D
              · rw [if_pos ⟨x, y⟩, if_pos x]
              · rw [if_neg (fun z => y z.2), if_pos x, s6 _ (by omega)]
                cases (show c = 2 by omega)
                have e2 : D = 2 := by omega
                rw [v2z e2, hz2 e2 r (by omega)]
            · rw [if_neg (fun z => x z.1), if_neg x]; exact s6 _ (by omega)
          · rw [ez r c hr hc']
            have bb := (hT.1 (r * 3 + c) (by omega)).2
            by_cases x : r = a
            · rw [if_pos x]
              have := hok c hc'
              have b' := vb c hc'
              rw [vz c hc', show (-8 : Int32) = zI (-8) from by decide, show (8 : Int32) = zI 8 from by decide, zI_lt (by omega) (by omega) (by omega) (by omega), zI_le (by omega) (by omega) (by omega) (by omega)] at this
              omega
            · rw [if_neg x]; exact bb
          · have := dtr_sk (T := iz a_matrix) (T' := iz mt) (by omega) (by omega) e ez
            rw [this]; exact hT.2.1
          · obtain ⟨t2, t5, t6, t7, t8⟩ := hT.2.2 e2
            have e20 := ez 2 0 (by omega) (by omega)
            have e21 := ez 2 1 (by omega) (by omega)
            have e22 := ez 2 2 (by omega) (by omega)
            rw [if_neg (by omega)] at e20 e21 e22
            have g2 : ∀ r, r < 2 → iz mt (r * 3 + 2) = 0 := fun r hr => by
              rw [ez r 2 (by omega) (by omega)]
              have z1 : ∀ r', r' < 2 → iz a_matrix (r' * 3 + 2) = 0 := fun r' hr' => by show (a_matrix _).toInt = 0; rw [hz2 e2 r' hr']; decide
              by_cases x : r = a
              · rw [if_pos x, z1 a (by omega), z1 b (by omega), Int.mul_zero]; rfl
              · rw [if_neg x]; exact z1 r hr
            exact ⟨g2 0 (by omega), g2 1 (by omega), e20.trans t6, e21.trans t7, e22.trans t8⟩
      · have yb : wpY_skew (fun r' v' => r' = -1001 ∧ i_Rel (k + 5) ((nI D), (nI S), (nI A), (nI St), f_sealed, (nI P), (nI cnt), (nI F), (nI Cn), (nI Bs), f_accepted, f_blamed, (nI m), f_tunedFresh, f_rangeLow, f_rangeHigh, f_scanAt, f_scanFirst, f_scanCount, f_scanSize, f_scanPins, a_limits, a_ops, a_factors, a_given, a_subs, a_pointX, a_numberAt, a_cells, a_seen, a_distances, a_matrix, a_prefix, a_prefixFrom, a_prefixTo, a_tunedOrder, a_tunedKey, a_toX, a_toZ, a_sysCoef, a_sysBound, a_sysCount, a_cand, a_hullLow, a_hullHigh, a_spanLow, a_spanHigh, a_cursor, a_limit, a_pin, a_echelon, a_pivot) v') ((nI D), (nI S), (nI A), (nI St), f_sealed, (nI P), (nI F), (nI Cn), (nI Bs), f_accepted, g_blamed, (nI m), a_limits, a_ops, a_factors, a_given, a_subs, a_cells, a_pointX, a_order, a_inD, a_t, b_prefix) (nI a) v2 v3 := br_f h0 (y_out (fun z => absurd z (nab ya.1 ya.2)) (fun _ _ => br_t rfl (y_out (fun _ => br_f (by decide) (done _)) (fun g1 g2 => absurd (bad_y (by omega) hbad) (nab g1 g2)))))
        exact br_c (fun _ => yb) (fun g => br_t (Int32.not_lt.mp (fun z => by rcases hbad with h | h; exact g h; exact h z)) yb)
    · have yb : wpY_skew (fun r' v' => r' = -1001 ∧ i_Rel (k + 5) ((nI D), (nI S), (nI A), (nI St), f_sealed, (nI P), (nI cnt), (nI F), (nI Cn), (nI Bs), f_accepted, f_blamed, (nI m), f_tunedFresh, f_rangeLow, f_rangeHigh, f_scanAt, f_scanFirst, f_scanCount, f_scanSize, f_scanPins, a_limits, a_ops, a_factors, a_given, a_subs, a_pointX, a_numberAt, a_cells, a_seen, a_distances, a_matrix, a_prefix, a_prefixFrom, a_prefixTo, a_tunedOrder, a_tunedKey, a_toX, a_toZ, a_sysCoef, a_sysBound, a_sysCount, a_cand, a_hullLow, a_hullHigh, a_spanLow, a_spanHigh, a_cursor, a_limit, a_pin, a_echelon, a_pivot) v') ((nI D), (nI S), (nI A), (nI St), f_sealed, (nI P), (nI F), (nI Cn), (nI Bs), f_accepted, g_blamed, (nI m), a_limits, a_ops, a_factors, a_given, a_subs, a_cells, a_pointX, a_order, a_inD, a_t, b_prefix) v1 v2 v3 := br_f h0 (y_out (fun _ => br_f (by decide) (done _)) (fun g1 g2 => absurd (bad_y (by omega) hbad) (nab g1 g2)))
      exact br_f h0 (br_c (fun _ => yb) (fun g => br_t (Int32.not_lt.mp (fun z => by rcases hbad with h | h; exact g h; exact h z)) yb))
end
section
/-! distances: component, image, carrier, crossing; accept, distance, carried -/
def prt (x : Int32) (l : Nat) : Int32 := if l = 0 then x / 225 - 7 else if l = 1 then (x / 15 - x / 15 / 15 * 15) - 7 else (x - x / 15 * 15) - 7
def imf (t : Nat → Int32) (x : Int32) (r : Nat) : Nat → Int32
  | 0 => 0
  | c + 1 => imf t x r c + t (r * 3 + c) * prt x c
theorem imf_cg {t t' : Nat → Int32} {x : Int32} {r : Nat} (hr : r < 3) (h : ∀ j, j < 9 → t j = t' j) : ∀ c, c ≤ 3 → imf t x r c = imf t' x r c := by
  intro c
  induction c with
  | zero => intro _; rfl
  | succ c ih =>
    intro hc
    show imf t x r c + _ = imf t' x r c + _
    rw [ih (by omega), h _ (by omega)]
def bwd (t : Nat → Int32) (D : Nat) (x : Int32) : Prop := ∃ r, r < D ∧ (∀ r', r' < r → imf t x r' D = 0) ∧ imf t x r D < 0
def crb (t : Nat → Int32) (D F Cn : Nat) (x : Int32) : Prop := (∀ l, l < F → imf t x l D = 0) ∧ ∃ l, F ≤ l ∧ l < F + Cn ∧ imf t x l D < 0
section
variable {D F Cn cnt : Nat} {f_side f_arraySide f_statements f_sealed f_points f_bandSize f_accepted f_blamed f_prefixLength f_tunedFresh f_scanAt f_scanFirst f_scanCount f_scanSize f_scanPins : Int32} {f_rangeLow f_rangeHigh : Int64} {a_limits a_ops a_factors a_given a_subs a_pointX a_numberAt a_cells a_seen a_distances a_matrix a_prefix a_prefixFrom a_prefixTo a_tunedOrder a_tunedKey a_toX a_toZ a_sysCount a_hullLow a_hullHigh a_cursor a_limit a_pin a_echelon a_pivot : Nat → Int32} {a_sysCoef a_sysBound a_cand a_spanLow a_spanHigh : Nat → Int64}
theorem xc_comp {post : Int32 → Prop} {n l : Nat} {x : Int32} (hn : n < 1688) (hl : l < 3) (hx : a_distances n = x) (K : post (prt x l)) : wpX_component post ((nI D), f_side, f_arraySide, f_statements, f_sealed, f_points, (nI cnt), (nI F), (nI Cn), f_bandSize, f_accepted, f_blamed, f_prefixLength, f_tunedFresh, f_rangeLow, f_rangeHigh, f_scanAt, f_scanFirst, f_scanCount, f_scanSize, f_scanPins, a_limits, a_ops, a_factors, a_given, a_subs, a_pointX, a_numberAt, a_cells, a_seen, a_distances, a_matrix, a_prefix, a_prefixFrom, a_prefixTo, a_tunedOrder, a_tunedKey, a_toX, a_toZ, a_sysCoef, a_sysBound, a_sysCount, a_cand, a_hullLow, a_hullHigh, a_spanLow, a_spanHigh, a_cursor, a_limit, a_pin, a_echelon, a_pivot) (nI n) (nI l) := by
  unfold prt at K
  refine ⟨vp_in_nI hn (by omega), nm_r (e' := x) (by rw [nI_clamp (by omega)]; exact hx) (pk_eq l 0 (fun h => ⟨by decide, ?_⟩) (fun h => pk_eq l 1 (fun h' => ⟨by decide, by decide, ?_⟩) (fun h' => ⟨by decide, ?_⟩)))⟩
  · rw [if_pos h] at K; exact K
  · rw [if_neg h, if_pos h'] at K; exact K
  · rw [if_neg h, if_neg h'] at K; exact K
theorem xc_img {post : Int32 → Prop} {n r : Nat} {x : Int32} (hD : D ≤ 3) (hn : n < 1688) (hr : r < 3) (hx : a_distances n = x) (K : post (imf a_matrix x r D)) : wpX_image post ((nI D), f_side, f_arraySide, f_statements, f_sealed, f_points, (nI cnt), (nI F), (nI Cn), f_bandSize, f_accepted, f_blamed, f_prefixLength, f_tunedFresh, f_rangeLow, f_rangeHigh, f_scanAt, f_scanFirst, f_scanCount, f_scanSize, f_scanPins, a_limits, a_ops, a_factors, a_given, a_subs, a_pointX, a_numberAt, a_cells, a_seen, a_distances, a_matrix, a_prefix, a_prefixFrom, a_prefixTo, a_tunedOrder, a_tunedKey, a_toX, a_toZ, a_sysCoef, a_sysBound, a_sysCount, a_cand, a_hullLow, a_hullHigh, a_spanLow, a_spanHigh, a_cursor, a_limit, a_pin, a_echelon, a_pivot) (nI n) (nI r) := by
  refine ⟨D + 1, ?_⟩
  have go : ∀ d c : Nat, c + d = D → wX_image_5 post (nI n) (nI r) (nI D) f_side f_arraySide f_statements f_sealed f_points (nI cnt) (nI F) (nI Cn) f_bandSize f_accepted f_blamed f_prefixLength f_tunedFresh f_rangeLow f_rangeHigh f_scanAt f_scanFirst f_scanCount f_scanSize f_scanPins a_limits a_ops a_factors a_given a_subs a_pointX a_numberAt a_cells a_seen a_distances a_matrix a_prefix a_prefixFrom a_prefixTo a_tunedOrder a_tunedKey a_toX a_toZ a_sysCoef a_sysBound a_sysCount a_cand a_hullLow a_hullHigh a_spanLow a_spanHigh a_cursor a_limit a_pin a_echelon a_pivot (d + 1) (imf a_matrix x r c) (nI c) := by
    intro d
    induction d with
    | zero => intro c hc; cases (show c = D by omega); exact br_t (nI_le (by omega) (by omega)) K
    | succ d ih =>
      intro c hc
      have e : nI r * 3 + nI c = nI (r * 3 + c) := by rw [nx_m3, nI_add]
      exact br_f (nI_ge (by omega) (by omega)) (xc_comp hn (by omega) hx ⟨vx_n _ e (by omega) (by omega), nm_r (e' := imf a_matrix x r (c + 1)) (by rw [cx_n _ e (by omega)]; rfl) (nm_r (nI_1 c) (ih (c + 1) (by omega)))⟩)
  exact go D 0 (by omega)
theorem xc_car {post : Int32 → Prop} {n : Nat} {x : Int32} (hD : D ≤ 3) (hn : n < 1688) (hx : a_distances n = x) (K : ∀ r, r ≤ D → (∀ r', r' < r → imf a_matrix x r' D = 0) → (r < D → imf a_matrix x r D ≠ 0) → post (nI r)) : wpX_carrier post ((nI D), f_side, f_arraySide, f_statements, f_sealed, f_points, (nI cnt), (nI F), (nI Cn), f_bandSize, f_accepted, f_blamed, f_prefixLength, f_tunedFresh, f_rangeLow, f_rangeHigh, f_scanAt, f_scanFirst, f_scanCount, f_scanSize, f_scanPins, a_limits, a_ops, a_factors, a_given, a_subs, a_pointX, a_numberAt, a_cells, a_seen, a_distances, a_matrix, a_prefix, a_prefixFrom, a_prefixTo, a_tunedOrder, a_tunedKey, a_toX, a_toZ, a_sysCoef, a_sysBound, a_sysCount, a_cand, a_hullLow, a_hullHigh, a_spanLow, a_spanHigh, a_cursor, a_limit, a_pin, a_echelon, a_pivot) (nI n) := by
  refine ⟨D + 1, ?_⟩
  have go : ∀ d r : Nat, r + d = D → (∀ r', r' < r → imf a_matrix x r' D = 0) → wX_carrier_2 post (nI n) (nI D) f_side f_arraySide f_statements f_sealed f_points (nI cnt) (nI F) (nI Cn) f_bandSize f_accepted f_blamed f_prefixLength f_tunedFresh f_rangeLow f_rangeHigh f_scanAt f_scanFirst f_scanCount f_scanSize f_scanPins a_limits a_ops a_factors a_given a_subs a_pointX a_numberAt a_cells a_seen a_distances a_matrix a_prefix a_prefixFrom a_prefixTo a_tunedOrder a_tunedKey a_toX a_toZ a_sysCoef a_sysBound a_sysCount a_cand a_hullLow a_hullHigh a_spanLow a_spanHigh a_cursor a_limit a_pin a_echelon a_pivot (d + 1) (nI r) := by
    intro d
    induction d with
    | zero => intro r hr h; cases (show r = D by omega); exact br_t (nI_le (by omega) (by omega)) (K D (Nat.le_refl _) h (fun h' => by omega))
    | succ d ih =>
      intro r hr h
      refine br_f (nI_ge (by omega) (by omega)) (xc_img hD hn (by omega) hx (br_c (fun z => nm_r (nI_1 r) (ih (r + 1) (by omega) (fun r' hr' => ?_))) (fun z => K r (by omega) h (fun _ => z))))
      by_cases y : r' = r
      · subst y; exact z
      · exact h r' (by omega)
  exact go D 0 (by omega) (fun r' h => by omega)
theorem xc_bw {post : Int32 → Prop} {n : Nat} {x : Int32} (hD : D ≤ 3) (hn : n < 1688) (hx : a_distances n = x) (K1 : bwd a_matrix D x → post 1) (K0 : ¬ bwd a_matrix D x → post 0) : wpX_pointsBackward post ((nI D), f_side, f_arraySide, f_statements, f_sealed, f_points, (nI cnt), (nI F), (nI Cn), f_bandSize, f_accepted, f_blamed, f_prefixLength, f_tunedFresh, f_rangeLow, f_rangeHigh, f_scanAt, f_scanFirst, f_scanCount, f_scanSize, f_scanPins, a_limits, a_ops, a_factors, a_given, a_subs, a_pointX, a_numberAt, a_cells, a_seen, a_distances, a_matrix, a_prefix, a_prefixFrom, a_prefixTo, a_tunedOrder, a_tunedKey, a_toX, a_toZ, a_sysCoef, a_sysBound, a_sysCount, a_cand, a_hullLow, a_hullHigh, a_spanLow, a_spanHigh, a_cursor, a_limit, a_pin, a_echelon, a_pivot) (nI n) := by
  unfold wpX_pointsBackward
  dsimp only
  refine xc_car hD hn hx (fun r hr h1 h2 => pk_le D r (fun h => K0 (fun ⟨r', a, b, c⟩ => ?_)) (fun h => xc_img hD hn (by omega) hx (br_c (fun z => K0 (fun ⟨r', a, b, c⟩ => ?_)) (fun z => K1 ⟨r, h, h1, Int32.not_le.mp z⟩))))
  · rw [h1 r' (by omega)] at c; exact absurd c (by decide)
  · rcases Nat.lt_trichotomy r' r with w | w | w
    · rw [h1 r' w] at c; exact absurd c (by decide)
    · subst w; exact absurd c (Int32.not_lt.mpr z)
    · exact h2 h (b r w)
theorem xc_cr {post : Int32 → Prop} {n : Nat} {x : Int32} (hD : D ≤ 3) (hF : F + Cn ≤ D) (hn : n < 1688) (hx : a_distances n = x) (K1 : crb a_matrix D F Cn x → post 1) (K0 : ¬ crb a_matrix D F Cn x → post 0) : wpX_crossesBand post ((nI D), f_side, f_arraySide, f_statements, f_sealed, f_points, (nI cnt), (nI F), (nI Cn), f_bandSize, f_accepted, f_blamed, f_prefixLength, f_tunedFresh, f_rangeLow, f_rangeHigh, f_scanAt, f_scanFirst, f_scanCount, f_scanSize, f_scanPins, a_limits, a_ops, a_factors, a_given, a_subs, a_pointX, a_numberAt, a_cells, a_seen, a_distances, a_matrix, a_prefix, a_prefixFrom, a_prefixTo, a_tunedOrder, a_tunedKey, a_toX, a_toZ, a_sysCoef, a_sysBound, a_sysCount, a_cand, a_hullLow, a_hullHigh, a_spanLow, a_spanHigh, a_cursor, a_limit, a_pin, a_echelon, a_pivot) (nI n) := by
  refine pk_eq Cn 0 (fun h => K0 (fun ⟨_, l, a, b, _⟩ => by omega)) (fun h => ⟨F + 1, ?_⟩)
  have fin : (∀ l, l < F → imf a_matrix x l D = 0) → ∃ n41 : Nat, wX_crossesBand_41 post (nI n) (nI D) f_side f_arraySide f_statements f_sealed f_points (nI cnt) (nI F) (nI Cn) f_bandSize f_accepted f_blamed f_prefixLength f_tunedFresh f_rangeLow f_rangeHigh f_scanAt f_scanFirst f_scanCount f_scanSize f_scanPins a_limits a_ops a_factors a_given a_subs a_pointX a_numberAt a_cells a_seen a_distances a_matrix a_prefix a_prefixFrom a_prefixTo a_tunedOrder a_tunedKey a_toX a_toZ a_sysCoef a_sysBound a_sysCount a_cand a_hullLow a_hullHigh a_spanLow a_spanHigh a_cursor a_limit a_pin a_echelon a_pivot n41 (nI F) := by
    intro hz
    refine ⟨Cn + 1, ?_⟩
    have go : ∀ d l : Nat, l + d = F + Cn → F ≤ l → (∀ l', F ≤ l' → l' < l → ¬ imf a_matrix x l' D < 0) → wX_crossesBand_41 post (nI n) (nI D) f_side f_arraySide f_statements f_sealed f_points (nI cnt) (nI F) (nI Cn) f_bandSize f_accepted f_blamed f_prefixLength f_tunedFresh f_rangeLow f_rangeHigh f_scanAt f_scanFirst f_scanCount f_scanSize f_scanPins a_limits a_ops a_factors a_given a_subs a_pointX a_numberAt a_cells a_seen a_distances a_matrix a_prefix a_prefixFrom a_prefixTo a_tunedOrder a_tunedKey a_toX a_toZ a_sysCoef a_sysBound a_sysCount a_cand a_hullLow a_hullHigh a_spanLow a_spanHigh a_cursor a_limit a_pin a_echelon a_pivot (d + 1) (nI l) := by
      intro d
      induction d with
      | zero =>
        intro l hl hF' h
        refine br_t ?_ (K0 (fun ⟨_, l', a, b, c⟩ => h l' a (by omega) c))
        rw [nI_add]; exact nI_le (by omega) (by omega)
      | succ d ih =>
        intro l hl hF' h
        refine br_f ?_ (xc_img hD hn (by omega) hx (br_c (fun z => nm_r (nI_1 l) (ih (l + 1) (by omega) (by omega) (fun l' h1 h2 => ?_))) (fun z => K1 ⟨hz, l, hF', by omega, Int32.not_le.mp z⟩)))
        · rw [nI_add]; exact nI_ge (by omega) (by omega)
        · by_cases y : l' = l
          · subst y; exact Int32.not_lt.mpr z
          · exact h l' h1 (by omega)
    exact go Cn F rfl (Nat.le_refl _) (fun l' h1 h2 => by omega)
  have go : ∀ d l : Nat, l + d = F → (∀ l', l' < l → imf a_matrix x l' D = 0) → wX_crossesBand_11 post (nI n) (nI D) f_side f_arraySide f_statements f_sealed f_points (nI cnt) (nI F) (nI Cn) f_bandSize f_accepted f_blamed f_prefixLength f_tunedFresh f_rangeLow f_rangeHigh f_scanAt f_scanFirst f_scanCount f_scanSize f_scanPins a_limits a_ops a_factors a_given a_subs a_pointX a_numberAt a_cells a_seen a_distances a_matrix a_prefix a_prefixFrom a_prefixTo a_tunedOrder a_tunedKey a_toX a_toZ a_sysCoef a_sysBound a_sysCount a_cand a_hullLow a_hullHigh a_spanLow a_spanHigh a_cursor a_limit a_pin a_echelon a_pivot (d + 1) (nI l) := by
    intro d
    induction d with
    | zero => intro l hl h; exact br_t (nI_le (by omega) (by omega)) (fin (fun l' hl' => h l' (by omega)))
    | succ d ih =>
      intro l hl h
      refine br_f (nI_ge (by omega) (by omega)) (xc_img hD hn (by omega) hx (br_c (fun z => nm_r (nI_1 l) (ih (l + 1) (by omega) (fun l' hl' => ?_))) (fun z => K0 (fun q => z (q.1 l (by omega))))))
      by_cases y : l' = l
      · subst y; exact z
      · exact h l' (by omega)
  exact go F 0 (by omega) (fun l' h => by omega)
/-- the two passes of accept -/
theorem xc_acc {post : Int32 → SX → Prop} {inD : Nat → Int32} (hD : D ≤ 3) (hF : F + Cn ≤ D) (hd : dist_ok D inD cnt a_distances)
    (K2 : ∀ j, j < 3375 → inD j ≠ 0 → bwd a_matrix D (nI j) → (∀ j', j' < j → inD j' ≠ 0 → ¬ bwd a_matrix D (nI j')) → post 2 ((nI D), f_side, f_arraySide, f_statements, f_sealed, f_points, (nI cnt), (nI F), (nI Cn), f_bandSize, 0, nI (ctb (nzb inD) j), f_prefixLength, f_tunedFresh, f_rangeLow, f_rangeHigh, f_scanAt, f_scanFirst, f_scanCount, f_scanSize, f_scanPins, a_limits, a_ops, a_factors, a_given, a_subs, a_pointX, a_numberAt, a_cells, a_seen, a_distances, a_matrix, a_prefix, a_prefixFrom, a_prefixTo, a_tunedOrder, a_tunedKey, a_toX, a_toZ, a_sysCoef, a_sysBound, a_sysCount, a_cand, a_hullLow, a_hullHigh, a_spanLow, a_spanHigh, a_cursor, a_limit, a_pin, a_echelon, a_pivot))
    (K3 : (∀ j, j < 3375 → inD j ≠ 0 → ¬ bwd a_matrix D (nI j)) → ∀ j, j < 3375 → inD j ≠ 0 → crb a_matrix D F Cn (nI j) → (∀ j', j' < j → inD j' ≠ 0 → ¬ crb a_matrix D F Cn (nI j')) → post 3 ((nI D), f_side, f_arraySide, f_statements, f_sealed, f_points, (nI cnt), (nI F), (nI Cn), f_bandSize, 0, nI (ctb (nzb inD) j), f_prefixLength, f_tunedFresh, f_rangeLow, f_rangeHigh, f_scanAt, f_scanFirst, f_scanCount, f_scanSize, f_scanPins, a_limits, a_ops, a_factors, a_given, a_subs, a_pointX, a_numberAt, a_cells, a_seen, a_distances, a_matrix, a_prefix, a_prefixFrom, a_prefixTo, a_tunedOrder, a_tunedKey, a_toX, a_toZ, a_sysCoef, a_sysBound, a_sysCount, a_cand, a_hullLow, a_hullHigh, a_spanLow, a_spanHigh, a_cursor, a_limit, a_pin, a_echelon, a_pivot))
    (K1 : (∀ j, j < 3375 → inD j ≠ 0 → ¬ bwd a_matrix D (nI j)) → (∀ j, j < 3375 → inD j ≠ 0 → ¬ crb a_matrix D F Cn (nI j)) → post 1 ((nI D), f_side, f_arraySide, f_statements, f_sealed, f_points, (nI cnt), (nI F), (nI Cn), f_bandSize, 1, (-1), f_prefixLength, f_tunedFresh, f_rangeLow, f_rangeHigh, f_scanAt, f_scanFirst, f_scanCount, f_scanSize, f_scanPins, a_limits, a_ops, a_factors, a_given, a_subs, a_pointX, a_numberAt, a_cells, a_seen, a_distances, a_matrix, a_prefix, a_prefixFrom, a_prefixTo, a_tunedOrder, a_tunedKey, a_toX, a_toZ, a_sysCoef, a_sysBound, a_sysCount, a_cand, a_hullLow, a_hullHigh, a_spanLow, a_spanHigh, a_cursor, a_limit, a_pin, a_echelon, a_pivot)) :
    ∃ n13 : Nat, wX_accept_13 post (nI D) f_side f_arraySide f_statements f_sealed f_points (nI cnt) (nI F) (nI Cn) f_bandSize f_accepted f_blamed f_prefixLength f_tunedFresh f_rangeLow f_rangeHigh f_scanAt f_scanFirst f_scanCount f_scanSize f_scanPins a_limits a_ops a_factors a_given a_subs a_pointX a_numberAt a_cells a_seen a_distances a_matrix a_prefix a_prefixFrom a_prefixTo a_tunedOrder a_tunedKey a_toX a_toZ a_sysCoef a_sysBound a_sysCount a_cand a_hullLow a_hullHigh a_spanLow a_spanHigh a_cursor a_limit a_pin a_echelon a_pivot n13 0 := by
  obtain ⟨d1, d2, d3, d4⟩ := hd
  have hle : ∀ c, c ≤ 3375 → ctb (nzb inD) c ≤ cnt := fun c hc => by rw [d1]; exact ctb_le hc
  have ct : ∀ c, inD c ≠ 0 → ctb (nzb inD) (c + 1) = ctb (nzb inD) c + 1 := fun c h => ctb_t (decide_eq_true h)
  have cf : ∀ c, ¬ inD c ≠ 0 → ctb (nzb inD) (c + 1) = ctb (nzb inD) c := fun c h => ctb_f (decide_eq_false h)
  have ph2 : (∀ j, j < 3375 → inD j ≠ 0 → ¬ bwd a_matrix D (nI j)) → ∀ d c : Nat, c + d = 3375 → (∀ j, j < c → inD j ≠ 0 → ¬ crb a_matrix D F Cn (nI j)) → wX_accept_49 post (nI D) f_side f_arraySide f_statements f_sealed f_points (nI cnt) (nI F) (nI Cn) f_bandSize f_accepted f_blamed f_prefixLength f_tunedFresh f_rangeLow f_rangeHigh f_scanAt f_scanFirst f_scanCount f_scanSize f_scanPins a_limits a_ops a_factors a_given a_subs a_pointX a_numberAt a_cells a_seen a_distances a_matrix a_prefix a_prefixFrom a_prefixTo a_tunedOrder a_tunedKey a_toX a_toZ a_sysCoef a_sysBound a_sysCount a_cand a_hullLow a_hullHigh a_spanLow a_spanHigh a_cursor a_limit a_pin a_echelon a_pivot (cnt - ctb (nzb inD) c + 1) (nI (ctb (nzb inD) c)) := by
    intro hbw d
    induction d with
    | zero =>
      intro c hc h
      cases (show c = 3375 by omega)
      refine br_t (nI_le (by omega) (by omega)) (K1 hbw h)
    | succ d ih =>
      intro c hc h
      by_cases z : inD c ≠ 0
      · have e := ct c z
        have h2 := hle (c + 1) (by omega)
        have hi := ih (c + 1) (by omega)
        rw [e] at hi h2
        rw [show cnt - ctb (nzb inD) c + 1 = (cnt - (ctb (nzb inD) c + 1) + 1) + 1 by omega]
        refine br_f (nI_ge (by omega) (by omega)) (xc_cr hD hF (by omega) (d3 c (by omega) z) (fun hb => br_f (by decide) (K3 hbw c (by omega) z hb h)) (fun hb => br_t rfl (nm_r (nI_1 _) (hi (fun j hj hne => ?_)))))
        by_cases y : j = c
        · subst y; exact hb
        · exact h j (by omega) hne
      · have hi := ih (c + 1) (by omega) (fun j hj hne => by
          by_cases y : j = c
          · subst y; exact absurd hne z
          · exact h j (by omega) hne)
        rw [cf c z] at hi
        exact hi
  have ph1 : ∀ d c : Nat, c + d = 3375 → (∀ j, j < c → inD j ≠ 0 → ¬ bwd a_matrix D (nI j)) → wX_accept_13 post (nI D) f_side f_arraySide f_statements f_sealed f_points (nI cnt) (nI F) (nI Cn) f_bandSize f_accepted f_blamed f_prefixLength f_tunedFresh f_rangeLow f_rangeHigh f_scanAt f_scanFirst f_scanCount f_scanSize f_scanPins a_limits a_ops a_factors a_given a_subs a_pointX a_numberAt a_cells a_seen a_distances a_matrix a_prefix a_prefixFrom a_prefixTo a_tunedOrder a_tunedKey a_toX a_toZ a_sysCoef a_sysBound a_sysCount a_cand a_hullLow a_hullHigh a_spanLow a_spanHigh a_cursor a_limit a_pin a_echelon a_pivot (cnt - ctb (nzb inD) c + 1) (nI (ctb (nzb inD) c)) := by
    intro d
    induction d with
    | zero =>
      intro c hc h
      cases (show c = 3375 by omega)
      exact br_t (nI_le (by omega) (by omega)) ⟨_, ph2 h 3375 0 rfl (fun j hj => by omega)⟩
    | succ d ih =>
      intro c hc h
      by_cases z : inD c ≠ 0
      · have e := ct c z
        have h2 := hle (c + 1) (by omega)
        have hi := ih (c + 1) (by omega)
        rw [e] at hi h2
        rw [show cnt - ctb (nzb inD) c + 1 = (cnt - (ctb (nzb inD) c + 1) + 1) + 1 by omega]
        refine br_f (nI_ge (by omega) (by omega)) (xc_bw hD (by omega) (d3 c (by omega) z) (fun hb => br_f (by decide) (K2 c (by omega) z hb h)) (fun hb => br_t rfl (nm_r (nI_1 _) (hi (fun j hj hne => ?_)))))
        by_cases y : j = c
        · subst y; exact hb
        · exact h j (by omega) hne
      · have hi := ih (c + 1) (by omega) (fun j hj hne => by
          by_cases y : j = c
          · subst y; exact absurd hne z
          · exact h j (by omega) hne)
        rw [cf c z] at hi
        exact hi
  exact ⟨_, ph1 3375 0 rfl (fun j hj => by omega)⟩
end
section
variable {D F Cn : Nat} {f_side f_arraySide f_statements f_sealed f_pointCount f_bandSize f_accepted f_blamed f_prefixLength : Int32} {a_bounds a_ops a_factors a_given a_subs a_cells a_xs a_order a_inD a_t a_prefix : Nat → Int32}
theorem yc_part {post : Int32 → Prop} {l : Nat} {x : Int32} (hl : l < 3) (K : post (prt x l)) : wpY_part post ((nI D), f_side, f_arraySide, f_statements, f_sealed, f_pointCount, (nI F), (nI Cn), f_bandSize, f_accepted, f_blamed, f_prefixLength, a_bounds, a_ops, a_factors, a_given, a_subs, a_cells, a_xs, a_order, a_inD, a_t, a_prefix) x (nI l) := by
  unfold prt at K
  refine pk_eq l 0 (fun h => ⟨by decide, ?_⟩) (fun h => pk_eq l 1 (fun h' => ⟨by decide, by decide, ?_⟩) (fun h' => ⟨by decide, ?_⟩))
  · rw [if_pos h] at K; exact K
  · rw [if_neg h, if_pos h'] at K; exact K
  · rw [if_neg h, if_neg h'] at K; exact K
theorem yc_img {post : Int32 → Prop} {r : Nat} {x : Int32} (hD : D ≤ 3) (hr : r < 3) (K : post (imf a_t x r D)) : wpY_turned post ((nI D), f_side, f_arraySide, f_statements, f_sealed, f_pointCount, (nI F), (nI Cn), f_bandSize, f_accepted, f_blamed, f_prefixLength, a_bounds, a_ops, a_factors, a_given, a_subs, a_cells, a_xs, a_order, a_inD, a_t, a_prefix) x (nI r) := by
  refine ⟨D + 1, ?_⟩
  have go : ∀ d c : Nat, c + d = D → wY_turned_5 post x (nI r) (nI D) f_side f_arraySide f_statements f_sealed f_pointCount (nI F) (nI Cn) f_bandSize f_accepted f_blamed f_prefixLength a_bounds a_ops a_factors a_given a_subs a_cells a_xs a_order a_inD a_t a_prefix (d + 1) (imf a_t x r c) (nI c) := by
    intro d
    induction d with
    | zero => intro c hc; cases (show c = D by omega); exact br_t (nI_le (by omega) (by omega)) K
    | succ d ih =>
      intro c hc
      have e : nI r * 3 + nI c = nI (r * 3 + c) := by rw [nx_m3, nI_add]
      exact br_f (nI_ge (by omega) (by omega)) ⟨vx_n _ e (by omega) (by omega), yc_part (by omega) (nm_r (e' := imf a_t x r (c + 1)) (by rw [cx_n _ e (by omega)]; rfl) (nm_r (nI_1 c) (ih (c + 1) (by omega))))⟩
  exact go D 0 (by omega)
theorem yc_fl {post : Int32 → Prop} {x : Int32} (hD : D = 2 ∨ D = 3) (K : ∀ l, l ≤ D - 1 → (∀ l', l' < l → imf a_t x l' D = 0) → (l < D - 1 → imf a_t x l D ≠ 0) → post (nI l)) : wpY_firstLevel post ((nI D), f_side, f_arraySide, f_statements, f_sealed, f_pointCount, (nI F), (nI Cn), f_bandSize, f_accepted, f_blamed, f_prefixLength, a_bounds, a_ops, a_factors, a_given, a_subs, a_cells, a_xs, a_order, a_inD, a_t, a_prefix) x := by
  have es : nI D - 1 = nI (D - 1) := nx_s1 (by omega)
  refine ⟨D, ?_⟩
  have go : ∀ d l : Nat, l + d = D - 1 → (∀ l', l' < l → imf a_t x l' D = 0) → wY_firstLevel_2 post x (nI D) f_side f_arraySide f_statements f_sealed f_pointCount (nI F) (nI Cn) f_bandSize f_accepted f_blamed f_prefixLength a_bounds a_ops a_factors a_given a_subs a_cells a_xs a_order a_inD a_t a_prefix (d + 1) (nI l) := by
    intro d
    induction d with
    | zero =>
      intro l hl h
      refine br_t (by rw [es]; exact nI_le (by omega) (by omega)) ?_
      rw [es]
      cases (show l = D - 1 by omega)
      exact K (D - 1) (Nat.le_refl _) h (fun h' => by omega)
    | succ d ih =>
      intro l hl h
      refine br_f (by rw [es]; exact nI_ge (by omega) (by omega)) (yc_img (by omega) (by omega) (br_c (fun z => nm_r (nI_1 l) (ih (l + 1) (by omega) (fun l' hl' => ?_))) (fun z => K l (by omega) h (fun _ => z))))
      by_cases y : l' = l
      · subst y; exact z
      · exact h l' (by omega)
  have := go (D - 1) 0 (by omega) (fun l' h => by omega)
  rw [show D - 1 + 1 = D by omega] at this
  exact this
theorem yc_cr {post : Int32 → Prop} {x : Int32} (hD : D ≤ 3) (hF : F + Cn ≤ D) (K1 : crb a_t D F Cn x → post 1) (K0 : ¬ crb a_t D F Cn x → post 0) : wpY_crossing post ((nI D), f_side, f_arraySide, f_statements, f_sealed, f_pointCount, (nI F), (nI Cn), f_bandSize, f_accepted, f_blamed, f_prefixLength, a_bounds, a_ops, a_factors, a_given, a_subs, a_cells, a_xs, a_order, a_inD, a_t, a_prefix) x := by
  refine ⟨F + 1, ?_⟩
  have fin : (∀ l, l < F → imf a_t x l D = 0) → ∃ n32 : Nat, wY_crossing_32 post x (nI D) f_side f_arraySide f_statements f_sealed f_pointCount (nI F) (nI Cn) f_bandSize f_accepted f_blamed f_prefixLength a_bounds a_ops a_factors a_given a_subs a_cells a_xs a_order a_inD a_t a_prefix n32 (nI F) := by
    intro hz
    refine ⟨Cn + 1, ?_⟩
    have go : ∀ d l : Nat, l + d = F + Cn → F ≤ l → (∀ l', F ≤ l' → l' < l → ¬ imf a_t x l' D < 0) → wY_crossing_32 post x (nI D) f_side f_arraySide f_statements f_sealed f_pointCount (nI F) (nI Cn) f_bandSize f_accepted f_blamed f_prefixLength a_bounds a_ops a_factors a_given a_subs a_cells a_xs a_order a_inD a_t a_prefix (d + 1) (nI l) := by
      intro d
      induction d with
      | zero =>
        intro l hl hF' h
        refine br_t ?_ (K0 (fun ⟨_, l', a, b, c⟩ => h l' a (by omega) c))
        rw [nI_add]; exact nI_le (by omega) (by omega)
      | succ d ih =>
        intro l hl hF' h
        refine br_f ?_ (yc_img hD (by omega) (br_c (fun z => nm_r (nI_1 l) (ih (l + 1) (by omega) (by omega) (fun l' h1 h2 => ?_))) (fun z => K1 ⟨hz, l, hF', by omega, Int32.not_le.mp z⟩)))
        · rw [nI_add]; exact nI_ge (by omega) (by omega)
        · by_cases y : l' = l
          · subst y; exact Int32.not_lt.mpr z
          · exact h l' h1 (by omega)
    exact go Cn F rfl (Nat.le_refl _) (fun l' h1 h2 => by omega)
  have go : ∀ d l : Nat, l + d = F → (∀ l', l' < l → imf a_t x l' D = 0) → wY_crossing_2 post x (nI D) f_side f_arraySide f_statements f_sealed f_pointCount (nI F) (nI Cn) f_bandSize f_accepted f_blamed f_prefixLength a_bounds a_ops a_factors a_given a_subs a_cells a_xs a_order a_inD a_t a_prefix (d + 1) (nI l) := by
    intro d
    induction d with
    | zero => intro l hl h; exact br_t (nI_le (by omega) (by omega)) (fin (fun l' hl' => h l' (by omega)))
    | succ d ih =>
      intro l hl h
      refine br_f (nI_ge (by omega) (by omega)) (yc_img hD (by omega) (br_c (fun z => nm_r (nI_1 l) (ih (l + 1) (by omega) (fun l' hl' => ?_))) (fun z => K0 (fun q => z (q.1 l (by omega))))))
      by_cases y : l' = l
      · subst y; exact z
      · exact h l' (by omega)
  exact go F 0 (by omega) (fun l' h => by omega)
theorem yc_acc {post : Int32 → SY → Prop} (hD : D = 2 ∨ D = 3) (hF : F + Cn ≤ D)
    (K2 : ∀ j, j < 3375 → a_inD j ≠ 0 → bwd a_t D (nI j) → (∀ j', j' < j → a_inD j' ≠ 0 → ¬ bwd a_t D (nI j')) → post 2 ((nI D), f_side, f_arraySide, f_statements, f_sealed, f_pointCount, (nI F), (nI Cn), f_bandSize, 0, nI j, f_prefixLength, a_bounds, a_ops, a_factors, a_given, a_subs, a_cells, a_xs, a_order, a_inD, a_t, a_prefix))
    (K3 : (∀ j, j < 3375 → a_inD j ≠ 0 → ¬ bwd a_t D (nI j)) → ∀ j, j < 3375 → a_inD j ≠ 0 → crb a_t D F Cn (nI j) → (∀ j', j' < j → a_inD j' ≠ 0 → ¬ crb a_t D F Cn (nI j')) → post 3 ((nI D), f_side, f_arraySide, f_statements, f_sealed, f_pointCount, (nI F), (nI Cn), f_bandSize, 0, nI j, f_prefixLength, a_bounds, a_ops, a_factors, a_given, a_subs, a_cells, a_xs, a_order, a_inD, a_t, a_prefix))
    (K1 : (∀ j, j < 3375 → a_inD j ≠ 0 → ¬ bwd a_t D (nI j)) → (∀ j, j < 3375 → a_inD j ≠ 0 → ¬ crb a_t D F Cn (nI j)) → post 1 ((nI D), f_side, f_arraySide, f_statements, f_sealed, f_pointCount, (nI F), (nI Cn), f_bandSize, 1, (-1), f_prefixLength, a_bounds, a_ops, a_factors, a_given, a_subs, a_cells, a_xs, a_order, a_inD, a_t, a_prefix)) :
    ∃ n21 : Nat, wY_accept_21 post (nI D) f_side f_arraySide f_statements f_sealed f_pointCount (nI F) (nI Cn) f_bandSize 0 f_prefixLength a_bounds a_ops a_factors a_given a_subs a_cells a_xs a_order a_inD a_t a_prefix n21 0 := by
  have ph2 : (∀ j, j < 3375 → a_inD j ≠ 0 → ¬ bwd a_t D (nI j)) → ∀ d c : Nat, c + d = 3375 → (∀ j, j < c → a_inD j ≠ 0 → ¬ crb a_t D F Cn (nI j)) → wY_accept_84 post (nI D) f_side f_arraySide f_statements f_sealed f_pointCount (nI F) (nI Cn) f_bandSize 0 f_prefixLength a_bounds a_ops a_factors a_given a_subs a_cells a_xs a_order a_inD a_t a_prefix (d + 1) (nI c) := by
    intro hbw d
    induction d with
    | zero => intro c hc h; cases (show c = 3375 by omega); exact br_t (by decide) (K1 hbw h)
    | succ d ih =>
      intro c hc h
      have cc : (nI c).toNatClampNeg = c := nI_clamp (by omega)
      refine br_f (nI_ge (b := 3375) (by omega) (by omega)) ⟨vp_in_nI (by omega) (by omega), ?_⟩
      rw [cc]
      refine br_c (fun z => nm_r (nI_1 c) (ih (c + 1) (by omega) (fun j hj hne => ?_))) (fun z => yc_cr (by omega) hF (fun hb => br_f (by decide) (K3 hbw c (by omega) z hb h)) (fun hb => br_t rfl (nm_r (nI_1 c) (ih (c + 1) (by omega) (fun j hj hne => ?_)))))
      · by_cases y : j = c
        · subst y; exact absurd z hne
        · exact h j (by omega) hne
      · by_cases y : j = c
        · subst y; exact hb
        · exact h j (by omega) hne
  refine ⟨3376, ?_⟩
  have ph1 : ∀ d c : Nat, c + d = 3375 → (∀ j, j < c → a_inD j ≠ 0 → ¬ bwd a_t D (nI j)) → wY_accept_21 post (nI D) f_side f_arraySide f_statements f_sealed f_pointCount (nI F) (nI Cn) f_bandSize 0 f_prefixLength a_bounds a_ops a_factors a_given a_subs a_cells a_xs a_order a_inD a_t a_prefix (d + 1) (nI c) := by
    intro d
    induction d with
    | zero => intro c hc h; cases (show c = 3375 by omega); exact br_t (by decide) ⟨3376, ph2 h 3375 0 rfl (fun j hj => by omega)⟩
    | succ d ih =>
      intro c hc h
      have cc : (nI c).toNatClampNeg = c := nI_clamp (by omega)
      refine br_f (nI_ge (b := 3375) (by omega) (by omega)) ⟨vp_in_nI (by omega) (by omega), ?_⟩
      rw [cc]
      refine br_c (fun z => nm_r (nI_1 c) (ih (c + 1) (by omega) (fun j hj hne => ?_))) (fun z => yc_fl hD (fun l hl h1 h2 => yc_img (by omega) (by omega) (br_c (fun z' => nm_r (nI_1 c) (ih (c + 1) (by omega) (fun j hj hne => ?_))) (fun z' => K2 c (by omega) z ⟨l, by omega, h1, Int32.not_le.mp z'⟩ h))))
      · by_cases y : j = c
        · subst y; exact absurd z hne
        · exact h j (by omega) hne
      · by_cases y : j = c
        · subst y
          rintro ⟨r, w1, w2, w3⟩
          rcases Nat.lt_trichotomy r l with w | w | w
          · rw [h1 r w] at w3; exact absurd w3 (by decide)
          · subst w; exact absurd w3 (Int32.not_lt.mpr z')
          · exact h2 (by omega) (w2 l w)
        · exact h j (by omega) hne
  exact ph1 3375 0 rfl (fun j hj => by omega)
end
end
section
/-! accept, distance, carried -/
theorem bwd_cg {t t' : Nat → Int32} {D : Nat} {x : Int32} (hD : D ≤ 3) (h : ∀ j, j < 9 → t j = t' j) : bwd t D x ↔ bwd t' D x := by
  unfold bwd
  refine ⟨fun ⟨r, a, b, c⟩ => ⟨r, a, fun r' hr' => ?_, ?_⟩, fun ⟨r, a, b, c⟩ => ⟨r, a, fun r' hr' => ?_, ?_⟩⟩
  · rw [← imf_cg (by omega) h D hD]; exact b r' hr'
  · rw [← imf_cg (by omega) h D hD]; exact c
  · rw [imf_cg (by omega) h D hD]; exact b r' hr'
  · rw [imf_cg (by omega) h D hD]; exact c
theorem crb_cg {t t' : Nat → Int32} {D F Cn : Nat} {x : Int32} (hD : D ≤ 3) (hF : F + Cn ≤ D) (h : ∀ j, j < 9 → t j = t' j) : crb t D F Cn x ↔ crb t' D F Cn x := by
  unfold crb
  refine ⟨fun ⟨a, l, b, c, d⟩ => ⟨fun l' hl' => ?_, l, b, c, ?_⟩, fun ⟨a, l, b, c, d⟩ => ⟨fun l' hl' => ?_, l, b, c, ?_⟩⟩
  · rw [← imf_cg (by omega) h D hD]; exact a l' hl'
  · rw [← imf_cg (by omega) h D hD]; exact d
  · rw [imf_cg (by omega) h D hD]; exact a l' hl'
  · rw [imf_cg (by omega) h D hD]; exact d
def dco (j : Nat) (l : Nat) : Int := if l = 0 then ((j / 225 : Nat) : Int) - 7 else if l = 1 then ((j / 15 % 15 : Nat) : Int) - 7 else ((j % 15 : Nat) : Int) - 7
theorem prt_z {j : Nat} (hj : j < 3375) (l : Nat) : prt (nI j) l = zI (dco j l) := by
  have e1 : nI j / 225 = nI (j / 225) := pk_div (d := 225) (by omega) (by omega) (by omega)
  have e2 : nI j / 15 = nI (j / 15) := pk_div (d := 15) (by omega) (by omega) (by omega)
  have e3 : nI (j / 15) - nI (j / 15) / 15 * 15 = nI (j / 15 % 15) := pk_rem (d := 15) (by omega) (by omega) (by omega)
  have e4 : nI j - nI j / 15 * 15 = nI (j % 15) := pk_rem (d := 15) (by omega) (by omega) (by omega)
  unfold prt dco
  split
  · rw [e1, zI_n, show (7 : Int32) = zI 7 from by decide, zI_sub]
  · split
    · rw [e2, e3, zI_n, show (7 : Int32) = zI 7 from by decide, zI_sub]
    · rw [e4, zI_n, show (7 : Int32) = zI 7 from by decide, zI_sub]
theorem imf_z {t : Nat → Int32} {j r : Nat} (hj : j < 3375) : ∀ c, imf t (nI j) r c = zI (dtp c (fun v => iz t (r * 3 + v)) (dco j)) := by
  intro c
  induction c with
  | zero => rfl
  | succ c ih =>
    show imf t (nI j) r c + t (r * 3 + c) * prt (nI j) c = zI (_ + _)
    rw [ih, prt_z hj]
    conv => lhs; rw [iz_z t (r * 3 + c)]
    rw [zI_mul, zI_add]
/-- a distance isn't mapped to 0 -/
theorem imf_nz {D : Nat} {t : Nat → Int32} {j : Nat} (hD : D = 2 ∨ D = 3) (hm : mat_ok D (iz t) t) (hj : j < 3375) (h1 : 1688 ≤ j) (h2 : D = 2 → j % 15 = 7) (h : ∀ r, r < D → imf t (nI j) r D = 0) : False := by
  have db : ∀ l, -7 ≤ dco j l ∧ dco j l ≤ 7 := fun l => by
    unfold dco
    split
    · omega
    · split <;> omega
  have tb : ∀ i, i < 9 → -8 ≤ iz t i ∧ iz t i ≤ 8 := fun i hi => (hm.1 i hi).2
  have hz : ∀ r, r < D → xr (iz t) D (dco j) r = 0 := fun r hr => by
    have e := h r hr
    rw [imf_z hj, zI_0] at e
    have p : ∀ v, v < D → -56 ≤ iz t (r * 3 + v) * dco j v ∧ iz t (r * 3 + v) * dco j v ≤ 56 := fun v hv => by
      have := ab_mul (tb (r * 3 + v) (by omega)).1 (tb (r * 3 + v) (by omega)).2 (db v).1 (db v).2
      omega
    have hb : -200 ≤ dtp D (fun v => iz t (r * 3 + v)) (dco j) ∧ dtp D (fun v => iz t (r * 3 + v)) (dco j) ≤ 200 := by
      have p0 := p 0 (by omega)
      have p1 := p 1 (by omega)
      rcases hD with rfl | rfl
      · show -200 ≤ 0 + iz t (r * 3 + 0) * dco j 0 + iz t (r * 3 + 1) * dco j 1 ∧ 0 + iz t (r * 3 + 0) * dco j 0 + iz t (r * 3 + 1) * dco j 1 ≤ 200
        omega
      · have p2 := p 2 (by omega)
        show -200 ≤ 0 + iz t (r * 3 + 0) * dco j 0 + iz t (r * 3 + 1) * dco j 1 + iz t (r * 3 + 2) * dco j 2 ∧ 0 + iz t (r * 3 + 0) * dco j 0 + iz t (r * 3 + 1) * dco j 1 + iz t (r * 3 + 2) * dco j 2 ≤ 200
        omega
    show dtp D (fun v => iz t (r * 3 + v)) (dco j) = 0
    exact (zI_eq (by omega) (by omega) (by omega) (by omega)).mp e
  have hi := mat_inv hD hm
  have hd : ∀ l, l < D → dco j l = 0 := fun l hl => by
    rw [← hi.2 (dco j) l hl]
    refine (dtp_congr (c' := fun v => adjX (iz t) (l * 3 + v)) (z' := fun _ => 0) (fun _ _ => rfl) (fun v hv => hz v hv)).trans ?_
    clear hz hi
    induction D with
    | zero => rfl
    | succ n ih =>
      rcases hD with e | e <;> rcases (show n = 1 ∨ n = 2 by omega) with rfl | rfl <;> first | (exfalso; omega) | skip
      · show 0 + adjX (iz t) (l * 3 + 0) * 0 + adjX (iz t) (l * 3 + 1) * 0 = 0; omega
      · show 0 + adjX (iz t) (l * 3 + 0) * 0 + adjX (iz t) (l * 3 + 1) * 0 + adjX (iz t) (l * 3 + 2) * 0 = 0; omega
  have d0 : ((j / 225 : Nat) : Int) - 7 = 0 := hd 0 (by omega)
  have d1 : ((j / 15 % 15 : Nat) : Int) - 7 = 0 := hd 1 (by omega)
  rcases hD with rfl | rfl
  · have := h2 rfl; omega
  · have d2 : ((j % 15 : Nat) : Int) - 7 = 0 := hd 2 (by omega)
    omega

theorem i_vc_accept {k : Nat} {u : SX} {v : SY} (I : i_Rel k u v) (hk : k + 5 ≤ 2563) : wpX_accept (fun r u' => wpY_accept (fun r' v' => r' = r ∧ i_Rel (k + 5) u' v') v) u := by
  refine zz_el (Q := fun u v => wpX_accept (fun r u' => wpY_accept (fun r' v' => r' = r ∧ i_Rel (k + 5) u' v') v) u) ?_ I
  intro D S A St P cnt F Cn Bs m f_sealed f_accepted f_blamed f_tunedFresh f_scanAt f_scanFirst f_scanCount f_scanSize f_scanPins f_rangeLow f_rangeHigh a_limits a_ops a_factors a_given a_subs a_pointX a_numberAt a_cells a_seen a_distances a_matrix a_prefix a_prefixFrom a_prefixTo a_tunedOrder a_tunedKey a_toX a_toZ a_sysCount a_hullLow a_hullHigh a_cursor a_limit a_pin a_echelon a_pivot a_sysCoef a_sysBound a_cand a_spanLow a_spanHigh g_blamed a_order a_inD a_t b_prefix hb hs
  by_cases h0 : f_sealed = 0
  · exact br_t h0 (br_t h0 ⟨rfl, zz_in hb hs⟩)
  · obtain ⟨s1, s2, s3, s4, s5, s6, s7, s8, s9, s10, s11⟩ := hs h0
    have q1 := hb.1
    have hD3 : D ≤ 3 := by omega
    have e1 : ∀ x, bwd a_t D x ↔ bwd a_matrix D x := fun x => bwd_cg hD3 s6
    have e2 : ∀ x, crb a_t D F Cn x ↔ crb a_matrix D F Cn x := fun x => crb_cg hD3 s8.1 s6
    refine br_f h0 (xc_acc hD3 s8.1 s5 (fun j hj hset hbw hfirst => br_f h0 (yc_acc q1 s8.1 (fun j' hj' hset' hbw' hfirst' => ?_) (fun hno => ?_) (fun hno => ?_))) (fun hno j hj hset hcb hfirst => br_f h0 (yc_acc q1 s8.1 (fun j' hj' hset' hbw' => ?_) (fun hno' j' hj' hset' hcb' hfirst' => ?_) (fun _ hno' => ?_))) (fun hno hno2 => br_f h0 (yc_acc q1 s8.1 (fun j' hj' hset' hbw' => ?_) (fun hno' j' hj' hset' hcb' => ?_) (fun _ _ => ?_))))
    · have : j' = j := by
        rcases Nat.lt_trichotomy j' j with w | w | w
        · exact absurd ((e1 _).mp hbw') (hfirst j' w hset')
        · exact w
        · exact absurd ((e1 _).mpr hbw) (hfirst' j w hset)
      subst this
      exact ⟨rfl, zz_in hb (fun _ => ⟨s1, s2, s3, s4, s5, s6, s7, s8, Or.inr ⟨j', hj', hset', rfl, rfl⟩, s10, s11⟩)⟩
    · exact absurd ((e1 _).mpr hbw) (hno j hj hset)
    · exact absurd ((e1 _).mpr hbw) (hno j hj hset)
    · exact absurd ((e1 _).mp hbw') (hno j' hj' hset')
    · have : j' = j := by
        rcases Nat.lt_trichotomy j' j with w | w | w
        · exact absurd ((e2 _).mp hcb') (hfirst j' w hset')
        · exact w
        · exact absurd ((e2 _).mpr hcb) (hfirst' j w hset)
      subst this
      exact ⟨rfl, zz_in hb (fun _ => ⟨s1, s2, s3, s4, s5, s6, s7, s8, Or.inr ⟨j', hj', hset', rfl, rfl⟩, s10, s11⟩)⟩
    · exact absurd ((e2 _).mpr hcb) (hno' j hj hset)
    · exact absurd ((e1 _).mp hbw') (hno j' hj' hset')
    · exact absurd ((e2 _).mp hcb') (hno2 j' hj' hset')
    · exact ⟨rfl, zz_in hb (fun _ => ⟨s1, s2, s3, s4, s5, s6, s7, s8, Or.inl ⟨rfl, rfl⟩, s10, s11⟩)⟩
theorem i_vc_distance {k : Nat} {u : SX} {v : SY} (I : i_Rel k u v) (hk : k + 5 ≤ 2563) (v1 : Int32) (v2 : Int32) : wpX_distance (fun r => wpY_distance (fun r' => r' = r ∧ i_Rel (k + 5) u v) v v1 v2) u v1 v2 := by
  refine zz_el (Q := fun u v => wpX_distance (fun r => wpY_distance (fun r' => r' = r ∧ i_Rel (k + 5) u v) v v1 v2) u v1 v2) ?_ I
  intro D S A St P cnt F Cn Bs m f_sealed f_accepted f_blamed f_tunedFresh f_scanAt f_scanFirst f_scanCount f_scanSize f_scanPins f_rangeLow f_rangeHigh a_limits a_ops a_factors a_given a_subs a_pointX a_numberAt a_cells a_seen a_distances a_matrix a_prefix a_prefixFrom a_prefixTo a_tunedOrder a_tunedKey a_toX a_toZ a_sysCount a_hullLow a_hullHigh a_cursor a_limit a_pin a_echelon a_pivot a_sysCoef a_sysBound a_cand a_spanLow a_spanHigh g_blamed a_order a_inD a_t b_prefix hb hs
  by_cases h0 : f_sealed = 0
  · exact br_t h0 (br_t h0 ⟨rfl, zz_in hb hs⟩)
  · obtain ⟨s1, s2, s3, s4, s5, s6, s7, s8, s9, s10, s11⟩ := hs h0
    have q1 := hb.1
    have done : ∀ r : Int32, (r = r) ∧ i_Rel (k + 5) ((nI D), (nI S), (nI A), (nI St), f_sealed, (nI P), (nI cnt), (nI F), (nI Cn), (nI Bs), f_accepted, f_blamed, (nI m), f_tunedFresh, f_rangeLow, f_rangeHigh, f_scanAt, f_scanFirst, f_scanCount, f_scanSize, f_scanPins, a_limits, a_ops, a_factors, a_given, a_subs, a_pointX, a_numberAt, a_cells, a_seen, a_distances, a_matrix, a_prefix, a_prefixFrom, a_prefixTo, a_tunedOrder, a_tunedKey, a_toX, a_toZ, a_sysCoef, a_sysBound, a_sysCount, a_cand, a_hullLow, a_hullHigh, a_spanLow, a_spanHigh, a_cursor, a_limit, a_pin, a_echelon, a_pivot) ((nI D), (nI S), (nI A), (nI St), f_sealed, (nI P), (nI F), (nI Cn), (nI Bs), f_accepted, g_blamed, (nI m), a_limits, a_ops, a_factors, a_given, a_subs, a_cells, a_pointX, a_order, a_inD, a_t, b_prefix) := fun r => ⟨rfl, zz_in hb hs⟩
    obtain ⟨d1, d2, d3, d4⟩ := s5
    rcases in_or (x := v2) (N := D) (by omega) with ⟨l, hl, rfl⟩ | hbad
    · have yl := ok_y hl (by omega)
      have y1 : ∀ post : Int32 → Prop, ((-1 ≤ v1 → ((v1 = -1 → ((0 ≤ g_blamed → wpY_part (fun r_61 => post r_61) ((nI D), (nI S), (nI A), (nI St), f_sealed, (nI P), (nI F), (nI Cn), (nI Bs), f_accepted, g_blamed, (nI m), a_limits, a_ops, a_factors, a_given, a_subs, a_cells, a_pointX, a_order, a_inD, a_t, b_prefix) g_blamed (nI l)) ∧ (¬ 0 ≤ g_blamed → post (-1012)))) ∧ (¬ v1 = -1 → ∃ n68 : Nat, wY_distance_68 post v1 (nI l) (nI D) (nI S) (nI A) (nI St) f_sealed (nI P) (nI F) (nI Cn) (nI Bs) f_accepted g_blamed (nI m) a_limits a_ops a_factors a_given a_subs a_cells a_pointX a_order a_inD a_t b_prefix n68 0 0))) ∧ (¬ -1 ≤ v1 → post (-1001))) → wpY_distance post ((nI D), (nI S), (nI A), (nI St), f_sealed, (nI P), (nI F), (nI Cn), (nI Bs), f_accepted, g_blamed, (nI m), a_limits, a_ops, a_factors, a_given, a_subs, a_cells, a_pointX, a_order, a_inD, a_t, b_prefix) v1 (nI l) := fun post h => br_f h0 (y_out (fun z => absurd z (nab yl.1 yl.2)) (fun _ _ => br_t rfl h))
      refine br_f h0 (br_f (nI_pos (by omega)) (br_f (nI_ge hl (by omega)) (br_c (fun a1 => ?_) (fun a1 => y1 _ (br_f a1 (done _))))))
      refine br_c (fun a2 => ?_) (fun a2 => ?_)
      · -- the blamed one
        rcases s9 with ⟨e1, e2⟩ | ⟨j, hj, hset, e1, e2⟩
        · subst e1 e2
          exact br_t (by decide) (y1 _ (br_t a1 (br_t a2 (br_f (by decide) (done _)))))
        · subst e1 e2
          have hlt : ctb (nzb a_inD) j < cnt := by
            have w1 : ctb (nzb a_inD) (j + 1) = ctb (nzb a_inD) j + 1 := ctb_t (decide_eq_true hset)
            have w2 := ctb_le (f := nzb a_inD) (show j + 1 ≤ 3375 by omega)
            omega
          refine br_f (nI_pos (by omega)) (br_t (nI_lt hlt (by omega)) (xc_comp (by omega) (by omega) (d3 j hj hset) ?_))
          exact y1 _ (br_t a1 (br_t a2 (br_t (nI_pos' (by omega)) (yc_part (by omega) (done _)))))
      · -- number n
        have hn0 : ¬ v1 < 0 := by
          rw [ti_le, show (-1 : Int32).toInt = -1 from by decide] at a1
          rw [ti_eq, show (-1 : Int32).toInt = -1 from by decide] at a2
          rw [ti_lt, show (0 : Int32).toInt = 0 from by decide]
          omega
        obtain ⟨n, hn, rfl⟩ := nI_of hn0
        -- the reference's search
        have yw : ∀ (post : Int32 → Prop), (∀ j, j < 3375 → a_inD j ≠ 0 → ctb (nzb a_inD) j = n → post (prt (nI j) l)) → (cnt ≤ n → post (-1012)) → ∀ d c : Nat, c + d = 3375 → ctb (nzb a_inD) c ≤ n → wY_distance_68 post (nI n) (nI l) (nI D) (nI S) (nI A) (nI St) f_sealed (nI P) (nI F) (nI Cn) (nI Bs) f_accepted g_blamed (nI m) a_limits a_ops a_factors a_given a_subs a_cells a_pointX a_order a_inD a_t b_prefix (d + 1) (nI (ctb (nzb a_inD) c)) (nI c) := by
          intro post K1 K0 d
          induction d with
          | zero =>
            intro c hc h
            cases (show c = 3375 by omega)
            exact br_t (by decide) (K0 (by omega))
          | succ d ih =>
            intro c hc h
            have cc : (nI c).toNatClampNeg = c := nI_clamp (by omega)
            have hb' := ctb_len (f := nzb a_inD) c
            refine br_f (nI_ge (b := 3375) (by omega) (by omega)) ⟨vp_in_nI (by omega) (by omega), ?_⟩
            rw [cc]
            refine br_c (fun z => nm_r (nI_1 c) ?_) (fun z => pk_eq (ctb (nzb a_inD) c) n (fun e => yc_part (by omega) (K1 c (by omega) z e)) (fun e => nm_r (nI_1 _) (nm_r (nI_1 c) ?_)))
            · have e : ctb (nzb a_inD) (c + 1) = ctb (nzb a_inD) c := ctb_f (decide_eq_false (fun h => h z))
              have := ih (c + 1) (by omega) (by omega)
              rw [e] at this
              exact this
            · have e' : ctb (nzb a_inD) (c + 1) = ctb (nzb a_inD) c + 1 := ctb_t (decide_eq_true z)
              have := ih (c + 1) (by omega) (by omega)
              rw [e'] at this
              exact this
        have y2 : ∀ (post : Int32 → Prop), (∀ j, j < 3375 → a_inD j ≠ 0 → ctb (nzb a_inD) j = n → post (prt (nI j) l)) → (cnt ≤ n → post (-1012)) → wpY_distance post ((nI D), (nI S), (nI A), (nI St), f_sealed, (nI P), (nI F), (nI Cn), (nI Bs), f_accepted, g_blamed, (nI m), a_limits, a_ops, a_factors, a_given, a_subs, a_cells, a_pointX, a_order, a_inD, a_t, b_prefix) (nI n) (nI l) := fun post K1 K0 => y1 post (br_t a1 (br_f a2 ⟨3376, yw post K1 K0 3375 0 rfl (Nat.zero_le _)⟩))
        refine br_f hn0 (pk_lt n cnt (fun h => ?_) (fun h => y2 _ (fun j hj hset e => ?_) (fun _ => done _)))
        · -- the component knows its n-th code
          have nth : ∀ N, n < ctb (nzb a_inD) N → ∃ j, j < N ∧ a_inD j ≠ 0 ∧ ctb (nzb a_inD) j = n := by
            intro N
            induction N with
            | zero => intro h; exact absurd h (Nat.not_lt_zero _)
            | succ N ih =>
              intro h
              by_cases z : n < ctb (nzb a_inD) N
              · obtain ⟨j, w1, w2⟩ := ih z
                exact ⟨j, by omega, w2⟩
              · by_cases y : a_inD N ≠ 0
                · rw [ctb_t (f := nzb a_inD) (decide_eq_true y)] at h
                  exact ⟨N, by omega, y, by omega⟩
                · rw [ctb_f (f := nzb a_inD) (decide_eq_false y)] at h
                  omega
          obtain ⟨j, hj, hset, hc⟩ := nth 3375 (by omega)
          have hdx := d3 j hj hset
          rw [hc] at hdx
          refine xc_comp (by omega) (by omega) hdx (y2 _ (fun j' hj' hset' e' => ?_) (fun h' => by omega))
          have : j' = j := by
            rcases Nat.lt_trichotomy j' j with w | w | w
            · have w1 : ctb (nzb a_inD) (j' + 1) = ctb (nzb a_inD) j' + 1 := ctb_t (decide_eq_true hset')
              have w2 := ctb_le (f := nzb a_inD) (show j' + 1 ≤ j by omega)
              omega
            · exact w
            · have w1 : ctb (nzb a_inD) (j + 1) = ctb (nzb a_inD) j + 1 := ctb_t (decide_eq_true hset)
              have w2 := ctb_le (f := nzb a_inD) (show j + 1 ≤ j' by omega)
              omega
          subst this
          exact done _
        · exfalso
          have w1 : ctb (nzb a_inD) (j + 1) = ctb (nzb a_inD) j + 1 := ctb_t (decide_eq_true hset)
          have w2 := ctb_le (f := nzb a_inD) (show j + 1 ≤ 3375 by omega)
          omega
    · have yb : wpY_distance (fun r' => r' = -1001 ∧ i_Rel (k + 5) ((nI D), (nI S), (nI A), (nI St), f_sealed, (nI P), (nI cnt), (nI F), (nI Cn), (nI Bs), f_accepted, f_blamed, (nI m), f_tunedFresh, f_rangeLow, f_rangeHigh, f_scanAt, f_scanFirst, f_scanCount, f_scanSize, f_scanPins, a_limits, a_ops, a_factors, a_given, a_subs, a_pointX, a_numberAt, a_cells, a_seen, a_distances, a_matrix, a_prefix, a_prefixFrom, a_prefixTo, a_tunedOrder, a_tunedKey, a_toX, a_toZ, a_sysCoef, a_sysBound, a_sysCount, a_cand, a_hullLow, a_hullHigh, a_spanLow, a_spanHigh, a_cursor, a_limit, a_pin, a_echelon, a_pivot) ((nI D), (nI S), (nI A), (nI St), f_sealed, (nI P), (nI F), (nI Cn), (nI Bs), f_accepted, g_blamed, (nI m), a_limits, a_ops, a_factors, a_given, a_subs, a_cells, a_pointX, a_order, a_inD, a_t, b_prefix)) ((nI D), (nI S), (nI A), (nI St), f_sealed, (nI P), (nI F), (nI Cn), (nI Bs), f_accepted, g_blamed, (nI m), a_limits, a_ops, a_factors, a_given, a_subs, a_cells, a_pointX, a_order, a_inD, a_t, b_prefix) v1 v2 := br_f h0 (y_out (fun _ => br_f (by decide) (done _)) (fun g1 g2 => absurd (bad_y (by omega) hbad) (nab g1 g2)))
      exact br_f h0 (br_c (fun _ => yb) (fun g => br_t (Int32.not_lt.mp (fun z => by rcases hbad with h | h; exact g h; exact h z)) yb))
/-- the first nonzero component of T d is at level l -/
noncomputable def flb (t inD : Nat → Int32) (D l : Nat) : Nat → Bool := fun j => @decide (inD j ≠ 0 ∧ (∀ l', l' < l → imf t (nI j) l' D = 0) ∧ imf t (nI j) l D ≠ 0) (Classical.propDecidable _)
theorem flb_t {t inD : Nat → Int32} {D l j : Nat} (h : inD j ≠ 0 ∧ (∀ l', l' < l → imf t (nI j) l' D = 0) ∧ imf t (nI j) l D ≠ 0) : flb t inD D l j = true := @decide_eq_true _ (Classical.propDecidable _) h
theorem flb_f {t inD : Nat → Int32} {D l j : Nat} (h : ¬ (inD j ≠ 0 ∧ (∀ l', l' < l → imf t (nI j) l' D = 0) ∧ imf t (nI j) l D ≠ 0)) : flb t inD D l j = false := @decide_eq_false _ (Classical.propDecidable _) h
theorem i_vc_carried {k : Nat} {u : SX} {v : SY} (I : i_Rel k u v) (hk : k + 5 ≤ 2563) (v1 : Int32) : wpX_carried (fun r => wpY_carried (fun r' => r' = r ∧ i_Rel (k + 5) u v) v v1) u v1 := by
  refine zz_el (Q := fun u v => wpX_carried (fun r => wpY_carried (fun r' => r' = r ∧ i_Rel (k + 5) u v) v v1) u v1) ?_ I
  intro D S A St P cnt F Cn Bs m f_sealed f_accepted f_blamed f_tunedFresh f_scanAt f_scanFirst f_scanCount f_scanSize f_scanPins f_rangeLow f_rangeHigh a_limits a_ops a_factors a_given a_subs a_pointX a_numberAt a_cells a_seen a_distances a_matrix a_prefix a_prefixFrom a_prefixTo a_tunedOrder a_tunedKey a_toX a_toZ a_sysCount a_hullLow a_hullHigh a_cursor a_limit a_pin a_echelon a_pivot a_sysCoef a_sysBound a_cand a_spanLow a_spanHigh g_blamed a_order a_inD a_t b_prefix hb hs
  by_cases h0 : f_sealed = 0
  · exact br_t h0 (br_t h0 ⟨rfl, zz_in hb hs⟩)
  · obtain ⟨s1, s2, s3, s4, s5, s6, s7, s8, s9, s10, s11⟩ := hs h0
    have q1 := hb.1
    have hD3 : D ≤ 3 := by omega
    have done : ∀ r : Int32, (r = r) ∧ i_Rel (k + 5) ((nI D), (nI S), (nI A), (nI St), f_sealed, (nI P), (nI cnt), (nI F), (nI Cn), (nI Bs), f_accepted, f_blamed, (nI m), f_tunedFresh, f_rangeLow, f_rangeHigh, f_scanAt, f_scanFirst, f_scanCount, f_scanSize, f_scanPins, a_limits, a_ops, a_factors, a_given, a_subs, a_pointX, a_numberAt, a_cells, a_seen, a_distances, a_matrix, a_prefix, a_prefixFrom, a_prefixTo, a_tunedOrder, a_tunedKey, a_toX, a_toZ, a_sysCoef, a_sysBound, a_sysCount, a_cand, a_hullLow, a_hullHigh, a_spanLow, a_spanHigh, a_cursor, a_limit, a_pin, a_echelon, a_pivot) ((nI D), (nI S), (nI A), (nI St), f_sealed, (nI P), (nI F), (nI Cn), (nI Bs), f_accepted, g_blamed, (nI m), a_limits, a_ops, a_factors, a_given, a_subs, a_cells, a_pointX, a_order, a_inD, a_t, b_prefix) := fun r => ⟨rfl, zz_in hb hs⟩
    obtain ⟨d1, d2, d3, d4⟩ := s5
    have eim : ∀ x r, r < 3 → imf a_t x r D = imf a_matrix x r D := fun x r hr => imf_cg hr s6 D hD3
    rcases in_or (x := v1) (N := D) (by omega) with ⟨l, hl, rfl⟩ | hbad
    · have yl := ok_y hl (by omega)
      refine br_f h0 (br_f (nI_pos (by omega)) (br_t (nI_lt hl (by omega)) ?_))
      have hle : ∀ c, c ≤ 3375 → ctb (nzb a_inD) c ≤ cnt := fun c hc => by rw [d1]; exact ctb_le hc
      have hlf : ∀ c, ctb (flb a_matrix a_inD D l) c ≤ c := fun c => ctb_len c
      have xw : ∀ (post : Int32 → Prop), post (nI (ctb (flb a_matrix a_inD D l) 3375)) → ∀ d c : Nat, c + d = 3375 → wX_carried_31 post (nI l) (nI D) (nI S) (nI A) (nI St) f_sealed (nI P) (nI cnt) (nI F) (nI Cn) (nI Bs) f_accepted f_blamed (nI m) f_tunedFresh f_rangeLow f_rangeHigh f_scanAt f_scanFirst f_scanCount f_scanSize f_scanPins a_limits a_ops a_factors a_given a_subs a_pointX a_numberAt a_cells a_seen a_distances a_matrix a_prefix a_prefixFrom a_prefixTo a_tunedOrder a_tunedKey a_toX a_toZ a_sysCoef a_sysBound a_sysCount a_cand a_hullLow a_hullHigh a_spanLow a_spanHigh a_cursor a_limit a_pin a_echelon a_pivot (cnt - ctb (nzb a_inD) c + 1) (nI (ctb (flb a_matrix a_inD D l) c)) (nI (ctb (nzb a_inD) c)) := by
        intro post K d
        induction d with
        | zero => intro c hc; cases (show c = 3375 by omega); exact br_t (nI_le (by omega) (by omega)) K
        | succ d ih =>
          intro c hc
          have hi := ih (c + 1) (by omega)
          have hlc := hlf c
          by_cases z : a_inD c ≠ 0
          · have e : ctb (nzb a_inD) (c + 1) = ctb (nzb a_inD) c + 1 := ctb_t (decide_eq_true z)
            have h2 := hle (c + 1) (by omega)
            rw [e] at hi h2
            rw [show cnt - ctb (nzb a_inD) c + 1 = (cnt - (ctb (nzb a_inD) c + 1) + 1) + 1 by omega]
            refine br_f (nI_ge (by omega) (by omega)) (xc_car hD3 (by omega) (d3 c (by omega) z) (fun r hr w1 w2 => pk_eq r l (fun er => ?_) (fun er => ?_)))
            · subst er
              rw [ctb_t (f := flb a_matrix a_inD D r) (flb_t ⟨z, w1, w2 hl⟩)] at hi
              exact nm_r (nI_1 _) (nm_r (nI_1 _) hi)
            · rw [ctb_f (f := flb a_matrix a_inD D l) (flb_f (fun ⟨_, g1, g2⟩ => by
                rcases Nat.lt_trichotomy r l with w | w | w
                · exact w2 (by omega) (g1 r w)
                · exact er w
                · exact g2 (w1 l w)))] at hi
              exact nm_r (nI_1 _) hi
          · have e : ctb (nzb a_inD) (c + 1) = ctb (nzb a_inD) c := ctb_f (decide_eq_false z)
            rw [e, ctb_f (f := flb a_matrix a_inD D l) (flb_f (fun q => z q.1))] at hi
            exact hi
      have yw : ∀ (post : Int32 → Prop), post (nI (ctb (flb a_matrix a_inD D l) 3375)) → ∀ d c : Nat, c + d = 3375 → wY_carried_34 post (nI l) (nI D) (nI S) (nI A) (nI St) f_sealed (nI P) (nI F) (nI Cn) (nI Bs) f_accepted g_blamed (nI m) a_limits a_ops a_factors a_given a_subs a_cells a_pointX a_order a_inD a_t b_prefix (d + 1) (nI (ctb (flb a_matrix a_inD D l) c)) (nI c) := by
        intro post K d
        induction d with
        | zero => intro c hc; cases (show c = 3375 by omega); exact br_t (by decide) K
        | succ d ih =>
          intro c hc
          have hi := ih (c + 1) (by omega)
          have hlc := hlf c
          have cc : (nI c).toNatClampNeg = c := nI_clamp (by omega)
          refine br_f (nI_ge (b := 3375) (by omega) (by omega)) ⟨vp_in_nI (by omega) (by omega), ?_⟩
          rw [cc]
          refine br_c (fun z => nm_r (nI_1 c) ?_) (fun z => yc_fl q1 (fun r hr w1 w2 => pk_eq r l (fun er => ?_) (fun er => ?_)))
          · rw [ctb_f (f := flb a_matrix a_inD D l) (flb_f (fun q => q.1 z))] at hi
            exact hi
          · subst er
            have g1 : ∀ l', l' < r → imf a_matrix (nI c) l' D = 0 := fun l' h' => by rw [← eim _ _ (by omega)]; exact w1 l' h'
            have g2 : imf a_matrix (nI c) r D ≠ 0 := by
              by_cases y : r < D - 1
              · rw [← eim _ _ (by omega)]; exact w2 y
              · intro hz
                refine imf_nz q1 s7 (show c < 3375 by omega) (d4 c (by omega) z).1 (d4 c (by omega) z).2 (fun r' hr' => ?_)
                by_cases x : r' = r
                · subst x; exact hz
                · exact g1 r' (by omega)
            rw [ctb_t (f := flb a_matrix a_inD D r) (flb_t ⟨z, g1, g2⟩)] at hi
            exact nm_r (nI_1 _) (nm_r (nI_1 c) hi)
          · rw [ctb_f (f := flb a_matrix a_inD D l) (flb_f (fun ⟨_, g1, g2⟩ => by
              rcases Nat.lt_trichotomy r l with w | w | w
              · exact w2 (by omega) (by rw [eim _ _ (by omega)]; exact g1 r w)
              · exact er w
              · exact g2 (by rw [← eim _ _ (by omega)]; exact w1 l w)))] at hi
            exact nm_r (nI_1 c) hi
      refine ⟨_, xw _ ?_ 3375 0 rfl⟩
      exact br_f h0 (y_out (fun z => absurd z (nab yl.1 yl.2)) (fun _ _ => br_t rfl ⟨_, yw _ (done _) 3375 0 rfl⟩))
    · have yb : wpY_carried (fun r' => r' = -1001 ∧ i_Rel (k + 5) ((nI D), (nI S), (nI A), (nI St), f_sealed, (nI P), (nI cnt), (nI F), (nI Cn), (nI Bs), f_accepted, f_blamed, (nI m), f_tunedFresh, f_rangeLow, f_rangeHigh, f_scanAt, f_scanFirst, f_scanCount, f_scanSize, f_scanPins, a_limits, a_ops, a_factors, a_given, a_subs, a_pointX, a_numberAt, a_cells, a_seen, a_distances, a_matrix, a_prefix, a_prefixFrom, a_prefixTo, a_tunedOrder, a_tunedKey, a_toX, a_toZ, a_sysCoef, a_sysBound, a_sysCount, a_cand, a_hullLow, a_hullHigh, a_spanLow, a_spanHigh, a_cursor, a_limit, a_pin, a_echelon, a_pivot) ((nI D), (nI S), (nI A), (nI St), f_sealed, (nI P), (nI F), (nI Cn), (nI Bs), f_accepted, g_blamed, (nI m), a_limits, a_ops, a_factors, a_given, a_subs, a_cells, a_pointX, a_order, a_inD, a_t, b_prefix)) ((nI D), (nI S), (nI A), (nI St), f_sealed, (nI P), (nI F), (nI Cn), (nI Bs), f_accepted, g_blamed, (nI m), a_limits, a_ops, a_factors, a_given, a_subs, a_cells, a_pointX, a_order, a_inD, a_t, b_prefix) v1 := br_f h0 (y_out (fun _ => br_f (by decide) (done _)) (fun g1 g2 => absurd (bad_y (by omega) hbad) (nab g1 g2)))
      exact br_f h0 (br_c (fun _ => yb) (fun g => br_f (fun z => by rcases hbad with h | h; exact g h; exact h z) yb))
end
section
/-! the reference's keys -/
theorem pky_b {D F Cn Sz S P : Nat} {B : Nat → Int} {t px num : Nat → Int32} (hD : D = 2 ∨ D = 3) (hS : S ≤ 8) (hF : F + Cn ≤ D) (hSz : 1 ≤ Sz) (hm : mat_ok D (iz t) t) (hp : pts_ok D S B P px num) {p : Nat} (hpP : p < P) :
    (∀ l, l < D → -200 ≤ xr (iz t) D (ptx px p) l ∧ xr (iz t) D (ptx px p) l ≤ 200) ∧ ∀ n, n < D + Cn → -200 ≤ pky D F Cn Sz (iz t) px p n ∧ pky D F Cn Sz (iz t) px p n ≤ 200 := by
  have tb : ∀ i, i < 9 → -8 ≤ iz t i ∧ iz t i ≤ 8 := fun i hi => (hm.1 i hi).2
  have hx : ∀ l, l < 3 → 0 ≤ ptx px p l ∧ ptx px p l ≤ 7 := fun l hl => by have := (hp.2.1 p hpP).2.1 l hl; omega
  have h1 : ∀ l, l < D → -200 ≤ xr (iz t) D (ptx px p) l ∧ xr (iz t) D (ptx px p) l ≤ 200 := fun l hl => by
    have q : ∀ v, v < D → -56 ≤ iz t (l * 3 + v) * ptx px p v ∧ iz t (l * 3 + v) * ptx px p v ≤ 56 := fun v hv => by
      have := ab_mul (tb (l * 3 + v) (by omega)).1 (tb (l * 3 + v) (by omega)).2 (b := ptx px p v) (B := 7) (by have := hx v (by omega); omega) (by have := hx v (by omega); omega)
      omega
    have p0 := q 0 (by omega)
    have p1 := q 1 (by omega)
    rcases hD with rfl | rfl
    · show -200 ≤ 0 + iz t (l * 3 + 0) * ptx px p 0 + iz t (l * 3 + 1) * ptx px p 1 ∧ 0 + iz t (l * 3 + 0) * ptx px p 0 + iz t (l * 3 + 1) * ptx px p 1 ≤ 200
      omega
    · have p2 := q 2 (by omega)
      show -200 ≤ 0 + iz t (l * 3 + 0) * ptx px p 0 + iz t (l * 3 + 1) * ptx px p 1 + iz t (l * 3 + 2) * ptx px p 2 ∧ 0 + iz t (l * 3 + 0) * ptx px p 0 + iz t (l * 3 + 1) * ptx px p 1 + iz t (l * 3 + 2) * ptx px p 2 ≤ 200
      omega
  refine ⟨h1, fun n hn => ?_⟩
  unfold pky keyOf
  split
  · split
    · have := h1 n (by omega)
      exact fl_abs (by omega) this.1 this.2
    · exact h1 n (by omega)
  · exact h1 (n - Cn) (by omega)
section
variable {D F Cn Bs P m : Nat} {f_side f_arraySide f_statements f_sealed f_accepted f_blamed : Int32} {a_bounds a_ops a_factors a_given a_subs a_cells a_xs a_order a_inD a_t a_prefix : Nat → Int32}
theorem yk_key {post : Int32 → Prop} {S : Nat} {B : Nat → Int} {num : Nat → Int32} {p n : Nat} (hD : D = 2 ∨ D = 3) (hS : S ≤ 8) (hbn : band_ok D F Cn Bs) (hm : mat_ok D (iz a_t) a_t) (hp : pts_ok D S B P a_xs num) (hpP : p < P) (hn : n < D + Cn)
    (K : post (zI (pky D F Cn (tsz Cn Bs) (iz a_t) a_xs p n))) : wpY_key post ((nI D), f_side, f_arraySide, f_statements, f_sealed, (nI P), (nI F), (nI Cn), (nI Bs), f_accepted, f_blamed, (nI m), a_bounds, a_ops, a_factors, a_given, a_subs, a_cells, a_xs, a_order, a_inD, a_t, a_prefix) (nI p) (nI n) := by
  have hFC := hbn.1
  have hPb := hp.1
  have kb := pky_b (F := F) (Cn := Cn) (Sz := tsz Cn Bs) hD hS hFC (by
    unfold tsz
    rcases hbn.2.2 with h | h
    · rw [if_pos h.1]; omega
    · rw [if_neg (by omega)]; omega) hm hp hpP
  have hBs : Bs ≤ 8 := by rcases hbn.2.2 with h | h <;> omega
  -- the sum
  have l30 : ∀ row : Nat, row = (if n < F + Cn then n else n - Cn) → ∃ n30 : Nat, wY_key_30 post (nI p) (nI n) (nI row) (nI D) f_side f_arraySide f_statements f_sealed (nI P) (nI F) (nI Cn) (nI Bs) f_accepted f_blamed (nI m) a_bounds a_ops a_factors a_given a_subs a_cells a_xs a_order a_inD a_t a_prefix n30 0 0 := by
    intro row hrow
    have hrD : row < D := by rw [hrow]; split <;> omega
    have hyb := kb.1 row hrD
    refine ⟨D + 1, ?_⟩
    have go : ∀ d c : Nat, c + d = D → wY_key_30 post (nI p) (nI n) (nI row) (nI D) f_side f_arraySide f_statements f_sealed (nI P) (nI F) (nI Cn) (nI Bs) f_accepted f_blamed (nI m) a_bounds a_ops a_factors a_given a_subs a_cells a_xs a_order a_inD a_t a_prefix (d + 1) (zI (dtp c (fun v => iz a_t (row * 3 + v)) (ptx a_xs p))) (nI c) := by
      intro d
      induction d with
      | zero =>
        intro c hc
        cases (show c = D by omega)
        have ey : dtp D (fun v => iz a_t (row * 3 + v)) (ptx a_xs p) = xr (iz a_t) D (ptx a_xs p) row := rfl
        rw [ey]
        unfold pky keyOf at K
        refine br_t (nI_le (by omega) (by omega)) ?_
        rw [nI_add]
        have plain : ¬ (n < F + Cn ∧ F ≤ n) → post (zI (xr (iz a_t) D (ptx a_xs p) row)) := by
          intro hno
          by_cases x : n < F + Cn
          · rw [if_pos x, if_neg (by omega)] at K
            rw [if_pos x] at hrow
            rw [hrow]; exact K
          · rw [if_neg x] at K hrow
            rw [hrow]; exact K
        refine pk_le Bs 0 (fun h => plain (fun q => ?_)) (fun h => pk_lt n F (fun h1 => plain (fun q => by omega)) (fun h1 => pk_le (F + Cn) n (fun h2 => plain (fun q => by omega)) (fun h2 => ?_)))
        · rcases hbn.2.2 with z | z <;> omega
        · rw [if_pos h2, if_pos h1] at K
          rw [if_pos h2] at hrow
          have ht : tsz Cn Bs = Bs := by unfold tsz; rw [if_neg (by omega)]
          rw [ht, ← hrow] at K
          generalize xr (iz a_t) D (ptx a_xs p) row = y at *
          have hq1 : (y.tdiv (Bs : Int)).natAbs = y.natAbs / (Bs : Int).natAbs := Int.natAbs_tdiv y Bs
          have hq2 := Nat.div_le_self y.natAbs (Bs : Int).natAbs
          have hfl := fl_t (a := y) (b := (Bs : Int)) (by omega)
          have hmd := Int.mul_tdiv_add_tmod y (Bs : Int)
          have hpb := ab_mul (a := y.tdiv (Bs : Int)) (A := 200) (b := (Bs : Int)) (B := 8) (by omega) (by omega) (by omega) (by omega)
          have ec : (Bs : Int) * y.tdiv (Bs : Int) = y.tdiv (Bs : Int) * Bs := Int.mul_comm _ _
          refine ⟨fun z => by have := (nI_eq (b := 0) (by omega) (by omega)).mp z; omega, nm_r (e' := zI (y.tdiv Bs)) (by rw [zI_n Bs]; exact zI_div (by omega) (by omega) (by omega) (by omega)) ?_⟩
          rw [show zI (y.tdiv (Bs : Int)) * nI Bs = zI (y.tdiv (Bs : Int) * Bs) from by rw [zI_n, zI_mul]]
          refine br_c (fun g => ?_) (fun g => ?_) <;> rw [zI_le (by omega) (by omega) (by omega) (by omega)] at g
          · rw [hfl, if_pos (by omega)] at K; exact K
          · rw [hfl, if_neg (by omega)] at K
            rw [zI_1, zI_sub]; exact K
      | succ d ih =>
        intro c hc
        have e1 : nI row * 3 + nI c = nI (row * 3 + c) := by rw [nx_m3, nI_add]
        have e2 : nI p * 3 + nI c = nI (p * 3 + c) := by rw [nx_m3, nI_add]
        refine br_f (nI_ge (by omega) (by omega)) ⟨vx_n _ e1 (by omega) (by omega), vx_n _ e2 (by omega) (by omega), nm_r (e' := zI (dtp (c + 1) (fun v => iz a_t (row * 3 + v)) (ptx a_xs p))) ?_ (nm_r (nI_1 c) (ih (c + 1) (by omega)))⟩
        rw [cx_n _ e1 (by omega), cx_n _ e2 (by omega), ptx_z a_xs]
        conv => lhs; rw [iz_z a_t (row * 3 + c)]
        rw [zI_mul, zI_add]; rfl
    exact go D 0 (by omega)
  unfold wpY_key
  dsimp only
  rw [nI_add]
  refine pk_le (F + Cn) n (fun h => nm_r (pk_sub (by omega)) (l30 (n - Cn) (by rw [if_neg (by omega)]))) (fun h => l30 n (by rw [if_pos h]))
/-- point p lies under the first k values of the prefix -/
def undr (D F Cn Sz : Nat) (T : Nat → Int) (px yp : Nat → Int32) (p k : Nat) : Prop := ∀ j, j < k → zI (pky D F Cn Sz T px p j) = yp j
theorem yk_und {post : Int32 → Prop} {S : Nat} {B : Nat → Int} {num : Nat → Int32} {p : Nat} (hD : D = 2 ∨ D = 3) (hS : S ≤ 8) (hbn : band_ok D F Cn Bs) (hm : mat_ok D (iz a_t) a_t) (hp : pts_ok D S B P a_xs num) (hpP : p < P) (hmL : m ≤ D + Cn)
    (K1 : undr D F Cn (tsz Cn Bs) (iz a_t) a_xs a_prefix p m → post 1) (K0 : ¬ undr D F Cn (tsz Cn Bs) (iz a_t) a_xs a_prefix p m → post 0) : wpY_under post ((nI D), f_side, f_arraySide, f_statements, f_sealed, (nI P), (nI F), (nI Cn), (nI Bs), f_accepted, f_blamed, (nI m), a_bounds, a_ops, a_factors, a_given, a_subs, a_cells, a_xs, a_order, a_inD, a_t, a_prefix) (nI p) := by
  have hFC := hbn.1
  refine ⟨m + 1, ?_⟩
  have go : ∀ d n : Nat, n + d = m → (∀ j, j < n → zI (pky D F Cn (tsz Cn Bs) (iz a_t) a_xs p j) = a_prefix j) → wY_under_2 post (nI p) (nI D) f_side f_arraySide f_statements f_sealed (nI P) (nI F) (nI Cn) (nI Bs) f_accepted f_blamed (nI m) a_bounds a_ops a_factors a_given a_subs a_cells a_xs a_order a_inD a_t a_prefix (d + 1) (nI n) := by
    intro d
    induction d with
    | zero => intro n hn h; cases (show n = m by omega); exact br_t (nI_le (by omega) (by omega)) (K1 h)
    | succ d ih =>
      intro n hn h
      have cn' : (nI n).toNatClampNeg = n := nI_clamp (by omega)
      refine br_f (nI_ge (by omega) (by omega)) (yk_key hD hS hbn hm hp hpP (by omega) ⟨vp_in_nI (by omega) (by omega), ?_⟩)
      rw [cn']
      refine br_c (fun z => nm_r (nI_1 n) (ih (n + 1) (by omega) (fun j hj => ?_))) (fun z => K0 (fun q => z (q n (by omega))))
      by_cases y : j = n
      · subst y; exact z
      · exact h j (by omega)
  exact go m 0 (by omega) (fun j hj => by omega)
noncomputable def undb (D F Cn Sz : Nat) (T : Nat → Int) (px yp : Nat → Int32) (k : Nat) : Nat → Bool := fun p => @decide (undr D F Cn Sz T px yp p k) (Classical.propDecidable _)
theorem undb_i {D F Cn Sz : Nat} {T : Nat → Int} {px yp : Nat → Int32} {k p : Nat} : undb D F Cn Sz T px yp k p = true ↔ undr D F Cn Sz T px yp p k := @decide_eq_true_iff _ (Classical.propDecidable _)
theorem undb_f {D F Cn Sz : Nat} {T : Nat → Int} {px yp : Nat → Int32} {k p : Nat} (h : ¬ undr D F Cn Sz T px yp p k) : undb D F Cn Sz T px yp k p = false := @decide_eq_false _ (Classical.propDecidable _) h
theorem yk_cnt {post : Int32 → Prop} {S : Nat} {B : Nat → Int} {num : Nat → Int32} (hD : D = 2 ∨ D = 3) (hS : S ≤ 8) (hbn : band_ok D F Cn Bs) (hm : mat_ok D (iz a_t) a_t) (hp : pts_ok D S B P a_xs num) (hmL : m ≤ D + Cn)
    (K : post (nI (ctb (undb D F Cn (tsz Cn Bs) (iz a_t) a_xs a_prefix m) P))) : wpY_countUnder post ((nI D), f_side, f_arraySide, f_statements, f_sealed, (nI P), (nI F), (nI Cn), (nI Bs), f_accepted, f_blamed, (nI m), a_bounds, a_ops, a_factors, a_given, a_subs, a_cells, a_xs, a_order, a_inD, a_t, a_prefix) := by
  have hPb := hp.1
  refine ⟨P + 1, ?_⟩
  have go : ∀ d p : Nat, p + d = P → wY_countUnder_4 post (nI D) f_side f_arraySide f_statements f_sealed (nI P) (nI F) (nI Cn) (nI Bs) f_accepted f_blamed (nI m) a_bounds a_ops a_factors a_given a_subs a_cells a_xs a_order a_inD a_t a_prefix (d + 1) (nI (ctb (undb D F Cn (tsz Cn Bs) (iz a_t) a_xs a_prefix m) p)) (nI p) := by
    intro d
    induction d with
    | zero => intro p hpp; cases (show p = P by omega); exact br_t (nI_le (by omega) (by omega)) K
    | succ d ih =>
      intro p hpp
      have hi := ih (p + 1) (by omega)
      refine br_f (nI_ge (by omega) (by omega)) (yk_und hD hS hbn hm hp (by omega) hmL (fun z => br_f (by decide) ?_) (fun z => br_t rfl (nm_r (nI_1 p) ?_)))
      · rw [ctb_t (f := undb D F Cn (tsz Cn Bs) (iz a_t) a_xs a_prefix m) (undb_i.mpr z)] at hi
        exact nm_r (nI_1 _) (nm_r (nI_1 p) hi)
      · rw [ctb_f (f := undb D F Cn (tsz Cn Bs) (iz a_t) a_xs a_prefix m) (undb_f z)] at hi
        exact hi
  exact go P 0 (by omega)
theorem yk_bef {post : Int32 → Prop} {S : Nat} {B : Nat → Int} {num : Nat → Int32} {p q : Nat} (hD : D = 2 ∨ D = 3) (hS : S ≤ 8) (hbn : band_ok D F Cn Bs) (hm : mat_ok D (iz a_t) a_t) (hp : pts_ok D S B P a_xs num) (hpP : p < P) (hqP : q < P)
    (K1 : lexlt (D + Cn) (pky D F Cn (tsz Cn Bs) (iz a_t) a_xs p) (pky D F Cn (tsz Cn Bs) (iz a_t) a_xs q) → post 1) (K0 : ¬ lexlt (D + Cn) (pky D F Cn (tsz Cn Bs) (iz a_t) a_xs p) (pky D F Cn (tsz Cn Bs) (iz a_t) a_xs q) → post 0) : wpY_before post ((nI D), f_side, f_arraySide, f_statements, f_sealed, (nI P), (nI F), (nI Cn), (nI Bs), f_accepted, f_blamed, (nI m), a_bounds, a_ops, a_factors, a_given, a_subs, a_cells, a_xs, a_order, a_inD, a_t, a_prefix) (nI p) (nI q) := by
  have hFC := hbn.1
  have hSz : 1 ≤ tsz Cn Bs := by
    unfold tsz
    rcases hbn.2.2 with h | h
    · rw [if_pos h.1]; omega
    · rw [if_neg (by omega)]; omega
  have kp := (pky_b (F := F) (Cn := Cn) (Sz := tsz Cn Bs) hD hS hFC hSz hm hp hpP).2
  have kq := (pky_b (F := F) (Cn := Cn) (Sz := tsz Cn Bs) hD hS hFC hSz hm hp hqP).2
  refine ⟨D + Cn + 1, ?_⟩
  have go : ∀ d n : Nat, n + d = D + Cn → (∀ j, j < n → pky D F Cn (tsz Cn Bs) (iz a_t) a_xs p j = pky D F Cn (tsz Cn Bs) (iz a_t) a_xs q j) → wY_before_2 post (nI p) (nI q) (nI D) f_side f_arraySide f_statements f_sealed (nI P) (nI F) (nI Cn) (nI Bs) f_accepted f_blamed (nI m) a_bounds a_ops a_factors a_given a_subs a_cells a_xs a_order a_inD a_t a_prefix (d + 1) (nI n) := by
    intro d
    induction d with
    | zero =>
      intro n hn h
      refine br_t (by rw [nI_add]; exact nI_le (by omega) (by omega)) (K0 (fun ⟨j, h1, h2, h3⟩ => ?_))
      have := h j (by omega)
      omega
    | succ d ih =>
      intro n hn h
      have b1 := kp n (by omega)
      have b2 := kq n (by omega)
      refine br_f (by rw [nI_add]; exact nI_ge (by omega) (by omega)) (yk_key hD hS hbn hm hp hpP (by omega) (yk_key hD hS hbn hm hp hqP (by omega) (br_c (fun z => nm_r (nI_1 n) (ih (n + 1) (by omega) (fun j hj => ?_))) (fun z => br_c (fun z' => K0 (fun ⟨j, h1, h2, h3⟩ => ?_)) (fun z' => K1 ⟨n, by omega, h, ?_⟩)))))
      · rw [zI_eq (by omega) (by omega) (by omega) (by omega)] at z
        by_cases y : j = n
        · subst y; exact z
        · exact h j (by omega)
      · rw [zI_eq (by omega) (by omega) (by omega) (by omega)] at z
        rw [zI_le (by omega) (by omega) (by omega) (by omega)] at z'
        rcases Nat.lt_trichotomy j n with w | w | w
        · have := h j w; omega
        · subst w; omega
        · exact z (h2 n w)
      · rw [zI_le (by omega) (by omega) (by omega) (by omega)] at z'
        omega
  exact go (D + Cn) 0 (by omega) (fun j hj => by omega)
end
end
section
/-! permutations, searchKey, arrange -/
theorem ctb_cg {f g : Nat → Bool} : ∀ n, (∀ p, p < n → f p = g p) → ctb f n = ctb g n := by
  intro n
  induction n with
  | zero => intro _; rfl
  | succ n ih =>
    intro h
    show ctb f n + _ = ctb g n + _
    rw [ih (fun p hp => h p (by omega)), h n (by omega)]
theorem ctb_add {f g : Nat → Bool} {k : Nat} (hne : ∀ p, p ≠ k → f p = g p) (hf : f k = false) (hg : g k = true) : ∀ n, ctb g n = ctb f n + (if k < n then 1 else 0) := by
  intro n
  induction n with
  | zero => rfl
  | succ n ih =>
    by_cases x : n = k
    · subst x
      rw [ctb_t hg, ctb_f hf, ih, if_neg (by omega), if_pos (by omega)]
    · have e := hne n x
      have e1 : ctb g (n + 1) = ctb g n + (if g n then 1 else 0) := rfl
      have e2 : ctb f (n + 1) = ctb f n + (if f n then 1 else 0) := rfl
      rw [e1, e2, e, ih]
      by_cases y : k < n
      · rw [if_pos y, if_pos (show k < n + 1 by omega)]; omega
      · rw [if_neg y, if_neg (show ¬ k < n + 1 by omega)]; omega
theorem ctb_perm {f : Nat → Bool} {o : Nat → Nat} {P : Nat} (h1 : ∀ n, n < P → o n < P) (h2 : ∀ i j, i < j → j < P → o i ≠ o j) : ctb (fun n => f (o n)) P = ctb f P := by
  have key : ∀ n, n ≤ P → ctb (fun p => f p && hit o n p) P = ctb (fun n => f (o n)) n := by
    intro n
    induction n with
    | zero => intro _; rw [ctb_none P (fun p _ => by show (f p && false) = false; exact Bool.and_false _)]; rfl
    | succ n ih =>
      intro hn
      have hno : hit o n (o n) = false := by
        cases hh : hit o n (o n)
        · rfl
        · obtain ⟨n', a, b⟩ := hit_iff.mp hh
          exact absurd b (h2 n' n a (by omega))
      have hyes : hit o (n + 1) (o n) = true := hit_iff.mpr ⟨n, by omega, rfl⟩
      have hoth : ∀ p, p ≠ o n → hit o (n + 1) p = hit o n p := fun p hp => by
        show (hit o n p || decide (p = o n)) = _
        rw [decide_eq_false hp, Bool.or_false]
      cases hf : f (o n)
      · rw [ctb_f (f := fun n => f (o n)) hf, ← ih (by omega)]
        refine ctb_cg P (fun p _ => ?_)
        by_cases x : p = o n
        · subst x; rw [hf, Bool.false_and, Bool.false_and]
        · rw [hoth p x]
      · rw [ctb_t (f := fun n => f (o n)) hf, ← ih (by omega)]
        rw [ctb_add (f := fun p => f p && hit o n p) (g := fun p => f p && hit o (n + 1) p) (k := o n) (fun p hp => by rw [hoth p hp]) (by rw [hno, Bool.and_false]) (by rw [hf, hyes]; rfl) P, if_pos (h1 n (by omega))]
  rw [← key P (Nat.le_refl _)]
  refine ctb_cg P (fun p hp => ?_)
  have hall : hit o P p = true := by
    cases hh : hit o P p
    · exfalso
      have a := inj_le (o := o) (P := P) P h1 h2
      have b := (ctb_lt (f := hit o P) (g := fun _ => true) (fun _ _ => rfl) hh rfl P).2 hp
      have c := ctb_len (f := fun _ => true) P
      omega
    · rfl
  rw [hall, Bool.and_true]
theorem ctb_rng {a b : Nat} (hab : a ≤ b) : ∀ n, ctb (fun i => decide (a ≤ i ∧ i < b)) n = (if n ≤ a then 0 else if n ≤ b then n - a else b - a) := by
  intro n
  induction n with
  | zero => rw [if_pos (by omega)]; rfl
  | succ n ih =>
    by_cases x : a ≤ n ∧ n < b
    · rw [ctb_t (f := fun i => decide (a ≤ i ∧ i < b)) (decide_eq_true x), ih, if_neg (show ¬ n + 1 ≤ a by omega), if_pos (show n + 1 ≤ b by omega)]
      split
      · omega
      · split <;> omega
    · rw [ctb_f (f := fun i => decide (a ≤ i ∧ i < b)) (decide_eq_false x), ih]
      split
      · split
        · rfl
        · split <;> omega
      · split
        · split
          · omega
          · split <;> omega
        · split
          · omega
          · split <;> omega
theorem tun_inj {L P : Nat} {Ky : Nat → Nat → Int} {o : Nat → Nat} (h : ∀ n n', n < n' → n' < P → lexlt L (Ky (o n)) (Ky (o n'))) : ∀ i j, i < j → j < P → o i ≠ o j := fun i j hi hj e => by
  have := h i j hi hj
  rw [e] at this
  exact lex_irr this (fun _ _ => rfl)
theorem lex_tr {L : Nat} {a b : Nat → Int} (h1 : lexlt L a b) (h2 : lexlt L b a) : False := by
  obtain ⟨m, a1, a2, a3⟩ := h1
  obtain ⟨n, b1, b2, b3⟩ := h2
  rcases Nat.lt_trichotomy m n with w | w | w
  · have := b2 m w; omega
  · subst w; omega
  · have := a2 n w; omega
section
variable {f_depth f_side f_arraySide f_statements f_sealed f_points f_distanceCount f_bandFirst f_bandCount f_bandSize f_accepted f_blamed f_prefixLength f_tunedFresh f_scanAt f_scanFirst f_scanCount f_scanSize f_scanPins : Int32} {f_rangeLow f_rangeHigh : Int64} {a_limits a_ops a_factors a_given a_subs a_pointX a_numberAt a_cells a_seen a_distances a_matrix a_prefix a_prefixFrom a_prefixTo a_tunedOrder a_tunedKey a_toX a_toZ a_sysCount a_hullLow a_hullHigh a_cursor a_limit a_pin a_echelon a_pivot : Nat → Int32} {a_sysCoef a_sysBound a_cand a_spanLow a_spanHigh : Nat → Int64}
theorem xk_srch {post : Int32 → Prop} {m lo hi : Nat} {v : Int32} {ps : Int32} {kz : Nat → Int} (hm : m < 6) (hhi : hi ≤ 64) (hlh : lo ≤ hi) (hps : ps = 0 ∨ ps = 1) (hf : a_prefixFrom m = nI lo) (ht : a_prefixTo m = nI hi)
    (hk : ∀ n, lo ≤ n → n < hi → a_tunedKey (n * 6 + m) = zI (kz n) ∧ -1000 ≤ kz n ∧ kz n ≤ 1000) (hmono : ∀ n n', lo ≤ n → n ≤ n' → n' < hi → kz n ≤ kz n')
    (K : ∀ r, lo ≤ r → r ≤ hi → (∀ n, lo ≤ n → n < r → (kz n < v.toInt ∨ (ps = 1 ∧ kz n = v.toInt))) → (∀ n, r ≤ n → n < hi → ¬ (kz n < v.toInt ∨ (ps = 1 ∧ kz n = v.toInt))) → post (nI r)) : wpX_searchKey post (f_depth, f_side, f_arraySide, f_statements, f_sealed, f_points, f_distanceCount, f_bandFirst, f_bandCount, f_bandSize, f_accepted, f_blamed, f_prefixLength, f_tunedFresh, f_rangeLow, f_rangeHigh, f_scanAt, f_scanFirst, f_scanCount, f_scanSize, f_scanPins, a_limits, a_ops, a_factors, a_given, a_subs, a_pointX, a_numberAt, a_cells, a_seen, a_distances, a_matrix, a_prefix, a_prefixFrom, a_prefixTo, a_tunedOrder, a_tunedKey, a_toX, a_toZ, a_sysCoef, a_sysBound, a_sysCount, a_cand, a_hullLow, a_hullHigh, a_spanLow, a_spanHigh, a_cursor, a_limit, a_pin, a_echelon, a_pivot) (nI m) v ps := by
  have cm : (nI m).toNatClampNeg = m := nI_clamp (by omega)
  refine ⟨vp_in_nI (by omega) (by omega), nm_r (e' := nI lo) (by rw [cm, hf]) ⟨vp_in_nI (by omega) (by omega), nm_r (e' := nI hi) (by rw [cm, ht]) ⟨9, ?_⟩⟩⟩
  have go : ∀ (q s l h : Nat), h - l < 2 ^ q → s + q ≤ 7 → lo ≤ l → l ≤ h → h ≤ hi → (∀ n, lo ≤ n → n < l → (kz n < v.toInt ∨ (ps = 1 ∧ kz n = v.toInt))) → (∀ n, h ≤ n → n < hi → ¬ (kz n < v.toInt ∨ (ps = 1 ∧ kz n = v.toInt))) →
      wX_searchKey_19 post (nI m) v ps f_depth f_side f_arraySide f_statements f_sealed f_points f_distanceCount f_bandFirst f_bandCount f_bandSize f_accepted f_blamed f_prefixLength f_tunedFresh f_rangeLow f_rangeHigh f_scanAt f_scanFirst f_scanCount f_scanSize f_scanPins a_limits a_ops a_factors a_given a_subs a_pointX a_numberAt a_cells a_seen a_distances a_matrix a_prefix a_prefixFrom a_prefixTo a_tunedOrder a_tunedKey a_toX a_toZ a_sysCoef a_sysBound a_sysCount a_cand a_hullLow a_hullHigh a_spanLow a_spanHigh a_cursor a_limit a_pin a_echelon a_pivot (q + 2) (nI l) (nI h) (nI s) := by
    intro q
    induction q with
    | zero =>
      intro s l h hq hs h1 h2 h3 g1 g2
      have : l = h := by omega
      subst this
      exact br_f (nI_ge (b := 8) (by omega) (by omega)) (br_t (nI_le (by omega) (by omega)) (K l h1 h3 g1 g2))
    | succ q ih =>
      intro s l h hq hs h1 h2 h3 g1 g2
      have h8 : ¬ (8 : Int32) ≤ nI s := nI_ge (b := 8) (by omega) (by omega)
      have e2 : 2 ^ (q + 1) = 2 ^ q * 2 := Nat.pow_succ _ _
      refine br_f h8 (pk_le h l (fun z => K l h1 (by omega) g1 (fun n a b => g2 n (by omega) b)) (fun z => ⟨by decide, nm_r (e' := nI ((l + h) / 2)) (by rw [nI_add]; exact pk_div (d := 2) (by omega) (by omega) (by omega)) ?_⟩))
      generalize hmid : (l + h) / 2 = mid
      have hm1 : l ≤ mid := by omega
      have hm2 : mid < h := by omega
      have e : nI mid * 6 + nI m = nI (mid * 6 + m) := by rw [nx_m6, nI_add]
      obtain ⟨k1, k2⟩ := hk mid (by omega) (by omega)
      refine ⟨vx_n _ e (by omega) (by omega), nm_r (e' := zI (kz mid)) (by rw [cx_n _ e (by omega)]; exact k1) ?_⟩
      have up : (kz mid < v.toInt ∨ (ps = 1 ∧ kz mid = v.toInt)) → wX_searchKey_19 post (nI m) v ps f_depth f_side f_arraySide f_statements f_sealed f_points f_distanceCount f_bandFirst f_bandCount f_bandSize f_accepted f_blamed f_prefixLength f_tunedFresh f_rangeLow f_rangeHigh f_scanAt f_scanFirst f_scanCount f_scanSize f_scanPins a_limits a_ops a_factors a_given a_subs a_pointX a_numberAt a_cells a_seen a_distances a_matrix a_prefix a_prefixFrom a_prefixTo a_tunedOrder a_tunedKey a_toX a_toZ a_sysCoef a_sysBound a_sysCount a_cand a_hullLow a_hullHigh a_spanLow a_spanHigh a_cursor a_limit a_pin a_echelon a_pivot (q + 2) (nI (mid + 1)) (nI h) (nI (s + 1)) := fun hp => by
        refine ih (s + 1) (mid + 1) h (by omega) (by omega) (by omega) (by omega) h3 (fun n a b => ?_) g2
        have := hmono n mid a (by omega) (by omega)
        rcases hp with w | ⟨w1, w2⟩
        · left; omega
        · by_cases y : kz n = v.toInt
          · exact Or.inr ⟨w1, y⟩
          · left; omega
      have dn : ¬ (kz mid < v.toInt ∨ (ps = 1 ∧ kz mid = v.toInt)) → wX_searchKey_19 post (nI m) v ps f_depth f_side f_arraySide f_statements f_sealed f_points f_distanceCount f_bandFirst f_bandCount f_bandSize f_accepted f_blamed f_prefixLength f_tunedFresh f_rangeLow f_rangeHigh f_scanAt f_scanFirst f_scanCount f_scanSize f_scanPins a_limits a_ops a_factors a_given a_subs a_pointX a_numberAt a_cells a_seen a_distances a_matrix a_prefix a_prefixFrom a_prefixTo a_tunedOrder a_tunedKey a_toX a_toZ a_sysCoef a_sysBound a_sysCount a_cand a_hullLow a_hullHigh a_spanLow a_spanHigh a_cursor a_limit a_pin a_echelon a_pivot (q + 2) (nI l) (nI mid) (nI (s + 1)) := fun hp => by
        refine ih (s + 1) l mid (by omega) (by omega) h1 hm1 (by omega) g1 (fun n a b w => hp ?_)
        have := hmono mid n (by omega) a b
        rcases w with w | ⟨w1, w2⟩
        · left; omega
        · by_cases y : kz mid = v.toInt
          · exact Or.inr ⟨w1, y⟩
          · left; omega
      have hlt : zI (kz mid) < v ↔ kz mid < v.toInt := by rw [ti_lt, zI_t (by omega) (by omega)]
      have heq : zI (kz mid) = v ↔ kz mid = v.toInt := by rw [ti_eq, zI_t (by omega) (by omega)]
      refine br_c (fun w => nm_r (nI_1 mid) (nm_r (nI_1 s) (up (Or.inl (hlt.mp w))))) (fun w => br_c (fun w0 => nm_r (nI_1 s) (dn (fun y => ?_))) (fun w0 => br_c (fun w1 => nm_r (nI_1 mid) (nm_r (nI_1 s) (up (Or.inr ⟨?_, heq.mp w1⟩)))) (fun w1 => nm_r (nI_1 s) (dn (fun y => ?_)))))
      · rcases y with y | y
        · exact w (hlt.mpr y)
        · rw [w0] at y; exact absurd y.1 (by decide)
      · rcases hps with y | y
        · exact absurd y w0
        · exact y
      · rcases y with y | y
        · exact w (hlt.mpr y)
        · exact w1 (heq.mpr y.2)
  exact go 7 0 lo hi (by omega) (by omega) (by omega) hlh (by omega) (fun n a b => by omega) (fun n a b => by omega)
end
section
variable {D F Cn Bs P m : Nat} {f_side f_arraySide f_statements f_sealed f_accepted f_blamed : Int32} {a_bounds a_ops a_factors a_given a_subs a_cells a_xs a_order a_inD a_t a_prefix : Nat → Int32}
/-- arrange puts p at place rk p -/
theorem yg_arr {post : SY → Prop} {w : Int32} {rk : Nat → Nat} (hP : P ≤ 64) (hrk : ∀ p, p < P → rk p < P) (hinj : ∀ p q, p < P → q < P → rk p = rk q → p = q)
    (hw : ∀ (J : Int32 → (Nat → Int32) → (Nat → Int32) → (Nat → Int32) → (Nat → Int32) → (Nat → Int32) → (Nat → Int32) → (Nat → Int32) → (Nat → Int32) → (Nat → Int32) → (Nat → Int32) → (Nat → Int32) → Prop) (p : Nat) (ord : Nat → Int32), p < P →
      (∀ n, wY_arrange_15 post J w (nI p) (nI D) f_side f_arraySide f_statements f_sealed (nI P) (nI F) (nI Cn) (nI Bs) f_accepted f_blamed (nI m) a_bounds a_ops a_factors a_given a_subs a_cells a_xs ord a_inD a_t a_prefix (n + 1) (nI (rk p)) (nI P)) → ∃ n15 : Nat, wY_arrange_15 post J w (nI p) (nI D) f_side f_arraySide f_statements f_sealed (nI P) (nI F) (nI Cn) (nI Bs) f_accepted f_blamed (nI m) a_bounds a_ops a_factors a_given a_subs a_cells a_xs ord a_inD a_t a_prefix n15 0 0)
    (K : ∀ ord : Nat → Int32, (∀ p, p < P → ord (rk p) = nI p) → post ((nI D), f_side, f_arraySide, f_statements, f_sealed, (nI P), (nI F), (nI Cn), (nI Bs), f_accepted, f_blamed, (nI m), a_bounds, a_ops, a_factors, a_given, a_subs, a_cells, a_xs, ord, a_inD, a_t, a_prefix)) : wpY_arrange post ((nI D), f_side, f_arraySide, f_statements, f_sealed, (nI P), (nI F), (nI Cn), (nI Bs), f_accepted, f_blamed, (nI m), a_bounds, a_ops, a_factors, a_given, a_subs, a_cells, a_xs, a_order, a_inD, a_t, a_prefix) w := by
  refine loop_0 (fun n i s => wY_arrange_2 post w (nI D) f_side f_arraySide f_statements f_sealed (nI P) (nI F) (nI Cn) (nI Bs) f_accepted f_blamed (nI m) n (nI i) a_bounds a_ops a_factors a_given a_subs a_cells a_xs s a_inD a_t a_prefix) (fun i s => ∀ p, p < i → s (rk p) = nI p) P a_order (fun p hp => by omega) ?_ ?_
  · intro n s hs
    exact br_t (nI_le (by omega) (by omega)) (K s hs)
  · intro n i s hi hs hK
    refine br_f (nI_ge hi (by omega)) (hw _ i s hi (fun n' => ?_))
    have hr := hrk i hi
    refine br_t (nI_le (by omega) (by omega)) ⟨vp_in_nI (by omega) (by omega), nm_r (e' := upd s (rk i) (nI i)) (by rw [nI_clamp (by omega)]) (nm_r (nI_1 i) (hK _ (fun p hp => ?_)))⟩
    by_cases x : p = i
    · subst x; exact pk_us
    · rw [pk_un (fun e => x (hinj p i (by omega) hi e))]; exact hs p (by omega)
theorem yg_orig {post : SY → Prop} (hP : P ≤ 64) (K : ∀ ord : Nat → Int32, (∀ p, p < P → ord p = nI p) → post ((nI D), f_side, f_arraySide, f_statements, f_sealed, (nI P), (nI F), (nI Cn), (nI Bs), f_accepted, f_blamed, (nI m), a_bounds, a_ops, a_factors, a_given, a_subs, a_cells, a_xs, ord, a_inD, a_t, a_prefix)) : wpY_arrange post ((nI D), f_side, f_arraySide, f_statements, f_sealed, (nI P), (nI F), (nI Cn), (nI Bs), f_accepted, f_blamed, (nI m), a_bounds, a_ops, a_factors, a_given, a_subs, a_cells, a_xs, a_order, a_inD, a_t, a_prefix) 1 := by
  refine yg_arr (rk := fun p => p) hP (fun p hp => hp) (fun p q _ _ e => e) (fun J p ord hp hfin => ?_) K
  refine ⟨P + 1, ?_⟩
  have go : ∀ d q : Nat, q + d = P → wY_arrange_15 post J 1 (nI p) (nI D) f_side f_arraySide f_statements f_sealed (nI P) (nI F) (nI Cn) (nI Bs) f_accepted f_blamed (nI m) a_bounds a_ops a_factors a_given a_subs a_cells a_xs ord a_inD a_t a_prefix (d + 1) (nI (if q ≤ p then q else p)) (nI q) := by
    intro d
    induction d with
    | zero =>
      intro q hq
      cases (show q = P by omega)
      rw [if_neg (by omega)]
      exact hfin 0
    | succ d ih =>
      intro q hq
      have hi := ih (q + 1) (by omega)
      refine br_f (nI_ge (by omega) (by omega)) (br_t rfl (pk_le p q (fun h => nm_r (nI_1 q) ?_) (fun h => nm_r (nI_1 _) (nm_r (nI_1 q) ?_))))
      · rw [show (if q ≤ p then q else p) = p by split <;> omega]
        rw [if_neg (by omega)] at hi
        exact hi
      · rw [if_pos (by omega)]
        rw [if_pos (by omega)] at hi
        exact hi
  have := go P 0 (by omega)
  rw [if_pos (by omega)] at this
  exact this
noncomputable def lexb (L : Nat) (Ky : Nat → Nat → Int) (p : Nat) : Nat → Bool := fun q => @decide (lexlt L (Ky q) (Ky p)) (Classical.propDecidable _)
theorem lexb_t {L : Nat} {Ky : Nat → Nat → Int} {p q : Nat} (h : lexlt L (Ky q) (Ky p)) : lexb L Ky p q = true := @decide_eq_true _ (Classical.propDecidable _) h
theorem lexb_f {L : Nat} {Ky : Nat → Nat → Int} {p q : Nat} (h : ¬ lexlt L (Ky q) (Ky p)) : lexb L Ky p q = false := @decide_eq_false _ (Classical.propDecidable _) h
/-- the rank of the n-th row is n -/
theorem lex_rank {L P : Nat} {Ky : Nat → Nat → Int} {o : Nat → Nat} (h1 : ∀ n, n < P → o n < P) (h2 : ∀ n n', n < n' → n' < P → lexlt L (Ky (o n)) (Ky (o n'))) {n : Nat} (hn : n < P) : ctb (lexb L Ky (o n)) P = n := by
  rw [← ctb_perm (f := lexb L Ky (o n)) h1 (tun_inj h2)]
  rw [ctb_cg (g := fun i => decide (0 ≤ i ∧ i < n)) P (fun i hi => ?_), ctb_rng (Nat.zero_le n)]
  · split
    · omega
    · split <;> omega
  · by_cases x : i < n
    · rw [lexb_t (h2 i n x hn), decide_eq_true ⟨Nat.zero_le _, x⟩]
    · rw [lexb_f (fun w => ?_), decide_eq_false (by omega)]
      by_cases y : i = n
      · subst y; exact lex_irr w (fun _ _ => rfl)
      · exact lex_tr w (h2 n i (by omega) hi)
theorem yg_tun {post : SY → Prop} {S : Nat} {B : Nat → Int} {num : Nat → Int32} {o : Nat → Nat} (hD : D = 2 ∨ D = 3) (hS : S ≤ 8) (hbn : band_ok D F Cn Bs) (hm : mat_ok D (iz a_t) a_t) (hp : pts_ok D S B P a_xs num)
    (h1 : ∀ n, n < P → o n < P) (h2 : ∀ n n', n < n' → n' < P → lexlt (D + Cn) (pky D F Cn (tsz Cn Bs) (iz a_t) a_xs (o n)) (pky D F Cn (tsz Cn Bs) (iz a_t) a_xs (o n')))
    (K : ∀ ord : Nat → Int32, (∀ n, n < P → ord n = nI (o n)) → post ((nI D), f_side, f_arraySide, f_statements, f_sealed, (nI P), (nI F), (nI Cn), (nI Bs), f_accepted, f_blamed, (nI m), a_bounds, a_ops, a_factors, a_given, a_subs, a_cells, a_xs, ord, a_inD, a_t, a_prefix)) : wpY_arrange post ((nI D), f_side, f_arraySide, f_statements, f_sealed, (nI P), (nI F), (nI Cn), (nI Bs), f_accepted, f_blamed, (nI m), a_bounds, a_ops, a_factors, a_given, a_subs, a_cells, a_xs, a_order, a_inD, a_t, a_prefix) 2 := by
  have hPb := hp.1
  have hr : ∀ n, n < P → ctb (lexb (D + Cn) (pky D F Cn (tsz Cn Bs) (iz a_t) a_xs) (o n)) P = n := fun n hn => lex_rank h1 h2 hn
  have hsur : ∀ p, p < P → ∃ n, n < P ∧ o n = p := fun p hpP => by
    have a := inj_le (o := o) (P := P) P h1 (tun_inj h2)
    cases hh : hit o P p
    · exfalso
      have b := (ctb_lt (f := hit o P) (g := fun _ => true) (fun _ _ => rfl) hh rfl P).2 hpP
      have c := ctb_len (f := fun _ => true) P
      omega
    · exact hit_iff.mp hh
  refine yg_arr (rk := fun p => ctb (lexb (D + Cn) (pky D F Cn (tsz Cn Bs) (iz a_t) a_xs) p) P) hPb.2 (fun p hpP => ?_) (fun p q hp' hq' e => ?_) (fun J p ord hpP hfin => ?_) (fun ord hord => K ord (fun n hn => ?_))
  · obtain ⟨n, hn, rfl⟩ := hsur p hpP
    show ctb _ P < P
    rw [hr n hn]; exact hn
  · obtain ⟨n, hn, rfl⟩ := hsur p hp'
    obtain ⟨n', hn', rfl⟩ := hsur q hq'
    rw [hr n hn, hr n' hn'] at e
    rw [e]
  · refine ⟨P + 1, ?_⟩
    have go : ∀ d q : Nat, q + d = P → wY_arrange_15 post J 2 (nI p) (nI D) f_side f_arraySide f_statements f_sealed (nI P) (nI F) (nI Cn) (nI Bs) f_accepted f_blamed (nI m) a_bounds a_ops a_factors a_given a_subs a_cells a_xs ord a_inD a_t a_prefix (d + 1) (nI (ctb (lexb (D + Cn) (pky D F Cn (tsz Cn Bs) (iz a_t) a_xs) p) q)) (nI q) := by
      intro d
      induction d with
      | zero => intro q hq; cases (show q = P by omega); exact hfin 0
      | succ d ih =>
        intro q hq
        have hi := ih (q + 1) (by omega)
        refine br_f (nI_ge (by omega) (by omega)) (br_f (by decide) (yk_bef hD hS hbn hm hp (by omega) hpP (fun w => br_f (by decide) ?_) (fun w => br_t rfl (nm_r (nI_1 q) ?_))))
        · rw [ctb_t (f := lexb (D + Cn) (pky D F Cn (tsz Cn Bs) (iz a_t) a_xs) p) (lexb_t w)] at hi
          exact nm_r (nI_1 _) (nm_r (nI_1 q) hi)
        · rw [ctb_f (f := lexb (D + Cn) (pky D F Cn (tsz Cn Bs) (iz a_t) a_xs) p) (lexb_f w)] at hi
          exact hi
    exact go P 0 (by omega)
  · have := hord (o n) (h1 n hn)
    rw [hr n hn] at this
    exact this
end
end
section
/-! descend, edge -/
theorem mat_cg {D : Nat} {t mt : Nat → Int32} (h : ∀ j, j < 9 → t j = mt j) (hm : mat_ok D (iz mt) mt) : mat_ok D (iz t) t := by
  have e : ∀ j, j < 9 → iz t j = iz mt j := fun j hj => by unfold iz; rw [h j hj]
  refine ⟨fun j hj => ⟨iz_z t j, ?_⟩, ?_, fun hD => ?_⟩
  · rw [e j hj]; exact (hm.1 j hj).2
  · have ed : dtr (iz t) 3 = dtr (iz mt) 3 := by
      show 0 + iz t 0 * (iz t 4 * iz t 8 - iz t 5 * iz t 7) + iz t 1 * (iz t 5 * iz t 6 - iz t 3 * iz t 8) + iz t 2 * (iz t 3 * iz t 7 - iz t 4 * iz t 6) = 0 + iz mt 0 * (iz mt 4 * iz mt 8 - iz mt 5 * iz mt 7) + iz mt 1 * (iz mt 5 * iz mt 6 - iz mt 3 * iz mt 8) + iz mt 2 * (iz mt 3 * iz mt 7 - iz mt 4 * iz mt 6)
      rw [e 0 (by omega), e 1 (by omega), e 2 (by omega), e 3 (by omega), e 4 (by omega), e 5 (by omega), e 6 (by omega), e 7 (by omega), e 8 (by omega)]
    rw [ed]; exact hm.2.1
  · rw [e 2 (by omega), e 5 (by omega), e 6 (by omega), e 7 (by omega), e 8 (by omega)]; exact hm.2.2 hD
theorem pky_cg {D F Cn Sz : Nat} {t mt px : Nat → Int32} (hD : D ≤ 3) (hF : F + Cn ≤ D) (h : ∀ j, j < 9 → t j = mt j) {p n : Nat} (hn : n < D + Cn) : pky D F Cn Sz (iz t) px p n = pky D F Cn Sz (iz mt) px p n := by
  have e : ∀ r, r < D → xr (iz t) D (ptx px p) r = xr (iz mt) D (ptx px p) r := fun r hr => dtp_congr (fun v hv => by show iz t (r * 3 + v) = iz mt (r * 3 + v); unfold iz; rw [h _ (by omega)]) (fun _ _ => rfl)
  unfold pky keyOf
  split
  · split
    · rw [e n (by omega)]
    · rw [e n (by omega)]
  · rw [e (n - Cn) (by omega)]
/-- the number of points under k values -/
theorem cnt_un {D F Cn Sz P k lo hi : Nat} {T : Nat → Int} {px yp key ord : Nat → Int32} {o : Nat → Nat}
    (h1 : ∀ n, n < P → o n < P ∧ ord n = nI (o n) ∧ ∀ m, m < D + Cn → key (n * 6 + m) = zI (pky D F Cn Sz T px (o n) m)) (h2 : ∀ n n', n < n' → n' < P → lexlt (D + Cn) (pky D F Cn Sz T px (o n)) (pky D F Cn Sz T px (o n')))
    (hk : k ≤ D + Cn) (hlh : lo ≤ hi) (hh : hi ≤ P) (hiff : ∀ n, n < P → ((lo ≤ n ∧ n < hi) ↔ ∀ j, j < k → key (n * 6 + j) = yp j)) : ctb (undb D F Cn Sz T px yp k) P = hi - lo := by
  rw [← ctb_perm (f := undb D F Cn Sz T px yp k) (fun n hn => (h1 n hn).1) (tun_inj h2)]
  rw [ctb_cg (g := fun i => decide (lo ≤ i ∧ i < hi)) P (fun i hi' => ?_), ctb_rng hlh]
  · split
    · omega
    · split <;> omega
  · by_cases x : lo ≤ i ∧ i < hi
    · rw [decide_eq_true x]
      exact undb_i.mpr (fun j hj => by rw [← (h1 i hi').2.2 j (by omega)]; exact (hiff i hi').mp x j hj)
    · rw [decide_eq_false x]
      exact undb_f (fun q => x ((hiff i hi').mpr (fun j hj => by rw [(h1 i hi').2.2 j (by omega)]; exact q j hj)))
theorem und_cg {D F Cn Sz P k : Nat} {t mt px yp : Nat → Int32} (hD : D ≤ 3) (hF : F + Cn ≤ D) (h : ∀ j, j < 9 → t j = mt j) (hk : k ≤ D + Cn) : ctb (undb D F Cn Sz (iz t) px yp k) P = ctb (undb D F Cn Sz (iz mt) px yp k) P := by
  refine ctb_cg P (fun p _ => ?_)
  by_cases x : undr D F Cn Sz (iz mt) px yp p k
  · rw [undb_i.mpr x]
    exact undb_i.mpr (fun j hj => by rw [pky_cg hD hF h (by omega)]; exact x j hj)
  · rw [undb_f x]
    exact undb_f (fun q => x (fun j hj => by rw [← pky_cg hD hF h (by omega)]; exact q j hj))
theorem tsz_1 {D F Cn Bs : Nat} (h : band_ok D F Cn Bs) : 1 ≤ tsz Cn Bs := by
  unfold tsz
  rcases h.2.2 with h | h
  · rw [if_pos h.1]; omega
  · rw [if_neg (by omega)]; omega
/-- the rows from lo to hi, which share their first k values, grow in the next -/
theorem row_up {L P m lo hi : Nat} {Ky : Nat → Nat → Int} {o : Nat → Nat} {key pr : Nat → Int32} (hm : m < L)
    (hk : ∀ n, n < P → ∀ j, j < L → key (n * 6 + j) = zI (Ky (o n) j)) (hkb : ∀ n, n < P → ∀ j, j < L → -200 ≤ Ky (o n) j ∧ Ky (o n) j ≤ 200)
    (h2 : ∀ n n', n < n' → n' < P → lexlt L (Ky (o n)) (Ky (o n'))) (hh : hi ≤ P) (hiff : ∀ n, n < P → ((lo ≤ n ∧ n < hi) ↔ ∀ j, j < m → key (n * 6 + j) = pr j)) :
    ∀ n n', lo ≤ n → n ≤ n' → n' < hi → Ky (o n) m ≤ Ky (o n') m := by
  intro n n' a b c
  by_cases x : n = n'
  · subst x; exact Int.le_refl _
  · obtain ⟨i, w1, w2, w3⟩ := h2 n n' (by omega) (by omega)
    rcases Nat.lt_trichotomy i m with w | w | w
    · exfalso
      have e1 := (hiff n (by omega)).mp ⟨a, by omega⟩ i w
      have e2 := (hiff n' (by omega)).mp ⟨by omega, c⟩ i w
      rw [hk n (by omega) i (by omega)] at e1
      rw [hk n' (by omega) i (by omega), ← e1] at e2
      have b1 := hkb n (by omega) i (by omega)
      have b2 := hkb n' (by omega) i (by omega)
      have := (zI_eq (by omega) (by omega) (by omega) (by omega)).mp e2
      omega
    · subst w; omega
    · exact Int.le_of_eq (w2 m w)

theorem g_tun {D S A St P cnt F Cn Bs m : Nat} {f_sealed f_accepted f_blamed f_tunedFresh f_scanAt f_scanFirst f_scanCount f_scanSize f_scanPins : Int32} {f_rangeLow f_rangeHigh : Int64} {a_limits a_ops a_factors a_given a_subs a_pointX a_numberAt a_cells a_seen a_distances a_matrix a_prefix a_prefixFrom a_prefixTo a_tunedOrder a_tunedKey a_toX a_toZ a_sysCount a_hullLow a_hullHigh a_cursor a_limit a_pin a_echelon a_pivot : Nat → Int32} {a_sysCoef a_sysBound a_cand a_spanLow a_spanHigh : Nat → Int64} {g_blamed : Int32} {a_inD a_t b_prefix : Nat → Int32} {post : SX → Prop}
    (hb : rl_b D S A St f_sealed a_limits a_ops a_given a_subs a_inD)
    (hs : rl_s D S A St P cnt F Cn Bs m a_limits a_ops a_given a_subs a_pointX a_numberAt a_distances a_matrix a_t a_inD a_tunedOrder a_tunedKey a_prefixFrom a_prefixTo a_prefix b_prefix f_blamed g_blamed f_tunedFresh)
    (K : ∀ (fr : Int32) (ra rb : Int64) (q1 q2 q3 q4 q5 : Int32) (tx tz : Nat → Int32) (sc sb : Nat → Int64) (sk : Nat → Int32) (cd : Nat → Int64) (hl hh : Nat → Int32) (sl sh : Nat → Int64) (cu li ord key : Nat → Int32), fr ≠ 0 →
      rl_s D S A St P cnt F Cn Bs m a_limits a_ops a_given a_subs a_pointX a_numberAt a_distances a_matrix a_t a_inD ord key a_prefixFrom a_prefixTo a_prefix b_prefix f_blamed g_blamed fr →
      post ((nI D), (nI S), (nI A), (nI St), f_sealed, (nI P), (nI cnt), (nI F), (nI Cn), (nI Bs), f_accepted, f_blamed, (nI m), fr, ra, rb, q1, q2, q3, q4, q5, a_limits, a_ops, a_factors, a_given, a_subs, a_pointX, a_numberAt, a_cells, a_seen, a_distances, a_matrix, a_prefix, a_prefixFrom, a_prefixTo, ord, key, tx, tz, sc, sb, sk, cd, hl, hh, sl, sh, cu, li, a_pin, a_echelon, a_pivot)) :
    wpX_generateTuned post ((nI D), (nI S), (nI A), (nI St), f_sealed, (nI P), (nI cnt), (nI F), (nI Cn), (nI Bs), f_accepted, f_blamed, (nI m), f_tunedFresh, f_rangeLow, f_rangeHigh, f_scanAt, f_scanFirst, f_scanCount, f_scanSize, f_scanPins, a_limits, a_ops, a_factors, a_given, a_subs, a_pointX, a_numberAt, a_cells, a_seen, a_distances, a_matrix, a_prefix, a_prefixFrom, a_prefixTo, a_tunedOrder, a_tunedKey, a_toX, a_toZ, a_sysCoef, a_sysBound, a_sysCount, a_cand, a_hullLow, a_hullHigh, a_spanLow, a_spanHigh, a_cursor, a_limit, a_pin, a_echelon, a_pivot) := by
  by_cases h0 : f_tunedFresh = 0
  · obtain ⟨s1, s2, s3, s4, s5, s6, s7, s8, s9, s10, m1, m2, m3, m4⟩ := hs
    have hm0 : m = 0 := by
      rcases Nat.eq_zero_or_pos m with h | h
      · exact h
      · exact absurd h0 (m2 h)
    subst hm0
    refine xt_gen hb.1 hb.2.1 s8 s7 (fun j _ => iz_z _ j) hb.2.2.2.2.2.1.1 s3 s10 (fun fr ra rb q1 q2 q3 q4 q5 tx tz sc sb sk cd hl hh sl sh cu li ord key hfr ht => ?_)
    refine K fr ra rb q1 q2 q3 q4 q5 tx tz sc sb sk cd hl hh sl sh cu li ord key hfr ⟨s1, s2, s3, s4, s5, s6, s7, s8, s9, fun _ => ht, m1, fun _ => hfr, m3, fun k hk => ?_⟩
    obtain ⟨lo, hi, g1, g2, g3, g4, g5⟩ := m4 k hk
    exact ⟨lo, hi, g1, g2, g3, g4, fun n hn => ⟨fun _ j hj => by omega, fun _ => (g5 n hn).mpr (fun j hj => by omega)⟩⟩
  · exact br_f h0 (K _ _ _ _ _ _ _ _ _ _ _ _ _ _ _ _ _ _ _ _ _ _ h0 hs)
theorem i_vc_descend {k : Nat} {u : SX} {v : SY} (I : i_Rel k u v) (hk : k + 5 ≤ 2563) (v1 : Int32) : wpX_descend (fun r u' => wpY_descend (fun r' v' => r' = r ∧ i_Rel (k + 5) u' v') v v1) u v1 := by
  refine zz_el (Q := fun u v => wpX_descend (fun r u' => wpY_descend (fun r' v' => r' = r ∧ i_Rel (k + 5) u' v') v v1) u v1) ?_ I
  intro D S A St P cnt F Cn Bs m f_sealed f_accepted f_blamed f_tunedFresh f_scanAt f_scanFirst f_scanCount f_scanSize f_scanPins f_rangeLow f_rangeHigh a_limits a_ops a_factors a_given a_subs a_pointX a_numberAt a_cells a_seen a_distances a_matrix a_prefix a_prefixFrom a_prefixTo a_tunedOrder a_tunedKey a_toX a_toZ a_sysCount a_hullLow a_hullHigh a_cursor a_limit a_pin a_echelon a_pivot a_sysCoef a_sysBound a_cand a_spanLow a_spanHigh g_blamed a_order a_inD a_t b_prefix hb hs
  by_cases h0 : f_sealed = 0
  · exact br_t h0 (br_t h0 ⟨rfl, zz_in hb hs⟩)
  have hs0 := hs h0
  have q1 := hb.1
  have hD3 : D ≤ 3 := by omega
  have hm6 := hs0.2.2.2.2.2.2.2.1.1
  have hmL := hs0.2.2.2.2.2.2.2.2.2.2.1
  have eL : nI D + nI Cn = nI (D + Cn) := nI_add D Cn
  by_cases hm : ¬ m < D + Cn
  · have hno : ¬ nI m < nI D + nI Cn := by rw [eL]; exact nI_nlt (by omega) (by omega)
    exact br_f h0 (br_f hno (br_f h0 (br_f hno ⟨rfl, zz_in hb hs⟩)))
  have hm := Nat.lt_of_not_le (fun z => hm (Nat.not_lt.mpr z))
  have hyes : nI m < nI D + nI Cn := by rw [eL]; exact nI_lt hm (by omega)
  refine br_f h0 (br_t hyes (g_tun hb hs0 (fun fr ra rb q1' q2 q3 q4 q5 tx tz sc sb sk cd hl hh sl sh cu li ord key hfr hs' => ?_)))
  obtain ⟨s1, s2, s3, s4, s5, s6, s7, s8, s9, s10, m1, m2, m3, m4⟩ := hs'
  obtain ⟨o, ho, hlex⟩ := s10 hfr
  obtain ⟨lo, hi, e1, e2, hlt, hhi, hiff⟩ := m4 m (Nat.le_refl _)
  have hPb := s3.1
  have hS := hb.2.1.2
  have kb : ∀ n, n < P → ∀ j, j < D + Cn → -200 ≤ pky D F Cn (tsz Cn Bs) (iz a_matrix) a_pointX (o n) j ∧ pky D F Cn (tsz Cn Bs) (iz a_matrix) a_pointX (o n) j ≤ 200 := fun n hn => (pky_b q1 hS s8.1 (tsz_1 s8) s7 s3 (ho n hn).1).2
  have hk' : ∀ n, n < P → ∀ j, j < D + Cn → key (n * 6 + j) = zI (pky D F Cn (tsz Cn Bs) (iz a_matrix) a_pointX (o n) j) := fun n hn => (ho n hn).2.2
  have hmono := row_up hm hk' kb hlex hhi hiff
  -- the reference
  have yd : ∀ post : Int32 → SY → Prop, ∀ c : Nat, ctb (undb D F Cn (tsz Cn Bs) (iz a_matrix) a_pointX (upd b_prefix m v1) (m + 1)) P = c → (c = 0 → post (-1012) ((nI D), (nI S), (nI A), (nI St), f_sealed, (nI P), (nI F), (nI Cn), (nI Bs), f_accepted, g_blamed, (nI m), a_limits, a_ops, a_factors, a_given, a_subs, a_cells, a_pointX, a_order, a_inD, a_t, (upd b_prefix m v1))) → (c ≠ 0 → post (nI c) ((nI D), (nI S), (nI A), (nI St), f_sealed, (nI P), (nI F), (nI Cn), (nI Bs), f_accepted, g_blamed, (nI (m + 1)), a_limits, a_ops, a_factors, a_given, a_subs, a_cells, a_pointX, a_order, a_inD, a_t, (upd b_prefix m v1))) → wpY_descend post ((nI D), (nI S), (nI A), (nI St), f_sealed, (nI P), (nI F), (nI Cn), (nI Bs), f_accepted, g_blamed, (nI m), a_limits, a_ops, a_factors, a_given, a_subs, a_cells, a_pointX, a_order, a_inD, a_t, b_prefix) v1 := by
    intro post c hc K0 K1
    have hcP := ctb_len (f := undb D F Cn (tsz Cn Bs) (iz a_matrix) a_pointX (upd b_prefix m v1) (m + 1)) P
    rw [hc] at hcP
    refine br_f h0 (br_t hyes ⟨vp_in_nI (by omega) (by omega), nm_r (e' := upd b_prefix m v1) (by rw [nI_clamp (by omega)]) (nm_r (nI_1 m) (yk_cnt (m := m + 1) q1 hS s8 (mat_cg s6 s7) s3 (by omega) ?_))⟩)
    rw [und_cg hD3 s8.1 s6 (by omega), hc]
    exact pk_le c 0 (fun h => nm_r (e' := nI m) (nx_s1 (by omega)) (K0 (by omega))) (fun h => K1 (by omega))
  refine xk_srch (m := m) (lo := lo) (hi := hi) (v := v1) (ps := 0) (kz := fun n => pky D F Cn (tsz Cn Bs) (iz a_matrix) a_pointX (o n) m) (by omega) (by omega) (by omega) (Or.inl rfl) e1 e2 (fun n a b => ⟨hk' n (by omega) m hm, by have := kb n (by omega) m hm; omega⟩) hmono (fun r1 r1a r1b r1c r1d => ?_)
  refine xk_srch (m := m) (lo := lo) (hi := hi) (v := v1) (ps := 1) (kz := fun n => pky D F Cn (tsz Cn Bs) (iz a_matrix) a_pointX (o n) m) (by omega) (by omega) (by omega) (Or.inr rfl) e1 e2 (fun n a b => ⟨hk' n (by omega) m hm, by have := kb n (by omega) m hm; omega⟩) hmono (fun r2 r2a r2b r2c r2d => ?_)
  have h12 : r1 ≤ r2 := by
    rcases Nat.lt_or_ge r2 r1 with w | w
    · exfalso
      rcases r1c r2 r2a w with g | ⟨g, _⟩
      · exact r2d r2 (Nat.le_refl _) (by omega) (Or.inl g)
      · exact absurd g (by decide)
    · exact w
  have hnew : ∀ pr : Nat → Int32, (∀ j, j < m → pr j = a_prefix j) → ∀ n, n < P → ((r1 ≤ n ∧ n < r2) ↔ ∀ j, j < m + 1 → key (n * 6 + j) = upd pr m v1 j) := by
    intro pr hpr n hn
    have zb := kb n hn m hm
    constructor
    · intro ⟨w1, w2⟩ j hj
      by_cases x : j = m
      · subst x
        rw [pk_us, hk' n hn _ hm]
        have a1 := r1d n w1 (by omega)
        have a2 := r2c n (by omega) w2
        rcases a2 with a2 | ⟨_, a2⟩
        · exact absurd (Or.inl a2) a1
        · rw [a2]; exact (zI_of v1).symm
      · rw [pk_un x, hpr j (by omega)]
        exact (hiff n hn).mp ⟨by omega, by omega⟩ j (by omega)
    · intro w
      have wm := w m (by omega)
      rw [pk_us, hk' n hn m hm] at wm
      have ez : pky D F Cn (tsz Cn Bs) (iz a_matrix) a_pointX (o n) m = v1.toInt := by rw [← wm, zI_t (by omega) (by omega)]
      obtain ⟨b1, b2⟩ := (hiff n hn).mpr (fun j hj => by
        have := w j (by omega)
        rw [pk_un (by omega), hpr j hj] at this
        exact this)
      constructor
      · rcases Nat.lt_or_ge n r1 with g | g
        · exfalso
          rcases r1c n b1 g with z | ⟨z, _⟩
          · omega
          · exact absurd z (by decide)
        · exact g
      · rcases Nat.lt_or_ge n r2 with g | g
        · exact g
        · exact absurd (Or.inr ⟨rfl, ez⟩) (r2d n g b2)
  have hcount : ctb (undb D F Cn (tsz Cn Bs) (iz a_matrix) a_pointX (upd b_prefix m v1) (m + 1)) P = r2 - r1 := cnt_un ho hlex (by omega) h12 (by omega) (hnew b_prefix (fun j hj => (m3 j hj).symm))
  refine pk_lt r1 r2 (fun h => ?_) (fun h => ?_)
  · refine ⟨vp_in_nI (by omega) (by omega), nm_r (e' := upd a_prefix m v1) (by rw [nI_clamp (by omega)]) (nm_r (nI_1 m) ⟨vx_n (m + 1) (nI_1 m) (by omega) (by omega), nm_r (e' := upd a_prefixFrom (m + 1) (nI r1)) (by rw [cx_n (m + 1) (nI_1 m) (by omega)]) ⟨vx_n (m + 1) (nI_1 m) (by omega) (by omega), nm_r (e' := upd a_prefixTo (m + 1) (nI r2)) (by rw [cx_n (m + 1) (nI_1 m) (by omega)]) ?_⟩⟩)⟩
    refine yd _ (r2 - r1) hcount (fun w => by omega) (fun _ => ⟨(pk_sub h12).symm, zz_in hb (fun _ => ⟨s1, s2, s3, s4, s5, s6, s7, s8, s9, s10, by omega, fun _ => hfr, fun j hj => ?_, fun c hc => ?_⟩)⟩)
    · by_cases x : j = m
      · subst x; rw [pk_us, pk_us]
      · rw [pk_un x, pk_un x]; exact m3 j (by omega)
    · by_cases x : c = m + 1
      · subst x
        exact ⟨r1, r2, pk_us, pk_us, h, by omega, hnew a_prefix (fun _ _ => rfl)⟩
      · obtain ⟨l', h', g1, g2, g3, g4, g5⟩ := m4 c (by omega)
        refine ⟨l', h', by rw [pk_un x]; exact g1, by rw [pk_un x]; exact g2, g3, g4, fun n hn => (g5 n hn).trans ⟨fun w j hj => by rw [pk_un (by omega)]; exact w j hj, fun w j hj => by have := w j hj; rw [pk_un (by omega)] at this; exact this⟩⟩
  · refine yd _ (r2 - r1) hcount (fun _ => ⟨rfl, zz_in hb (fun _ => ⟨s1, s2, s3, s4, s5, s6, s7, s8, s9, s10, m1, m2, fun j hj => ?_, m4⟩)⟩) (fun w => by omega)
    rw [pk_un (by omega)]; exact m3 j hj
end
section
/-! edge -/

/-- y's walk over the points for the least or the greatest value -/
theorem ye_run {D S A St P F Cn Bs m : Nat} {f_sealed f_accepted g_blamed : Int32} {a_limits a_ops a_factors a_given a_subs a_cells a_pointX a_order a_inD a_t b_prefix : Nat → Int32} {post : Int32 → Prop} {B : Nat → Int} {num : Nat → Int32} {w : Nat} (hw : w ≤ 1) (hD : D = 2 ∨ D = 3) (hS : S ≤ 8) (hbn : band_ok D F Cn Bs) (hmt : mat_ok D (iz a_t) a_t) (hp : pts_ok D S B P a_pointX num) (hm : m < D + Cn)
    (hex : ∃ q, q < P ∧ undr D F Cn (tsz Cn Bs) (iz a_t) a_pointX b_prefix q m)
    (K : ∀ q, q < P → undr D F Cn (tsz Cn Bs) (iz a_t) a_pointX b_prefix q m → (∀ p, p < P → undr D F Cn (tsz Cn Bs) (iz a_t) a_pointX b_prefix p m → (w = 0 → pky D F Cn (tsz Cn Bs) (iz a_t) a_pointX q m ≤ pky D F Cn (tsz Cn Bs) (iz a_t) a_pointX p m) ∧ (w = 1 → pky D F Cn (tsz Cn Bs) (iz a_t) a_pointX p m ≤ pky D F Cn (tsz Cn Bs) (iz a_t) a_pointX q m)) → post (zI (pky D F Cn (tsz Cn Bs) (iz a_t) a_pointX q m))) :
    ∃ n105 : Nat, wY_edge_105 post (nI w) (nI D) (nI S) (nI A) (nI St) f_sealed (nI P) (nI F) (nI Cn) (nI Bs) f_accepted g_blamed (nI m) a_limits a_ops a_factors a_given a_subs a_cells a_pointX a_order a_inD a_t b_prefix n105 (-1012) 0 0 := by
  have hPb := hp.1
  have kb : ∀ p, p < P → -200 ≤ pky D F Cn (tsz Cn Bs) (iz a_t) a_pointX p m ∧ pky D F Cn (tsz Cn Bs) (iz a_t) a_pointX p m ≤ 200 := fun p hpP => (pky_b hD hS hbn.1 (tsz_1 hbn) hmt hp hpP).2 m hm
  refine ⟨P + 1, ?_⟩
  have go : ∀ d p : Nat, p + d = P → ∀ x2 x3 : Int32, ((x3 = 0 ∧ ∀ q, q < p → ¬ undr D F Cn (tsz Cn Bs) (iz a_t) a_pointX b_prefix q m) ∨ (x3 = 1 ∧ ∃ q, q < p ∧ undr D F Cn (tsz Cn Bs) (iz a_t) a_pointX b_prefix q m ∧ x2 = zI (pky D F Cn (tsz Cn Bs) (iz a_t) a_pointX q m) ∧
      (∀ p', p' < p → undr D F Cn (tsz Cn Bs) (iz a_t) a_pointX b_prefix p' m → (w = 0 → pky D F Cn (tsz Cn Bs) (iz a_t) a_pointX q m ≤ pky D F Cn (tsz Cn Bs) (iz a_t) a_pointX p' m) ∧ (w = 1 → pky D F Cn (tsz Cn Bs) (iz a_t) a_pointX p' m ≤ pky D F Cn (tsz Cn Bs) (iz a_t) a_pointX q m)))) → wY_edge_105 post (nI w) (nI D) (nI S) (nI A) (nI St) f_sealed (nI P) (nI F) (nI Cn) (nI Bs) f_accepted g_blamed (nI m) a_limits a_ops a_factors a_given a_subs a_cells a_pointX a_order a_inD a_t b_prefix (d + 1) x2 x3 (nI p) := by
    intro d
    induction d with
    | zero =>
      intro p hpp x2 x3 h
      cases (show p = P by omega)
      refine br_t (nI_le (by omega) (by omega)) ?_
      rcases h with ⟨_, h⟩ | ⟨_, q, g1, g2, g3, g4⟩
      · obtain ⟨q, a, b⟩ := hex
        exact absurd b (h q a)
      · rw [g3]; exact K q g1 g2 g4
    | succ d ih =>
      intro p hpp x2 x3 h
      have hpP : p < P := by omega
      have nx : ∀ p' : Nat, p' < p + 1 → p' = p ∨ p' < p := fun p' h' => by omega
      refine br_f (nI_ge (by omega) (by omega)) (yk_und hD hS hbn hmt hp hpP (by omega) (fun z => br_f (by decide) (yk_key hD hS hbn hmt hp hpP hm ?_)) (fun z => br_t rfl (nm_r (nI_1 p) (ih (p + 1) (by omega) x2 x3 ?_))))
      · rcases h with ⟨rfl, h⟩ | ⟨rfl, q, g1, g2, rfl, g4⟩
        · refine br_t rfl (nm_r (nI_1 p) (ih (p + 1) (by omega) _ 1 (Or.inr ⟨rfl, p, by omega, z, rfl, fun p' h' u' => ?_⟩)))
          rcases nx p' h' with rfl | y
          · exact ⟨fun _ => Int.le_refl _, fun _ => Int.le_refl _⟩
          · exact absurd u' (h p' y)
        · have b1 := kb p hpP
          have b2 := kb q (by omega)
          refine br_f (by decide) (pk_eq w 0 (fun e => ?_) (fun e => ?_))
          · refine br_c (fun g => nm_r (nI_1 p) (ih (p + 1) (by omega) _ 1 (Or.inr ⟨rfl, q, by omega, g2, rfl, fun p' h' u' => ?_⟩))) (fun g => nm_r (nI_1 p) (ih (p + 1) (by omega) _ 1 (Or.inr ⟨rfl, p, by omega, z, rfl, fun p' h' u' => ?_⟩))) <;> rw [zI_le (by omega) (by omega) (by omega) (by omega)] at g <;> rcases nx p' h' with rfl | y
            · exact ⟨fun _ => g, fun e' => by omega⟩
            · exact g4 p' y u'
            · exact ⟨fun _ => Int.le_refl _, fun e' => by omega⟩
            · have := (g4 p' y u').1 e
              exact ⟨fun _ => by omega, fun e' => by omega⟩
          · refine br_c (fun g => nm_r (nI_1 p) (ih (p + 1) (by omega) _ 1 (Or.inr ⟨rfl, q, by omega, g2, rfl, fun p' h' u' => ?_⟩))) (fun g => nm_r (nI_1 p) (ih (p + 1) (by omega) _ 1 (Or.inr ⟨rfl, p, by omega, z, rfl, fun p' h' u' => ?_⟩))) <;> rw [zI_le (by omega) (by omega) (by omega) (by omega)] at g <;> rcases nx p' h' with rfl | y
            · exact ⟨fun e' => by omega, fun _ => g⟩
            · exact g4 p' y u'
            · exact ⟨fun e' => by omega, fun _ => Int.le_refl _⟩
            · have := (g4 p' y u').2 (by omega)
              exact ⟨fun e' => by omega, fun _ => by omega⟩
      · rcases h with ⟨h3, h⟩ | ⟨h3, q, g1, g2, g3, g4⟩
        · refine Or.inl ⟨h3, fun q hq => ?_⟩
          rcases nx q hq with rfl | y
          · exact z
          · exact h q y
        · refine Or.inr ⟨h3, q, by omega, g2, g3, fun p' h' u' => ?_⟩
          rcases nx p' h' with rfl | y
          · exact absurd u' z
          · exact g4 p' y u'
  exact go P 0 (by omega) _ 0 (Or.inl ⟨rfl, fun q hq => by omega⟩)
theorem i_vc_edge {k : Nat} {u : SX} {v : SY} (I : i_Rel k u v) (hk : k + 5 ≤ 2563) (v1 : Int32) : wpX_edge (fun r u' => wpY_edge (fun r' => r' = r ∧ i_Rel (k + 5) u' v) v v1) u v1 := by
  refine zz_el (Q := fun u v => wpX_edge (fun r u' => wpY_edge (fun r' => r' = r ∧ i_Rel (k + 5) u' v) v v1) u v1) ?_ I
  intro D S A St P cnt F Cn Bs m f_sealed f_accepted f_blamed f_tunedFresh f_scanAt f_scanFirst f_scanCount f_scanSize f_scanPins f_rangeLow f_rangeHigh a_limits a_ops a_factors a_given a_subs a_pointX a_numberAt a_cells a_seen a_distances a_matrix a_prefix a_prefixFrom a_prefixTo a_tunedOrder a_tunedKey a_toX a_toZ a_sysCount a_hullLow a_hullHigh a_cursor a_limit a_pin a_echelon a_pivot a_sysCoef a_sysBound a_cand a_spanLow a_spanHigh g_blamed a_order a_inD a_t b_prefix hb hs
  by_cases h0 : f_sealed = 0
  · exact br_t h0 (br_t h0 ⟨rfl, zz_in hb hs⟩)
  have hs0 := hs h0
  have q1 := hb.1
  have hD3 : D ≤ 3 := by omega
  have hS := hb.2.1.2
  have eL : nI D + nI Cn = nI (D + Cn) := nI_add D Cn
  have hFC := hs0.2.2.2.2.2.2.2.1.1
  have hmL := hs0.2.2.2.2.2.2.2.2.2.2.1
  by_cases hw : ¬ ∃ j, j ≤ 9 ∧ v1 = nI j
  · have ho := out0 (N := 9) (by omega) hw
    have yb : wpY_edge (fun r' => r' = -1001 ∧ i_Rel (k + 5) ((nI D), (nI S), (nI A), (nI St), f_sealed, (nI P), (nI cnt), (nI F), (nI Cn), (nI Bs), f_accepted, f_blamed, (nI m), f_tunedFresh, f_rangeLow, f_rangeHigh, f_scanAt, f_scanFirst, f_scanCount, f_scanSize, f_scanPins, a_limits, a_ops, a_factors, a_given, a_subs, a_pointX, a_numberAt, a_cells, a_seen, a_distances, a_matrix, a_prefix, a_prefixFrom, a_prefixTo, a_tunedOrder, a_tunedKey, a_toX, a_toZ, a_sysCoef, a_sysBound, a_sysCount, a_cand, a_hullLow, a_hullHigh, a_spanLow, a_spanHigh, a_cursor, a_limit, a_pin, a_echelon, a_pivot) ((nI D), (nI S), (nI A), (nI St), f_sealed, (nI P), (nI F), (nI Cn), (nI Bs), f_accepted, g_blamed, (nI m), a_limits, a_ops, a_factors, a_given, a_subs, a_cells, a_pointX, a_order, a_inD, a_t, b_prefix)) ((nI D), (nI S), (nI A), (nI St), f_sealed, (nI P), (nI F), (nI Cn), (nI Bs), f_accepted, g_blamed, (nI m), a_limits, a_ops, a_factors, a_given, a_subs, a_cells, a_pointX, a_order, a_inD, a_t, b_prefix) v1 := br_f h0 (y_out (fun _ => br_f (by decide) ⟨rfl, zz_in hb hs⟩) (fun g1 g2 => absurd ho (nab g1 g2)))
    exact br_f h0 (br_c (fun _ => yb) (fun g => br_f (bna ho g) yb))
  obtain ⟨w, hw9, rfl⟩ := Classical.not_not.mp hw
  have hn : ¬ (nI w < 0 ∨ ¬ nI w ≤ 9) := nab (nI_pos (by omega)) (nI_le (b := 9) hw9 (by omega))
  refine br_f h0 (br_f (nI_pos (by omega)) (br_t (nI_le (b := 9) hw9 (by omega)) (pk_eq w 3 (fun e3 => ?_) (fun e3 => pk_eq w 2 (fun e2 => ?_) (fun e2 => pk_lt w 4 (fun e4 => ?_) (fun e4 => ?_))))))
  · subst e3
    exact br_f h0 (y_out (fun z => absurd z hn) (fun _ _ => br_t rfl (br_f (by decide) (br_t rfl ⟨rfl, zz_in hb hs⟩))))
  · subst e2
    obtain ⟨s1, s2, s3, s4, s5, s6, s7, s8, s9, s10, m1, m2, m3, m4⟩ := hs0
    obtain ⟨lo, hi, e1, e2, hlt, hhi, hiff⟩ := m4 m (Nat.le_refl _)
    have cm : (nI m).toNatClampNeg = m := nI_clamp (by omega)
    have hP := s3.1
    have hct : ctb (undb D F Cn (tsz Cn Bs) (iz a_matrix) a_pointX b_prefix m) P = hi - lo := by
      by_cases hm0 : m = 0
      · subst hm0
        rw [ctb_cg (g := fun i => decide (lo ≤ i ∧ i < hi)) P (fun i hi' => ?_), ctb_rng (by omega)]
        · have a := (hiff 0 (by omega)).mpr (fun j hj => by omega)
          have b := (hiff (P - 1) (by omega)).mpr (fun j hj => by omega)
          split
          · omega
          · split <;> omega
        · rw [decide_eq_true ((hiff i hi').mpr (fun j hj => by omega))]
          exact undb_i.mpr (fun j hj => by omega)
      · obtain ⟨o, ho, hlex⟩ := s10 (m2 (by omega))
        exact cnt_un ho hlex m1 (by omega) hhi (fun n hn' => (hiff n hn').trans ⟨fun g j hj => by rw [← m3 j hj]; exact g j hj, fun g j hj => by rw [m3 j hj]; exact g j hj⟩)
    refine ⟨vp_in_nI (by omega) (by omega), vp_in_nI (by omega) (by omega), ?_⟩
    refine br_f h0 (y_out (fun z => absurd z hn) (fun _ _ => br_t rfl (br_t rfl (yk_cnt (m := m) q1 hS s8 (mat_cg s6 s7) s3 m1 ⟨?_, zz_in hb hs⟩))))
    rw [cm, und_cg hD3 s8.1 s6 m1, hct, e1, e2, pk_sub (by omega)]
  · have hw1 : w ≤ 1 := by omega
    by_cases hm : ¬ m < D + Cn
    · have hno : ¬ nI m < nI D + nI Cn := by rw [eL]; exact nI_nlt (by omega) (by omega)
      exact br_f hno (br_f h0 (y_out (fun z => absurd z hn) (fun _ _ => br_t rfl (br_f (fun z => e2 ((nI_eq (b := 2) (by omega) (by omega)).mp z)) (br_f (fun z => e3 ((nI_eq (b := 3) (by omega) (by omega)).mp z)) (br_t (nI_lt (b := 4) e4 (by omega)) (br_f hno ⟨rfl, zz_in hb hs⟩)))))))
    have hm := Nat.lt_of_not_le (fun z => hm (Nat.not_lt.mpr z))
    have hyes : nI m < nI D + nI Cn := by rw [eL]; exact nI_lt hm (by omega)
    refine br_t hyes (g_tun hb hs0 (fun fr ra rb q1' q2 q3 q4 q5 tx tz sc sb sk cd hl hh sl sh cu li ord key hfr hs' => ?_))
    have hs2 := hs'
    obtain ⟨s1, s2, s3, s4, s5, s6, s7, s8, s9, s10, m1, m2, m3, m4⟩ := hs'
    obtain ⟨o, ho, hlex⟩ := s10 hfr
    obtain ⟨lo, hi, f1, f2, hlt, hhi, hiff⟩ := m4 m (Nat.le_refl _)
    have hPb := s3.1
    have cm : (nI m).toNatClampNeg = m := nI_clamp (by omega)
    have kb : ∀ n, n < P → ∀ j, j < D + Cn → -200 ≤ pky D F Cn (tsz Cn Bs) (iz a_matrix) a_pointX (o n) j ∧ pky D F Cn (tsz Cn Bs) (iz a_matrix) a_pointX (o n) j ≤ 200 := fun n hn => (pky_b q1 hS s8.1 (tsz_1 s8) s7 s3 (ho n hn).1).2
    have hk' : ∀ n, n < P → ∀ j, j < D + Cn → key (n * 6 + j) = zI (pky D F Cn (tsz Cn Bs) (iz a_matrix) a_pointX (o n) j) := fun n hn => (ho n hn).2.2
    have hmono := row_up hm hk' kb hlex hhi hiff
    have hsur : ∀ p, p < P → ∃ n, n < P ∧ o n = p := fun p hpP => by
      have a := inj_le (o := o) (P := P) P (fun n hn => (ho n hn).1) (tun_inj hlex)
      cases hh : hit o P p
      · exfalso
        have b := (ctb_lt (f := hit o P) (g := fun _ => true) (fun _ _ => rfl) hh rfl P).2 hpP
        have c := ctb_len (f := fun _ => true) P
        omega
      · exact hit_iff.mp hh
    have hund : ∀ n, n < P → (undr D F Cn (tsz Cn Bs) (iz a_t) a_pointX b_prefix (o n) m ↔ (lo ≤ n ∧ n < hi)) := fun n hn => by
      rw [hiff n hn]
      constructor
      · intro g j hj
        rw [hk' n hn j (by omega), m3 j hj, ← pky_cg hD3 s8.1 s6 (by omega)]; exact g j hj
      · intro g j hj
        rw [pky_cg hD3 s8.1 s6 (by omega), ← hk' n hn j (by omega), ← m3 j hj]; exact g j hj
    -- the reference answers the value of the row r
    have yd : ∀ post : Int32 → Prop, ∀ r, lo ≤ r → r < hi → (w = 0 → r = lo) → (w = 1 → r = hi - 1) → post (key (r * 6 + m)) → wpY_edge post ((nI D), (nI S), (nI A), (nI St), f_sealed, (nI P), (nI F), (nI Cn), (nI Bs), f_accepted, g_blamed, (nI m), a_limits, a_ops, a_factors, a_given, a_subs, a_cells, a_pointX, a_order, a_inD, a_t, b_prefix) (nI w) := by
      intro post r hr1 hr2 c0 c1 K
      refine br_f h0 (y_out (fun z => absurd z hn) (fun _ _ => br_t rfl (br_f (fun z => e2 ((nI_eq (b := 2) (by omega) (by omega)).mp z)) (br_f (fun z => e3 ((nI_eq (b := 3) (by omega) (by omega)).mp z)) (br_t (nI_lt (b := 4) e4 (by omega)) (br_t hyes (ye_run hw1 q1 hS s8 (mat_cg s6 s7) s3 hm ⟨o r, (ho r (by omega)).1, (hund r (by omega)).mpr ⟨hr1, hr2⟩⟩ (fun q hq u1 u2 => ?_))))))))
      obtain ⟨n, hn', rfl⟩ := hsur q hq
      obtain ⟨n1, n2⟩ := (hund n hn').mp u1
      have u3 := u2 (o r) (ho r (by omega)).1 ((hund r (by omega)).mpr ⟨hr1, hr2⟩)
      rw [pky_cg hD3 s8.1 s6 hm, pky_cg hD3 s8.1 s6 hm] at u3
      have ee : pky D F Cn (tsz Cn Bs) (iz a_matrix) a_pointX (o n) m = pky D F Cn (tsz Cn Bs) (iz a_matrix) a_pointX (o r) m := by
        rcases (show w = 0 ∨ w = 1 by omega) with x | x
        · have y := hmono r n hr1 (by have := c0 x; omega) n2
          have := u3.1 x
          omega
        · have y := hmono n r n1 (by have := c1 x; omega) hr2
          have := u3.2 x
          omega
      rw [pky_cg hD3 s8.1 s6 hm, ee, ← hk' r (by omega) m hm]
      exact K
    refine pk_eq w 0 (fun ew => ⟨vp_in_nI (by omega) (by omega), ?_⟩) (fun ew => ⟨vp_in_nI (by omega) (by omega), ?_⟩)
    · have e : a_prefixFrom (nI m).toNatClampNeg * 6 + nI m = nI (lo * 6 + m) := by rw [cm, f1, nx_m6, nI_add]
      refine ⟨vx_n _ e (by omega) (by omega), ?_⟩
      rw [cx_n _ e (by omega)]
      exact yd _ lo (Nat.le_refl _) hlt (fun _ => rfl) (fun g => by omega) ⟨rfl, zz_in hb (fun _ => hs2)⟩
    · have e : (a_prefixTo (nI m).toNatClampNeg - 1) * 6 + nI m = nI ((hi - 1) * 6 + m) := by rw [cm, f2, nx_s1 (by omega), nx_m6, nI_add]
      refine ⟨vx_n _ e (by omega) (by omega), ?_⟩
      rw [cx_n _ e (by omega)]
      exact yd _ (hi - 1) (by omega) (by omega) (fun g => by omega) (fun _ => rfl) ⟨rfl, zz_in hb (fun _ => hs2)⟩
  · have e : nI w - 4 = nI (w - 4) := pk_sub (b := 4) e4
    have m3 := hs0.2.2.2.2.2.2.2.2.2.2.2.2.1
    refine nm_r e (pk_lt (w - 4) m (fun g => ⟨vp_in_nI (by omega) (by omega), ?_⟩) (fun g => ?_))
    · refine br_f h0 (y_out (fun z => absurd z hn) (fun _ _ => br_t rfl (br_f (fun z => e2 ((nI_eq (b := 2) (by omega) (by omega)).mp z)) (br_f (fun z => e3 ((nI_eq (b := 3) (by omega) (by omega)).mp z)) (br_f (nI_nlt (b := 4) e4 (by omega)) ?_)))))
      rw [e]
      refine br_t (nI_lt g (by omega)) ⟨vp_in_nI (by omega) (by omega), ?_, zz_in hb hs⟩
      rw [nI_clamp (by omega), m3 _ g]
    · refine br_f h0 (y_out (fun z => absurd z hn) (fun _ _ => br_t rfl (br_f (fun z => e2 ((nI_eq (b := 2) (by omega) (by omega)).mp z)) (br_f (fun z => e3 ((nI_eq (b := 3) (by omega) (by omega)).mp z)) (br_f (nI_nlt (b := 4) e4 (by omega)) ?_)))))
      rw [e]
      exact br_f (nI_nlt g (by omega)) ⟨rfl, zz_in hb hs⟩
end
section
/-! visit -/

theorem wh_out {x : Int32} (h1 : x ≠ 1) (h2 : x ≠ 2) : x < 1 ∨ ¬ x ≤ 2 := by
  rw [Ne, ti_eq, show (1 : Int32).toInt = 1 from by decide] at h1
  rw [Ne, ti_eq, show (2 : Int32).toInt = 2 from by decide] at h2
  rw [ti_lt, ti_le, show (1 : Int32).toInt = 1 from by decide, show (2 : Int32).toInt = 2 from by decide]
  omega
theorem i_vc_visit {k : Nat} {u : SX} {v : SY} (I : i_Rel k u v) (hk : k + 5 ≤ 2563) (v1 : Int32) (v2 : Int32) (v3 : Int32) : wpX_visit (fun r u' => wpY_visit (fun r' v' => r' = r ∧ i_Rel (k + 5) u' v') v v1 v2 v3) u v1 v2 v3 := by
  refine zz_el (Q := fun u v => wpX_visit (fun r u' => wpY_visit (fun r' v' => r' = r ∧ i_Rel (k + 5) u' v') v v1 v2 v3) u v1 v2 v3) ?_ I
  intro D S A St P cnt F Cn Bs m f_sealed f_accepted f_blamed f_tunedFresh f_scanAt f_scanFirst f_scanCount f_scanSize f_scanPins f_rangeLow f_rangeHigh a_limits a_ops a_factors a_given a_subs a_pointX a_numberAt a_cells a_seen a_distances a_matrix a_prefix a_prefixFrom a_prefixTo a_tunedOrder a_tunedKey a_toX a_toZ a_sysCount a_hullLow a_hullHigh a_cursor a_limit a_pin a_echelon a_pivot a_sysCoef a_sysBound a_cand a_spanLow a_spanHigh g_blamed a_order a_inD a_t b_prefix hb hs
  by_cases h0 : f_sealed = 0
  · exact br_t h0 (br_t h0 ⟨rfl, zz_in hb hs⟩)
  have hs0 := hs h0
  have q1 := hb.1
  have hS := hb.2.1.2
  have hP := hs0.2.2.1.1
  refine br_f h0 ?_
  by_cases hwh : v1 = 1 ∨ v1 = 2
  · have hn1 : ¬ (v1 < 1 ∨ ¬ v1 ≤ 2) := by rcases hwh with rfl | rfl <;> exact nab (by decide) (by decide)
    have go : wX_visit_25 (fun r u' => wpY_visit (fun r' v' => r' = r ∧ i_Rel (k + 5) u' v') ((nI D), (nI S), (nI A), (nI St), f_sealed, (nI P), (nI F), (nI Cn), (nI Bs), f_accepted, g_blamed, (nI m), a_limits, a_ops, a_factors, a_given, a_subs, a_cells, a_pointX, a_order, a_inD, a_t, b_prefix) v1 v2 v3) v1 v2 v3 (nI D) (nI S) (nI A) (nI St) f_sealed (nI P) (nI cnt) (nI F) (nI Cn) (nI Bs) f_accepted f_blamed (nI m) f_tunedFresh f_rangeLow f_rangeHigh f_scanAt f_scanFirst f_scanCount f_scanSize f_scanPins a_limits a_ops a_factors a_given a_subs a_pointX a_numberAt a_cells a_seen a_distances a_matrix a_prefix a_prefixFrom a_prefixTo a_tunedOrder a_tunedKey a_toX a_toZ a_sysCoef a_sysBound a_sysCount a_cand a_hullLow a_hullHigh a_spanLow a_spanHigh a_cursor a_limit a_pin a_echelon a_pivot := by
      rcases in_or (x := v3) (N := D) (by omega) with ⟨l, hl, rfl⟩ | hbad
      · have yl := ok_y hl (by omega)
        have y1 : ∀ post : Int32 → SY → Prop, ((v1 = 2 → ((f_accepted = 0 → post (-1011) ((nI D), (nI S), (nI A), (nI St), f_sealed, (nI P), (nI F), (nI Cn), (nI Bs), f_accepted, g_blamed, (nI m), a_limits, a_ops, a_factors, a_given, a_subs, a_cells, a_pointX, a_order, a_inD, a_t, b_prefix)) ∧ (¬ f_accepted = 0 → wY_visit_56 post v1 v2 (nI l) (nI D) (nI S) (nI A) (nI St) f_sealed (nI P) (nI F) (nI Cn) (nI Bs) f_accepted g_blamed (nI m) a_limits a_ops a_factors a_given a_subs a_cells a_pointX a_order a_inD a_t b_prefix))) ∧ (¬ v1 = 2 → wY_visit_56 post v1 v2 (nI l) (nI D) (nI S) (nI A) (nI St) f_sealed (nI P) (nI F) (nI Cn) (nI Bs) f_accepted g_blamed (nI m) a_limits a_ops a_factors a_given a_subs a_cells a_pointX a_order a_inD a_t b_prefix)) → wpY_visit post ((nI D), (nI S), (nI A), (nI St), f_sealed, (nI P), (nI F), (nI Cn), (nI Bs), f_accepted, g_blamed, (nI m), a_limits, a_ops, a_factors, a_given, a_subs, a_cells, a_pointX, a_order, a_inD, a_t, b_prefix) v1 v2 (nI l) := fun post h => br_f h0 (y_out (fun z => absurd z hn1) (fun _ _ => br_t rfl (y_out (fun z => absurd z (nab yl.1 yl.2)) (fun _ _ => br_t rfl h))))
        refine br_f (nI_pos (by omega)) (br_t (nI_lt hl (by omega)) ?_)
        -- the index
        have idx : (∀ post : Int32 → SY → Prop, wY_visit_56 post v1 v2 (nI l) (nI D) (nI S) (nI A) (nI St) f_sealed (nI P) (nI F) (nI Cn) (nI Bs) f_accepted g_blamed (nI m) a_limits a_ops a_factors a_given a_subs a_cells a_pointX a_order a_inD a_t b_prefix → wpY_visit post ((nI D), (nI S), (nI A), (nI St), f_sealed, (nI P), (nI F), (nI Cn), (nI Bs), f_accepted, g_blamed, (nI m), a_limits, a_ops, a_factors, a_given, a_subs, a_cells, a_pointX, a_order, a_inD, a_t, b_prefix) v1 v2 (nI l)) → wX_visit_57 (fun r u' => wpY_visit (fun r' v' => r' = r ∧ i_Rel (k + 5) u' v') ((nI D), (nI S), (nI A), (nI St), f_sealed, (nI P), (nI F), (nI Cn), (nI Bs), f_accepted, g_blamed, (nI m), a_limits, a_ops, a_factors, a_given, a_subs, a_cells, a_pointX, a_order, a_inD, a_t, b_prefix) v1 v2 (nI l)) v1 v2 (nI l) (nI D) (nI S) (nI A) (nI St) f_sealed (nI P) (nI cnt) (nI F) (nI Cn) (nI Bs) f_accepted f_blamed (nI m) f_tunedFresh f_rangeLow f_rangeHigh f_scanAt f_scanFirst f_scanCount f_scanSize f_scanPins a_limits a_ops a_factors a_given a_subs a_pointX a_numberAt a_cells a_seen a_distances a_matrix a_prefix a_prefixFrom a_prefixTo a_tunedOrder a_tunedKey a_toX a_toZ a_sysCoef a_sysBound a_sysCount a_cand a_hullLow a_hullHigh a_spanLow a_spanHigh a_cursor a_limit a_pin a_echelon a_pivot := by
          intro y2
          rcases in_or (x := v2) (N := P) (by omega) with ⟨n, hn, rfl⟩ | hbad
          · have cn : (nI n).toNatClampNeg = n := nI_clamp (by omega)
            refine br_f (nI_pos (by omega)) (br_t (nI_lt hn (by omega)) (br_c (fun e => ?_) (fun e => ?_)))
            · subst e
              refine g_tun hb hs0 (fun fr ra rb q1' q2 q3 q4 q5 tx tz sc sb sk cd hl' hh sl sh cu li ord key hfr hs' => ?_)
              have hs2 := hs'
              obtain ⟨s1, s2, s3, s4, s5, s6, s7, s8, s9, s10, m1, m2, m3, m4⟩ := hs'
              obtain ⟨o, ho, hlex⟩ := s10 hfr
              have hon := (ho n hn).1
              have e' : nI (o n) * 3 + nI l = nI (o n * 3 + l) := by rw [nx_m3, nI_add]
              refine ⟨vp_in_nI (by omega) (by omega), nm_r (e' := nI (o n)) (by rw [cn]; exact (ho n hn).2.1) ⟨vx_n _ e' (by omega) (by omega), ?_⟩⟩
              rw [cx_n _ e' (by omega)]
              refine y2 _ (br_f (nI_pos (by omega)) (br_t (nI_lt hn (by omega)) (yg_tun (o := o) q1 hS s8 (mat_cg s6 s7) s3 (fun n hn => (ho n hn).1) (fun n n' a b => lex_cg (fun j hj => (pky_cg (by omega) s8.1 s6 hj).symm) (fun j hj => (pky_cg (by omega) s8.1 s6 hj).symm) (hlex n n' a b)) (fun od hod => ?_))))
              have e2 : od (nI n).toNatClampNeg * 3 + nI l = nI (o n * 3 + l) := by rw [cn, hod n hn]; exact e'
              refine ⟨vp_in_nI (by omega) (by omega), vx_n _ e2 (by omega) (by omega), ?_⟩
              rw [cx_n _ e2 (by omega)]
              exact ⟨rfl, zz_in hb (fun _ => hs2)⟩
            · have e1 : v1 = 1 := by rcases hwh with h | h; exact h; exact absurd h e
              subst e1
              have e' : nI n * 3 + nI l = nI (n * 3 + l) := by rw [nx_m3, nI_add]
              refine ⟨vx_n _ e' (by omega) (by omega), ?_⟩
              rw [cx_n _ e' (by omega)]
              refine y2 _ (br_f (nI_pos (by omega)) (br_t (nI_lt hn (by omega)) (yg_orig (by omega) (fun od hod => ?_))))
              have e2 : od (nI n).toNatClampNeg * 3 + nI l = nI (n * 3 + l) := by rw [cn, hod n hn]; exact e'
              refine ⟨vp_in_nI (by omega) (by omega), vx_n _ e2 (by omega) (by omega), ?_⟩
              rw [cx_n _ e2 (by omega)]
              exact ⟨rfl, zz_in hb hs⟩
          · have yb := y2 (fun r' v' => r' = -1012 ∧ i_Rel (k + 5) ((nI D), (nI S), (nI A), (nI St), f_sealed, (nI P), (nI cnt), (nI F), (nI Cn), (nI Bs), f_accepted, f_blamed, (nI m), f_tunedFresh, f_rangeLow, f_rangeHigh, f_scanAt, f_scanFirst, f_scanCount, f_scanSize, f_scanPins, a_limits, a_ops, a_factors, a_given, a_subs, a_pointX, a_numberAt, a_cells, a_seen, a_distances, a_matrix, a_prefix, a_prefixFrom, a_prefixTo, a_tunedOrder, a_tunedKey, a_toX, a_toZ, a_sysCoef, a_sysBound, a_sysCount, a_cand, a_hullLow, a_hullHigh, a_spanLow, a_spanHigh, a_cursor, a_limit, a_pin, a_echelon, a_pivot) v') (br_c (fun _ => ⟨rfl, zz_in hb hs⟩) (fun g => br_f (fun z => by rcases hbad with h | h; exact g h; exact h z) ⟨rfl, zz_in hb hs⟩))
            exact br_c (fun _ => yb) (fun g => br_f (fun z => by rcases hbad with h | h; exact g h; exact h z) yb)
        refine br_c (fun e => br_c (fun a => ?_) (fun a => ?_)) (fun e => ?_)
        · exact y1 _ (br_t e (br_t a ⟨rfl, zz_in hb hs⟩))
        · exact idx (fun post h => y1 post (br_t e (br_f a h)))
        · exact idx (fun post h => y1 post (br_f e h))
      · have yb : wpY_visit (fun r' v' => r' = -1001 ∧ i_Rel (k + 5) ((nI D), (nI S), (nI A), (nI St), f_sealed, (nI P), (nI cnt), (nI F), (nI Cn), (nI Bs), f_accepted, f_blamed, (nI m), f_tunedFresh, f_rangeLow, f_rangeHigh, f_scanAt, f_scanFirst, f_scanCount, f_scanSize, f_scanPins, a_limits, a_ops, a_factors, a_given, a_subs, a_pointX, a_numberAt, a_cells, a_seen, a_distances, a_matrix, a_prefix, a_prefixFrom, a_prefixTo, a_tunedOrder, a_tunedKey, a_toX, a_toZ, a_sysCoef, a_sysBound, a_sysCount, a_cand, a_hullLow, a_hullHigh, a_spanLow, a_spanHigh, a_cursor, a_limit, a_pin, a_echelon, a_pivot) v') ((nI D), (nI S), (nI A), (nI St), f_sealed, (nI P), (nI F), (nI Cn), (nI Bs), f_accepted, g_blamed, (nI m), a_limits, a_ops, a_factors, a_given, a_subs, a_cells, a_pointX, a_order, a_inD, a_t, b_prefix) v1 v2 v3 := br_f h0 (y_out (fun z => absurd z hn1) (fun _ _ => br_t rfl (y_out (fun _ => br_f (by decide) ⟨rfl, zz_in hb hs⟩) (fun g1 g2 => absurd (bad_y (by omega) hbad) (nab g1 g2)))))
        exact br_c (fun _ => yb) (fun g => br_f (fun z => by rcases hbad with h | h; exact g h; exact h z) yb)
    exact br_c (fun _ => go) (fun g => br_t (by rcases hwh with h | h; exact absurd h g; exact h) go)
  · have h1 : v1 ≠ 1 := fun h => hwh (Or.inl h)
    have h2 : v1 ≠ 2 := fun h => hwh (Or.inr h)
    exact br_f h1 (br_f h2 (br_f h0 (y_out (fun _ => br_f (by decide) ⟨rfl, zz_in hb hs⟩) (fun g1 g2 => absurd (wh_out h1 h2) (nab g1 g2)))))
end
section
/-! run -/
def cix (Sb : Nat → Int) (px : Nat → Int32) (w k n : Nat) : Nat := w * 225 + (plc Sb px k n).toNat
theorem cix_b {A : Nat} {Sb : Nat → Int} {px : Nat → Int32} {w k n : Nat} (hA : A ≤ 15) (hw : w ≤ 2) (h : insA A Sb px k n) : cix Sb px w k n < 675 := by
  unfold insA at h
  unfold cix plc
  omega
theorem cix_e {A : Nat} {Sb : Nat → Int} {px : Nat → Int32} {w k n : Nat} (hA : A ≤ 15) (h : insA A Sb px k n) : nI w * 225 + zI (plc Sb px k n) = nI (cix Sb px w k n) := by
  unfold insA at h
  have h0 : 0 ≤ plc Sb px k n := by unfold plc; omega
  rw [nx_m225, zI_nat h0, nI_add]; rfl
/-- what one statement writes -/
def exv (op f x u1 u2 : Int32) : Int32 := if op = 0 then f + x else if op = 1 then f * u1 + x else if op = 2 then f * u1 + u2 else u1 * u2 + f
def xvl (px : Nat → Int32) (p : Nat) : Int32 := px (p * 3) + 8 * px (p * 3 + 1) + 64 * px (p * 3 + 2)
def exS (ops fac px : Nat → Int32) (Sb : Nat → Int) (w p s : Nat) (cl : Nat → Int32) : Nat → Int32 :=
  upd cl (cix Sb px w (s * 3) p) (exv (ops s) (fac s) (xvl px p) (cl (cix Sb px w (s * 3 + 1) p)) (cl (cix Sb px w (s * 3 + 2) p)))
def exN (ops fac px : Nat → Int32) (Sb : Nat → Int) (w p : Nat) (cl : Nat → Int32) : Nat → Nat → Int32
  | 0 => cl
  | s + 1 => exS ops fac px Sb w p s (exN ops fac px Sb w p cl s)
def rnN (ops fac px : Nat → Int32) (Sb : Nat → Int) (w St : Nat) (pt : Nat → Nat) (cl : Nat → Int32) : Nat → Nat → Int32
  | 0 => cl
  | n + 1 => exN ops fac px Sb w (pt n) (rnN ops fac px Sb w St pt cl n) St
def cpy (w : Nat) (cl : Nat → Int32) : Nat → Nat → Int32
  | 0 => cl
  | i + 1 => upd (cpy w cl i) (w * 225 + i) (cpy w cl i i)
section
variable {A St P : Nat} {Sb : Nat → Int} {f_depth f_side f_sealed f_distanceCount f_bandFirst f_bandCount f_bandSize f_accepted f_blamed f_prefixLength f_tunedFresh f_scanAt f_scanFirst f_scanCount f_scanSize f_scanPins : Int32} {f_rangeLow f_rangeHigh : Int64} {a_limits a_ops a_factors a_given a_subs a_pointX a_numberAt a_cells a_seen a_distances a_matrix a_prefix a_prefixFrom a_prefixTo a_tunedOrder a_tunedKey a_toX a_toZ a_sysCount a_hullLow a_hullHigh a_cursor a_limit a_pin a_echelon a_pivot : Nat → Int32} {a_sysCoef a_sysBound a_cand a_spanLow a_spanHigh : Nat → Int64}
theorem xe_ci {post : Int32 → Prop} {w k n : Nat} (hA : A ≤ 15) (hk : k < 6) (hn : n < 64) (hs : ∀ j, j < 48 → a_subs j = zI (Sb j)) (hi : insA A Sb a_pointX k n) (K : post (nI (cix Sb a_pointX w k n))) : wpX_cellIndex post (f_depth, f_side, (nI A), (nI St), f_sealed, (nI P), f_distanceCount, f_bandFirst, f_bandCount, f_bandSize, f_accepted, f_blamed, f_prefixLength, f_tunedFresh, f_rangeLow, f_rangeHigh, f_scanAt, f_scanFirst, f_scanCount, f_scanSize, f_scanPins, a_limits, a_ops, a_factors, a_given, a_subs, a_pointX, a_numberAt, a_cells, a_seen, a_distances, a_matrix, a_prefix, a_prefixFrom, a_prefixTo, a_tunedOrder, a_tunedKey, a_toX, a_toZ, a_sysCoef, a_sysBound, a_sysCount, a_cand, a_hullLow, a_hullHigh, a_spanLow, a_spanHigh, a_cursor, a_limit, a_pin, a_echelon, a_pivot) (nI w) (nI k) (nI n) := by
  have e := cix_e (w := w) hA hi
  unfold insA at hi
  unfold wpX_cellIndex
  dsimp only
  rw [nx_m8, nx_a4]
  refine xv_at hs (by omega) (by omega) (xv_at hs (by omega) (by omega) ?_)
  rw [← e] at K
  unfold plc at K
  generalize av Sb (k * 8) (ptx a_pointX n) = a at *
  generalize av Sb (k * 8 + 4) (ptx a_pointX n) = b at *
  refine br_f (by rw [zI_0, zI_lt (by omega) (by omega) (by omega) (by omega)]; omega) (br_f (by rw [zI_n, zI_le (by omega) (by omega) (by omega) (by omega)]; omega) (br_f (by rw [zI_0, zI_lt (by omega) (by omega) (by omega) (by omega)]; omega) (br_t (by rw [zI_n, zI_lt (by omega) (by omega) (by omega) (by omega)]; omega) ?_)))
  rw [show nI w * 225 + zI a * 15 + zI b = nI w * 225 + zI (a * 15 + b) from by rw [show (15 : Int32) = zI 15 from by decide, zI_mul, Int32.add_assoc, zI_add]]
  exact K
theorem xe_exec {post : SX → Prop} {w p : Nat} (hw : w ≤ 2) (hA : A ≤ 15) (hSt : St ≤ 2) (hP : P ≤ 64) (hs : ∀ j, j < 48 → a_subs j = zI (Sb j)) (hops : ∀ s, s < St → a_ops s = 0 ∨ a_ops s = 1 ∨ a_ops s = 2 ∨ a_ops s = 3) (hin : acc_in A St P a_ops Sb a_pointX) (hp : p < P)
    (K : post (f_depth, f_side, (nI A), (nI St), f_sealed, (nI P), f_distanceCount, f_bandFirst, f_bandCount, f_bandSize, f_accepted, f_blamed, f_prefixLength, f_tunedFresh, f_rangeLow, f_rangeHigh, f_scanAt, f_scanFirst, f_scanCount, f_scanSize, f_scanPins, a_limits, a_ops, a_factors, a_given, a_subs, a_pointX, a_numberAt, (exN a_ops a_factors a_pointX Sb w p a_cells St), a_seen, a_distances, a_matrix, a_prefix, a_prefixFrom, a_prefixTo, a_tunedOrder, a_tunedKey, a_toX, a_toZ, a_sysCoef, a_sysBound, a_sysCount, a_cand, a_hullLow, a_hullHigh, a_spanLow, a_spanHigh, a_cursor, a_limit, a_pin, a_echelon, a_pivot)) : wpX_execute post (f_depth, f_side, (nI A), (nI St), f_sealed, (nI P), f_distanceCount, f_bandFirst, f_bandCount, f_bandSize, f_accepted, f_blamed, f_prefixLength, f_tunedFresh, f_rangeLow, f_rangeHigh, f_scanAt, f_scanFirst, f_scanCount, f_scanSize, f_scanPins, a_limits, a_ops, a_factors, a_given, a_subs, a_pointX, a_numberAt, a_cells, a_seen, a_distances, a_matrix, a_prefix, a_prefixFrom, a_prefixTo, a_tunedOrder, a_tunedKey, a_toX, a_toZ, a_sysCoef, a_sysBound, a_sysCount, a_cand, a_hullLow, a_hullHigh, a_spanLow, a_spanHigh, a_cursor, a_limit, a_pin, a_echelon, a_pivot) (nI w) (nI p) := by
  have e1 : nI p * 3 = nI (p * 3) := nx_m3 p
  have e2 : nI p * 3 + 1 = nI (p * 3 + 1) := by rw [nx_m3, nI_1]
  have e3 : nI p * 3 + 2 = nI (p * 3 + 2) := by rw [nx_m3, nx_a2]
  refine ⟨vx_n _ e1 (by omega) (by omega), vx_n _ e2 (by omega) (by omega), vx_n _ e3 (by omega) (by omega), nm_r (e' := xvl a_pointX p) (by rw [cx_n _ e1 (by omega), cx_n _ e2 (by omega), cx_n _ e3 (by omega)]; rfl) ?_⟩
  refine loop_0 (fun n i s => wX_execute_40 post (nI w) (nI p) (xvl a_pointX p) f_depth f_side (nI A) (nI St) f_sealed (nI P) f_distanceCount f_bandFirst f_bandCount f_bandSize f_accepted f_blamed f_prefixLength f_tunedFresh f_rangeLow f_rangeHigh f_scanAt f_scanFirst f_scanCount f_scanSize f_scanPins n (nI i) a_limits a_ops a_factors a_given a_subs a_pointX a_numberAt s a_seen a_distances a_matrix a_prefix a_prefixFrom a_prefixTo a_tunedOrder a_tunedKey a_toX a_toZ a_sysCoef a_sysBound a_sysCount a_cand a_hullLow a_hullHigh a_spanLow a_spanHigh a_cursor a_limit a_pin a_echelon a_pivot) (fun i s => s = exN a_ops a_factors a_pointX Sb w p a_cells i) St a_cells rfl ?_ ?_
  · intro n s hs'
    subst hs'
    exact br_t (nI_le (by omega) (by omega)) K
  · intro n i s hi hs' hK
    have ci : (nI i).toNatClampNeg = i := nI_clamp (by omega)
    have vi : vp_in (nI i) 2 := vp_in_nI (by omega) (by omega)
    have acc : ∀ a, a < 3 → 2 * a < nds (a_ops i) → insA A Sb a_pointX (i * 3 + a) p := fun a ha h => hin (i * 3 + a) (by omega) ⟨by omega, by rw [show (i * 3 + a) % 3 = a by omega, show (i * 3 + a) / 3 = i by omega]; exact h⟩ p hp
    have n0 : 0 < nds (a_ops i) := by unfold nds; split; omega; split <;> omega
    have i0 : insA A Sb a_pointX (i * 3) p := acc 0 (by omega) n0
    have fin : ∀ x8 : Int32, x8 = exv (a_ops i) (a_factors i) (xvl a_pointX p) (s (cix Sb a_pointX w (i * 3 + 1) p)) (s (cix Sb a_pointX w (i * 3 + 2) p)) → wX_execute_208 post (wX_execute_40 post (nI w) (nI p) (xvl a_pointX p) f_depth f_side (nI A) (nI St) f_sealed (nI P) f_distanceCount f_bandFirst f_bandCount f_bandSize f_accepted f_blamed f_prefixLength f_tunedFresh f_rangeLow f_rangeHigh f_scanAt f_scanFirst f_scanCount f_scanSize f_scanPins n) (nI w) (nI p) (xvl a_pointX p) (nI i) x8 f_depth f_side (nI A) (nI St) f_sealed (nI P) f_distanceCount f_bandFirst f_bandCount f_bandSize f_accepted f_blamed f_prefixLength f_tunedFresh f_rangeLow f_rangeHigh f_scanAt f_scanFirst f_scanCount f_scanSize f_scanPins a_limits a_ops a_factors a_given a_subs a_pointX a_numberAt s a_seen a_distances a_matrix a_prefix a_prefixFrom a_prefixTo a_tunedOrder a_tunedKey a_toX a_toZ a_sysCoef a_sysBound a_sysCount a_cand a_hullLow a_hullHigh a_spanLow a_spanHigh a_cursor a_limit a_pin a_echelon a_pivot := by
      intro x8 h8
      unfold wX_execute_208
      rw [nx_m3]
      refine xe_ci hA (by omega) (by omega) hs i0 ⟨vp_in_nI (cix_b hA hw i0) (by omega), nm_r (e' := upd s (cix Sb a_pointX w (i * 3) p) x8) (by rw [nI_clamp (by have := cix_b hA hw i0; omega)]) (nm_r (nI_1 i) (hK _ ?_))⟩
      rw [h8, hs']; rfl
    refine br_f (nI_ge hi (by omega)) ⟨vi, nm_r (e' := a_ops i) (by rw [ci]) ?_⟩
    rcases hops i hi with h | h | h | h
    · refine br_t h (br_f (by rw [h]; decide) (br_f (by rw [h]; decide) (br_t h ⟨vi, nm_r rfl (fin _ ?_)⟩)))
      rw [ci, h]; rfl
    · have i1 := acc 1 (by omega) (by rw [h]; decide)
      refine br_f (by rw [h]; decide) ?_
      rw [nx_m3, nI_1]
      refine xe_ci hA (by omega) (by omega) hs i1 ⟨vp_in_nI (cix_b hA hw i1) (by omega), nm_r (e' := s (cix Sb a_pointX w (i * 3 + 1) p)) (by rw [nI_clamp (by have := cix_b hA hw i1; omega)]) ?_⟩
      refine br_f (by rw [h]; decide) (br_f (by rw [h]; decide) (br_f (by rw [h]; decide) (br_t h ⟨vi, nm_r rfl (fin _ ?_)⟩)))
      rw [ci, h]; rfl
    · have i1 := acc 1 (by omega) (by rw [h]; decide)
      have i2 := acc 2 (by omega) (by rw [h]; decide)
      refine br_f (by rw [h]; decide) ?_
      rw [nx_m3, nI_1]
      refine xe_ci hA (by omega) (by omega) hs i1 ⟨vp_in_nI (cix_b hA hw i1) (by omega), nm_r (e' := s (cix Sb a_pointX w (i * 3 + 1) p)) (by rw [nI_clamp (by have := cix_b hA hw i1; omega)]) ?_⟩
      refine br_t h ?_
      unfold wX_execute_104
      rw [nx_m3, nx_a2]
      refine xe_ci hA (by omega) (by omega) hs i2 ⟨vp_in_nI (cix_b hA hw i2) (by omega), nm_r (e' := s (cix Sb a_pointX w (i * 3 + 2) p)) (by rw [nI_clamp (by have := cix_b hA hw i2; omega)]) ?_⟩
      refine br_f (by rw [h]; decide) (br_f (by rw [h]; decide) (br_t h ⟨vi, nm_r rfl (fin _ ?_)⟩))
      rw [ci, h]; rfl
    · have i1 := acc 1 (by omega) (by rw [h]; decide)
      have i2 := acc 2 (by omega) (by rw [h]; decide)
      refine br_f (by rw [h]; decide) ?_
      rw [nx_m3, nI_1]
      refine xe_ci hA (by omega) (by omega) hs i1 ⟨vp_in_nI (cix_b hA hw i1) (by omega), nm_r (e' := s (cix Sb a_pointX w (i * 3 + 1) p)) (by rw [nI_clamp (by have := cix_b hA hw i1; omega)]) ?_⟩
      refine br_f (by rw [h]; decide) (br_t h ?_)
      unfold wX_execute_104
      rw [nx_m3, nx_a2]
      refine xe_ci hA (by omega) (by omega) hs i2 ⟨vp_in_nI (cix_b hA hw i2) (by omega), nm_r (e' := s (cix Sb a_pointX w (i * 3 + 2) p)) (by rw [nI_clamp (by have := cix_b hA hw i2; omega)]) ?_⟩
      refine br_f (by rw [h]; decide) (br_f (by rw [h]; decide) (br_f (by rw [h]; decide) ⟨vi, nm_r rfl (fin _ ?_)⟩))
      rw [ci, h]; rfl
theorem xe_run {post : Int32 → SX → Prop} {w N : Nat} {pt : Nat → Nat} (hw : w = 1 ∨ w = 2) (hA : A ≤ 15) (hSt : St ≤ 2) (hP : P ≤ 64) (hs : ∀ j, j < 48 → a_subs j = zI (Sb j)) (hops : ∀ s, s < St → a_ops s = 0 ∨ a_ops s = 1 ∨ a_ops s = 2 ∨ a_ops s = 3) (hin : acc_in A St P a_ops Sb a_pointX) (hN : N ≤ P)
    (hpt : ∀ n, n < P → pt n < P ∧ (w = 2 → a_tunedOrder n = nI (pt n)) ∧ (w = 1 → pt n = n))
    (K : post (nI N) (f_depth, f_side, (nI A), (nI St), f_sealed, (nI P), f_distanceCount, f_bandFirst, f_bandCount, f_bandSize, f_accepted, f_blamed, f_prefixLength, f_tunedFresh, f_rangeLow, f_rangeHigh, f_scanAt, f_scanFirst, f_scanCount, f_scanSize, f_scanPins, a_limits, a_ops, a_factors, a_given, a_subs, a_pointX, a_numberAt, (rnN a_ops a_factors a_pointX Sb w St pt a_cells N), a_seen, a_distances, a_matrix, a_prefix, a_prefixFrom, a_prefixTo, a_tunedOrder, a_tunedKey, a_toX, a_toZ, a_sysCoef, a_sysBound, a_sysCount, a_cand, a_hullLow, a_hullHigh, a_spanLow, a_spanHigh, a_cursor, a_limit, a_pin, a_echelon, a_pivot)) : ∃ n111 : Nat, wX_run_111 post (nI w) (nI N) n111 0 f_depth f_side (nI A) (nI St) f_sealed (nI P) f_distanceCount f_bandFirst f_bandCount f_bandSize f_accepted f_blamed f_prefixLength f_tunedFresh f_rangeLow f_rangeHigh f_scanAt f_scanFirst f_scanCount f_scanSize f_scanPins a_limits a_ops a_factors a_given a_subs a_pointX a_numberAt a_cells a_seen a_distances a_matrix a_prefix a_prefixFrom a_prefixTo a_tunedOrder a_tunedKey a_toX a_toZ a_sysCoef a_sysBound a_sysCount a_cand a_hullLow a_hullHigh a_spanLow a_spanHigh a_cursor a_limit a_pin a_echelon a_pivot := by
  refine loop_0 (fun n i s => wX_run_111 post (nI w) (nI N) n (nI i) f_depth f_side (nI A) (nI St) f_sealed (nI P) f_distanceCount f_bandFirst f_bandCount f_bandSize f_accepted f_blamed f_prefixLength f_tunedFresh f_rangeLow f_rangeHigh f_scanAt f_scanFirst f_scanCount f_scanSize f_scanPins a_limits a_ops a_factors a_given a_subs a_pointX a_numberAt s a_seen a_distances a_matrix a_prefix a_prefixFrom a_prefixTo a_tunedOrder a_tunedKey a_toX a_toZ a_sysCoef a_sysBound a_sysCount a_cand a_hullLow a_hullHigh a_spanLow a_spanHigh a_cursor a_limit a_pin a_echelon a_pivot) (fun i s => s = rnN a_ops a_factors a_pointX Sb w St pt a_cells i) N a_cells rfl ?_ ?_
  · intro n s hs'
    subst hs'
    exact br_t (nI_le (by omega) (by omega)) K
  · intro n i s hi hs' hK
    obtain ⟨p1, p2, p3⟩ := hpt i (by omega)
    have ex : wX_run_134 post (wX_run_111 post (nI w) (nI N) n) (nI w) (nI N) (nI i) (nI (pt i)) f_depth f_side (nI A) (nI St) f_sealed (nI P) f_distanceCount f_bandFirst f_bandCount f_bandSize f_accepted f_blamed f_prefixLength f_tunedFresh f_rangeLow f_rangeHigh f_scanAt f_scanFirst f_scanCount f_scanSize f_scanPins a_limits a_ops a_factors a_given a_subs a_pointX a_numberAt s a_seen a_distances a_matrix a_prefix a_prefixFrom a_prefixTo a_tunedOrder a_tunedKey a_toX a_toZ a_sysCoef a_sysBound a_sysCount a_cand a_hullLow a_hullHigh a_spanLow a_spanHigh a_cursor a_limit a_pin a_echelon a_pivot := by
      refine xe_exec (by omega) hA hSt hP hs hops hin p1 (nm_r (nI_1 i) (hK _ ?_))
      rw [hs']; rfl
    refine br_f (nI_ge hi (by omega)) (pk_eq w 2 (fun e => ⟨vp_in_nI (by omega) (by omega), ?_⟩) (fun e => ?_))
    · rw [nI_clamp (by omega), p2 e]; exact ex
    · have := p3 (by omega)
      rw [this] at ex; exact ex
end
end
section
/-! run: the reference, and both -/
section
variable {A St P : Nat} {Sb : Nat → Int} {f_depth f_side f_sealed f_bandFirst f_bandCount f_bandSize f_accepted f_blamed f_prefixLength : Int32} {a_bounds a_ops a_factors a_given a_subs a_cells a_xs a_order a_inD a_t a_prefix : Nat → Int32}
theorem ye_exec {post : SY → Prop} {w p s : Nat} (hw : w ≤ 2) (hA : A ≤ 15) (hSt : St ≤ 2) (hP : P ≤ 64) (hs : ∀ j, j < 48 → a_subs j = zI (Sb j)) (hops : ∀ s, s < St → a_ops s = 0 ∨ a_ops s = 1 ∨ a_ops s = 2 ∨ a_ops s = 3) (hin : acc_in A St P a_ops Sb a_xs) (hp : p < P) (hss : s < St)
    (K : post (f_depth, f_side, (nI A), (nI St), f_sealed, (nI P), f_bandFirst, f_bandCount, f_bandSize, f_accepted, f_blamed, f_prefixLength, a_bounds, a_ops, a_factors, a_given, a_subs, (exS a_ops a_factors a_xs Sb w p s a_cells), a_xs, a_order, a_inD, a_t, a_prefix)) : wpY_execute post (f_depth, f_side, (nI A), (nI St), f_sealed, (nI P), f_bandFirst, f_bandCount, f_bandSize, f_accepted, f_blamed, f_prefixLength, a_bounds, a_ops, a_factors, a_given, a_subs, a_cells, a_xs, a_order, a_inD, a_t, a_prefix) (nI w) (nI s) (nI p) := by
  have e1 : nI p * 3 = nI (p * 3) := nx_m3 p
  have e2 : nI p * 3 + 1 = nI (p * 3 + 1) := by rw [nx_m3, nI_1]
  have e3 : nI p * 3 + 2 = nI (p * 3 + 2) := by rw [nx_m3, nx_a2]
  have ci : (nI s).toNatClampNeg = s := nI_clamp (by omega)
  have vi : vp_in (nI s) 2 := vp_in_nI (by omega) (by omega)
  have acc : ∀ a, a < 3 → 2 * a < nds (a_ops s) → insA A Sb a_xs (s * 3 + a) p := fun a ha h => hin (s * 3 + a) (by omega) ⟨by omega, by rw [show (s * 3 + a) % 3 = a by omega, show (s * 3 + a) / 3 = s by omega]; exact h⟩ p hp
  have n0 : 0 < nds (a_ops s) := by unfold nds; split; omega; split <;> omega
  have i0 : insA A Sb a_xs (s * 3) p := acc 0 (by omega) n0
  have fin : ∀ x8 : Int32, x8 = exv (a_ops s) (a_factors s) (xvl a_xs p) (a_cells (cix Sb a_xs w (s * 3 + 1) p)) (a_cells (cix Sb a_xs w (s * 3 + 2) p)) → wY_execute_173 post (nI w) (nI s) (nI p) x8 f_depth f_side (nI A) (nI St) f_sealed (nI P) f_bandFirst f_bandCount f_bandSize f_accepted f_blamed f_prefixLength a_bounds a_ops a_factors a_given a_subs a_cells a_xs a_order a_inD a_t a_prefix := by
    intro x8 h8
    have e0 := cix_e (w := w) hA i0
    unfold wY_execute_173
    refine yv_place (a := 0) hs (by omega) (by omega) (by omega) ⟨vx_n _ e0 (cix_b hA hw i0) (by omega), nm_r (e' := upd a_cells (cix Sb a_xs w (s * 3) p) x8) (by rw [show s * 3 + 0 = s * 3 from rfl, cx_n _ e0 (by have := cix_b hA hw i0; omega)]) ?_⟩
    rw [h8]; exact K
  refine ⟨vi, nm_r (e' := a_ops s) (by rw [ci]) ⟨vi, nm_r (e' := a_factors s) (by rw [ci]) ⟨vx_n _ e1 (by omega) (by omega), vx_n _ e2 (by omega) (by omega), vx_n _ e3 (by omega) (by omega), nm_r (e' := xvl a_xs p) (by rw [cx_n _ e1 (by omega), cx_n _ e2 (by omega), cx_n _ e3 (by omega)]; rfl) ?_⟩⟩⟩
  rcases hops s hss with h | h | h | h
  · refine br_t h (br_t h (br_t h (fin _ ?_)))
    rw [h]; rfl
  · have i1 := acc 1 (by omega) (by rw [h]; decide)
    have e1' := cix_e (w := w) hA i1
    refine br_f (by rw [h]; decide) (yv_place (a := 1) hs (by omega) (by omega) (by omega) ⟨vx_n _ e1' (cix_b hA hw i1) (by omega), ?_⟩)
    rw [cx_n _ e1' (by have := cix_b hA hw i1; omega)]
    refine br_f (by rw [h]; decide) (br_t h (br_f (by rw [h]; decide) (br_t h (fin _ ?_))))
    rw [h]; rfl
  · have i1 := acc 1 (by omega) (by rw [h]; decide)
    have i2 := acc 2 (by omega) (by rw [h]; decide)
    have e1' := cix_e (w := w) hA i1
    have e2' := cix_e (w := w) hA i2
    refine br_f (by rw [h]; decide) (yv_place (a := 1) hs (by omega) (by omega) (by omega) ⟨vx_n _ e1' (cix_b hA hw i1) (by omega), ?_⟩)
    rw [cx_n _ e1' (by have := cix_b hA hw i1; omega)]
    refine br_f (by rw [h]; decide) (br_f (by rw [h]; decide) (yv_place (a := 2) hs (by omega) (by omega) (by omega) ⟨vx_n _ e2' (cix_b hA hw i2) (by omega), ?_⟩))
    rw [cx_n _ e2' (by have := cix_b hA hw i2; omega)]
    refine br_f (by rw [h]; decide) (br_f (by rw [h]; decide) (br_t h (fin _ ?_)))
    rw [h]; rfl
  · have i1 := acc 1 (by omega) (by rw [h]; decide)
    have i2 := acc 2 (by omega) (by rw [h]; decide)
    have e1' := cix_e (w := w) hA i1
    have e2' := cix_e (w := w) hA i2
    refine br_f (by rw [h]; decide) (yv_place (a := 1) hs (by omega) (by omega) (by omega) ⟨vx_n _ e1' (cix_b hA hw i1) (by omega), ?_⟩)
    rw [cx_n _ e1' (by have := cix_b hA hw i1; omega)]
    refine br_f (by rw [h]; decide) (br_f (by rw [h]; decide) (yv_place (a := 2) hs (by omega) (by omega) (by omega) ⟨vx_n _ e2' (cix_b hA hw i2) (by omega), ?_⟩))
    rw [cx_n _ e2' (by have := cix_b hA hw i2; omega)]
    refine br_f (by rw [h]; decide) (br_f (by rw [h]; decide) (br_f (by rw [h]; decide) (fin _ ?_)))
    rw [h]; rfl
theorem ye_all {post : Int32 → SY → Prop} {w N : Nat} {pt : Nat → Nat} (hw : w ≤ 2) (hA : A ≤ 15) (hSt : St ≤ 2) (hP : P ≤ 64) (hs : ∀ j, j < 48 → a_subs j = zI (Sb j)) (hops : ∀ s, s < St → a_ops s = 0 ∨ a_ops s = 1 ∨ a_ops s = 2 ∨ a_ops s = 3) (hin : acc_in A St P a_ops Sb a_xs) (hN : N ≤ P)
    (hpt : ∀ n, n < P → pt n < P ∧ a_order n = nI (pt n))
    (K : post (nI N) (f_depth, f_side, (nI A), (nI St), f_sealed, (nI P), f_bandFirst, f_bandCount, f_bandSize, f_accepted, f_blamed, f_prefixLength, a_bounds, a_ops, a_factors, a_given, a_subs, (rnN a_ops a_factors a_xs Sb w St pt a_cells N), a_xs, a_order, a_inD, a_t, a_prefix)) : ∃ n107 : Nat, wY_run_107 post (nI w) (nI N) n107 0 f_depth f_side (nI A) (nI St) f_sealed (nI P) f_bandFirst f_bandCount f_bandSize f_accepted f_blamed f_prefixLength a_bounds a_ops a_factors a_given a_subs a_cells a_xs a_order a_inD a_t a_prefix := by
  refine loop_0 (fun n i s => wY_run_107 post (nI w) (nI N) n (nI i) f_depth f_side (nI A) (nI St) f_sealed (nI P) f_bandFirst f_bandCount f_bandSize f_accepted f_blamed f_prefixLength a_bounds a_ops a_factors a_given a_subs s a_xs a_order a_inD a_t a_prefix) (fun i s => s = rnN a_ops a_factors a_xs Sb w St pt a_cells i) N a_cells rfl ?_ ?_
  · intro n s hs'
    subst hs'
    exact br_t (nI_le (by omega) (by omega)) K
  · intro n i s hi hs' hK
    obtain ⟨p1, p2⟩ := hpt i (by omega)
    refine br_f (nI_ge hi (by omega)) ?_
    refine loop_0 (fun n' j c => wY_run_116 post (wY_run_107 post (nI w) (nI N) n) (nI w) (nI N) (nI i) n' (nI j) f_depth f_side (nI A) (nI St) f_sealed (nI P) f_bandFirst f_bandCount f_bandSize f_accepted f_blamed f_prefixLength a_bounds a_ops a_factors a_given a_subs c a_xs a_order a_inD a_t a_prefix) (fun j c => c = exN a_ops a_factors a_xs Sb w (pt i) s j) St s rfl ?_ ?_
    · intro n' c hc
      refine br_t (nI_le (by omega) (by omega)) (nm_r (nI_1 i) (hK _ ?_))
      rw [hc, hs']; rfl
    · intro n' j c hj hc hK'
      refine br_f (nI_ge hj (by omega)) ⟨vp_in_nI (by omega) (by omega), ?_⟩
      rw [nI_clamp (by omega), p2]
      refine ye_exec hw hA hSt hP hs hops hin p1 hj (nm_r (nI_1 j) (hK' _ ?_))
      rw [hc]; rfl
end

theorem i_vc_run {k : Nat} {u : SX} {v : SY} (I : i_Rel k u v) (hk : k + 5 ≤ 2563) (v1 : Int32) (v2 : Int32) : wpX_run (fun r u' => wpY_run (fun r' v' => r' = r ∧ i_Rel (k + 5) u' v') v v1 v2) u v1 v2 := by
  refine zz_el (Q := fun u v => wpX_run (fun r u' => wpY_run (fun r' v' => r' = r ∧ i_Rel (k + 5) u' v') v v1 v2) u v1 v2) ?_ I
  intro D S A St P cnt F Cn Bs m f_sealed f_accepted f_blamed f_tunedFresh f_scanAt f_scanFirst f_scanCount f_scanSize f_scanPins f_rangeLow f_rangeHigh a_limits a_ops a_factors a_given a_subs a_pointX a_numberAt a_cells a_seen a_distances a_matrix a_prefix a_prefixFrom a_prefixTo a_tunedOrder a_tunedKey a_toX a_toZ a_sysCount a_hullLow a_hullHigh a_cursor a_limit a_pin a_echelon a_pivot a_sysCoef a_sysBound a_cand a_spanLow a_spanHigh g_blamed a_order a_inD a_t b_prefix hb hs
  by_cases h0 : f_sealed = 0
  · exact br_t h0 (br_t h0 ⟨rfl, zz_in hb hs⟩)
  have hs0 := hs h0
  have q1 := hb.1
  have hS := hb.2.1.2
  have hA := hb.2.2.1.2
  have hSt := hb.2.2.2.1
  have hP := hs0.2.2.1.1
  have hsb : ∀ j, j < 48 → a_subs j = zI (iz a_subs j) := fun j _ => iz_z _ j
  have hops : ∀ s, s < St → a_ops s = 0 ∨ a_ops s = 1 ∨ a_ops s = 2 ∨ a_ops s = 3 := fun s h => by
    obtain ⟨g, _, _, _, h'⟩ := hb.2.2.2.2.2.2.2.1 s h
    exact h'
  have hin := hs0.2.2.2.1
  refine br_f h0 ?_
  by_cases hwh : v1 = 1 ∨ v1 = 2
  · have hn1 : ¬ (v1 < 1 ∨ ¬ v1 ≤ 2) := by rcases hwh with rfl | rfl <;> exact nab (by decide) (by decide)
    have go : wX_run_25 (fun r u' => wpY_run (fun r' v' => r' = r ∧ i_Rel (k + 5) u' v') ((nI D), (nI S), (nI A), (nI St), f_sealed, (nI P), (nI F), (nI Cn), (nI Bs), f_accepted, g_blamed, (nI m), a_limits, a_ops, a_factors, a_given, a_subs, a_cells, a_pointX, a_order, a_inD, a_t, b_prefix) v1 v2) v1 v2 (nI D) (nI S) (nI A) (nI St) f_sealed (nI P) (nI cnt) (nI F) (nI Cn) (nI Bs) f_accepted f_blamed (nI m) f_tunedFresh f_rangeLow f_rangeHigh f_scanAt f_scanFirst f_scanCount f_scanSize f_scanPins a_limits a_ops a_factors a_given a_subs a_pointX a_numberAt a_cells a_seen a_distances a_matrix a_prefix a_prefixFrom a_prefixTo a_tunedOrder a_tunedKey a_toX a_toZ a_sysCoef a_sysBound a_sysCount a_cand a_hullLow a_hullHigh a_spanLow a_spanHigh a_cursor a_limit a_pin a_echelon a_pivot := by
      refine br_c (fun h2 => ?_) (fun h2 => br_f h0 (y_out (fun z => absurd z hn1) (fun _ _ => br_t rfl (br_f h2 ⟨rfl, zz_in hb hs⟩))))
      have y1 : ∀ post : Int32 → SY → Prop, ((v1 = 2 → ((f_accepted = 0 → post (-1011) ((nI D), (nI S), (nI A), (nI St), f_sealed, (nI P), (nI F), (nI Cn), (nI Bs), f_accepted, g_blamed, (nI m), a_limits, a_ops, a_factors, a_given, a_subs, a_cells, a_pointX, a_order, a_inD, a_t, b_prefix)) ∧ (¬ f_accepted = 0 → wY_run_45 post v1 v2 (nI D) (nI S) (nI A) (nI St) f_sealed (nI P) (nI F) (nI Cn) (nI Bs) f_accepted g_blamed (nI m) a_limits a_ops a_factors a_given a_subs a_cells a_pointX a_order a_inD a_t b_prefix))) ∧ (¬ v1 = 2 → wY_run_45 post v1 v2 (nI D) (nI S) (nI A) (nI St) f_sealed (nI P) (nI F) (nI Cn) (nI Bs) f_accepted g_blamed (nI m) a_limits a_ops a_factors a_given a_subs a_cells a_pointX a_order a_inD a_t b_prefix)) → wpY_run post ((nI D), (nI S), (nI A), (nI St), f_sealed, (nI P), (nI F), (nI Cn), (nI Bs), f_accepted, g_blamed, (nI m), a_limits, a_ops, a_factors, a_given, a_subs, a_cells, a_pointX, a_order, a_inD, a_t, b_prefix) v1 v2 := fun post h => br_f h0 (y_out (fun z => absurd z hn1) (fun _ _ => br_t rfl (br_t h2 h)))
      -- how many points
      obtain ⟨N, hN, hx, hy⟩ : ∃ N, N ≤ P ∧ (∀ Q : Int32 → Prop, Q (nI N) → ((nI P ≤ v2 → Q (nI P)) ∧ (¬ nI P ≤ v2 → Q v2))) ∧ True := by
        by_cases g : nI P ≤ v2
        · exact ⟨P, Nat.le_refl _, fun Q h => br_t g h, trivial⟩
        · obtain ⟨q, hq, rfl⟩ := nI_out (N := P) (by omega) (Int32.not_lt.mpr h2) (Int32.not_le.mp g)
          exact ⟨q, by omega, fun Q h => br_f g h, trivial⟩
      -- the component's copy and walk
      have xall : ∀ (w : Nat) (pt : Nat → Nat) (post : Int32 → SX → Prop), (w = 1 ∨ w = 2) → ∀ (fr : Int32) (ra rb : Int64) (q1 q2 q3 q4 q5 : Int32) (tx tz : Nat → Int32) (sc sb : Nat → Int64) (sk : Nat → Int32) (cd : Nat → Int64) (hl hh : Nat → Int32) (sl sh : Nat → Int64) (cu li ord key : Nat → Int32),
          (∀ n, n < P → pt n < P ∧ (w = 2 → ord n = nI (pt n)) ∧ (w = 1 → pt n = n)) →
          post (nI N) ((nI D), (nI S), (nI A), (nI St), f_sealed, (nI P), (nI cnt), (nI F), (nI Cn), (nI Bs), f_accepted, f_blamed, (nI m), fr, ra, rb, q1, q2, q3, q4, q5, a_limits, a_ops, a_factors, a_given, a_subs, a_pointX, a_numberAt, (rnN a_ops a_factors a_pointX (iz a_subs) w St pt (cpy w a_cells 225) N), a_seen, a_distances, a_matrix, a_prefix, a_prefixFrom, a_prefixTo, ord, key, tx, tz, sc, sb, sk, cd, hl, hh, sl, sh, cu, li, a_pin, a_echelon, a_pivot) →
          ∃ n60 : Nat, wX_run_60 post (nI w) v2 (nI D) (nI S) (nI A) (nI St) f_sealed (nI P) (nI cnt) (nI F) (nI Cn) (nI Bs) f_accepted f_blamed (nI m) fr ra rb q1 q2 q3 q4 q5 n60 0 a_limits a_ops a_factors a_given a_subs a_pointX a_numberAt a_cells a_seen a_distances a_matrix a_prefix a_prefixFrom a_prefixTo ord key tx tz sc sb sk cd hl hh sl sh cu li a_pin a_echelon a_pivot := by
        intro w pt post hw fr ra rb q1 q2 q3 q4 q5 tx tz sc sb sk cd hl hh sl sh cu li ord key hpt K
        refine loop_0 (fun n i s => wX_run_60 post (nI w) v2 (nI D) (nI S) (nI A) (nI St) f_sealed (nI P) (nI cnt) (nI F) (nI Cn) (nI Bs) f_accepted f_blamed (nI m) fr ra rb q1 q2 q3 q4 q5 n (nI i) a_limits a_ops a_factors a_given a_subs a_pointX a_numberAt s a_seen a_distances a_matrix a_prefix a_prefixFrom a_prefixTo ord key tx tz sc sb sk cd hl hh sl sh cu li a_pin a_echelon a_pivot) (fun i s => s = cpy w a_cells i) 225 a_cells rfl ?_ ?_
        · intro n s hs'
          subst hs'
          refine br_t (by decide) (hx (fun z => ∃ n111 : Nat, wX_run_111 post (nI w) z n111 0 (nI D) (nI S) (nI A) (nI St) f_sealed (nI P) (nI cnt) (nI F) (nI Cn) (nI Bs) f_accepted f_blamed (nI m) fr ra rb q1 q2 q3 q4 q5 a_limits a_ops a_factors a_given a_subs a_pointX a_numberAt (cpy w a_cells 225) a_seen a_distances a_matrix a_prefix a_prefixFrom a_prefixTo ord key tx tz sc sb sk cd hl hh sl sh cu li a_pin a_echelon a_pivot) ?_)
          exact xe_run hw hA hSt hP.2 hsb hops hin hN hpt K
        · intro n i s hi hs' hK
          have e : nI w * 225 + nI i = nI (w * 225 + i) := by rw [nx_m225, nI_add]
          refine br_f (nI_ge (b := 225) hi (by omega)) ⟨vp_in_nI (by omega) (by omega), vx_n _ e (by omega) (by omega), nm_r (e' := upd s (w * 225 + i) (s i)) (by rw [cx_n _ e (by omega), nI_clamp (by omega)]) (nm_r (nI_1 i) (hK _ ?_))⟩
          rw [hs']; rfl
      -- the reference's
      have yall : ∀ (w : Nat) (pt : Nat → Nat) (post : Int32 → SY → Prop), (w = 1 ∨ w = 2) → (∀ n, n < P → pt n < P) →
          (∀ (cl : Nat → Int32) (post' : SY → Prop), (∀ od : Nat → Int32, (∀ n, n < P → od n = nI (pt n)) → post' ((nI D), (nI S), (nI A), (nI St), f_sealed, (nI P), (nI F), (nI Cn), (nI Bs), f_accepted, g_blamed, (nI m), a_limits, a_ops, a_factors, a_given, a_subs, cl, a_pointX, od, a_inD, a_t, b_prefix)) → wpY_arrange post' ((nI D), (nI S), (nI A), (nI St), f_sealed, (nI P), (nI F), (nI Cn), (nI Bs), f_accepted, g_blamed, (nI m), a_limits, a_ops, a_factors, a_given, a_subs, cl, a_pointX, a_order, a_inD, a_t, b_prefix) (nI w)) →
          (∀ od : Nat → Int32, post (nI N) ((nI D), (nI S), (nI A), (nI St), f_sealed, (nI P), (nI F), (nI Cn), (nI Bs), f_accepted, g_blamed, (nI m), a_limits, a_ops, a_factors, a_given, a_subs, (rnN a_ops a_factors a_pointX (iz a_subs) w St pt (cpy w a_cells 225) N), a_pointX, od, a_inD, a_t, b_prefix)) → wY_run_45 post (nI w) v2 (nI D) (nI S) (nI A) (nI St) f_sealed (nI P) (nI F) (nI Cn) (nI Bs) f_accepted g_blamed (nI m) a_limits a_ops a_factors a_given a_subs a_cells a_pointX a_order a_inD a_t b_prefix := by
        intro w pt post hw hpt har K
        refine hx (fun z => ∃ n65 : Nat, wY_run_65 post (nI w) z (nI D) (nI S) (nI A) (nI St) f_sealed (nI P) (nI F) (nI Cn) (nI Bs) f_accepted g_blamed (nI m) n65 0 a_limits a_ops a_factors a_given a_subs a_cells a_pointX a_order a_inD a_t b_prefix) ?_
        refine loop_0 (fun n i s => wY_run_65 post (nI w) (nI N) (nI D) (nI S) (nI A) (nI St) f_sealed (nI P) (nI F) (nI Cn) (nI Bs) f_accepted g_blamed (nI m) n (nI i) a_limits a_ops a_factors a_given a_subs s a_pointX a_order a_inD a_t b_prefix) (fun i s => s = cpy w a_cells i) 225 a_cells rfl ?_ ?_
        · intro n s hs'
          subst hs'
          exact br_t (by decide) (har _ _ (fun od hod => ye_all (by omega) hA hSt hP.2 hsb hops hin hN (fun n hn => ⟨hpt n hn, hod n hn⟩) (K od)))
        · intro n i s hi hs' hK
          have e : nI w * 225 + nI i = nI (w * 225 + i) := by rw [nx_m225, nI_add]
          refine br_f (nI_ge (b := 225) hi (by omega)) ⟨vp_in_nI (by omega) (by omega), vx_n _ e (by omega) (by omega), nm_r (e' := upd s (w * 225 + i) (s i)) (by rw [cx_n _ e (by omega), nI_clamp (by omega)]) (nm_r (nI_1 i) (hK _ ?_))⟩
          rw [hs']; rfl
      by_cases e : v1 = 2
      · subst e
        refine br_t rfl (br_c (fun a => y1 _ (br_t rfl (br_t a ⟨rfl, zz_in hb hs⟩))) (fun a => br_t rfl (g_tun hb hs0 (fun fr ra rb q1' q2 q3 q4 q5 tx tz sc sb sk cd hl' hh sl sh cu li ord key hfr hs' => ?_))))
        have hs2 := hs'
        obtain ⟨s1, s2, s3, s4, s5, s6, s7, s8, s9, s10, m1, m2, m3, m4⟩ := hs'
        obtain ⟨o, ho, hlex⟩ := s10 hfr
        refine xall 2 o _ (Or.inr rfl) fr ra rb q1' q2 q3 q4 q5 tx tz sc sb sk cd hl' hh sl sh cu li ord key (fun n hn => ⟨(ho n hn).1, fun _ => (ho n hn).2.1, fun z => by omega⟩) ?_
        refine y1 _ (br_t rfl (br_f a (yall 2 o _ (Or.inr rfl) (fun n hn => (ho n hn).1) (fun cl post' h => yg_tun (o := o) q1 hS s8 (mat_cg s6 s7) s3 (fun n hn => (ho n hn).1) (fun n n' a b => lex_cg (fun j hj => (pky_cg (by omega) s8.1 s6 hj).symm) (fun j hj => (pky_cg (by omega) s8.1 s6 hj).symm) (hlex n n' a b)) h) (fun od => ?_))))
        exact ⟨rfl, zz_in hb (fun _ => hs2)⟩
      · have e1 : v1 = 1 := by rcases hwh with h | h; exact h; exact absurd h e
        subst e1
        refine br_f e (br_f e (xall 1 (fun n => n) _ (Or.inl rfl) _ _ _ _ _ _ _ _ _ _ _ _ _ _ _ _ _ _ _ _ _ _ (fun n hn => ⟨hn, fun z => by omega, fun _ => rfl⟩) ?_))
        refine y1 _ (br_f e (yall 1 (fun n => n) _ (Or.inl rfl) (fun n hn => hn) (fun cl post' h => yg_orig (by omega) h) (fun od => ?_)))
        exact ⟨rfl, zz_in hb hs⟩
    exact br_c (fun _ => go) (fun g => br_t (by rcases hwh with h | h; exact absurd h g; exact h) go)
  · have h1 : v1 ≠ 1 := fun h => hwh (Or.inl h)
    have h2 : v1 ≠ 2 := fun h => hwh (Or.inr h)
    exact br_f h1 (br_f h2 (br_f h0 (y_out (fun _ => br_f (by decide) ⟨rfl, zz_in hb hs⟩) (fun g1 g2 => absurd (wh_out h1 h2) (nab g1 g2)))))
end
