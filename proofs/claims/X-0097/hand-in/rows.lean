section
/-! pure rows to paste: stores, nI and lN arithmetic, masks, shifts, narrowing, branches by naturals (pk_le, pk_lt, pk_eq), loops (lp1 .. lp16: the measure of the state; rp1 ..: recursion), negatives. Take what you need -/
theorem pk_us {f : Nat → Int32} {k : Nat} {x : Int32} : upd f k x k = x := if_pos rfl
theorem pk_un {f : Nat → Int32} {k j : Nat} {x : Int32} (h : j ≠ k) : upd f k x j = f j := if_neg h
theorem pk_uLs {f : Nat → Int64} {k : Nat} {x : Int64} : vp_updL f k x k = x := if_pos rfl
theorem pk_uLn {f : Nat → Int64} {k j : Nat} {x : Int64} (h : j ≠ k) : vp_updL f k x j = f j := if_neg h
theorem pk_sub {a b : Nat} (h : b ≤ a) : nI a - nI b = nI (a - b) := by
  obtain ⟨c, rfl⟩ : ∃ c, a = c + b := ⟨a - b, by omega⟩
  rw [← nI_add, Int32.add_sub_cancel, Nat.add_sub_cancel]
theorem pk_m1 (n : Nat) : nI (n + 1) + (-1) = nI n := by
  rw [← nI_1, Int32.add_assoc, show (1 : Int32) + (-1) = 0 from rfl, Int32.add_zero]
theorem pk_mul (a b : Nat) : nI a * nI b = nI (a * b) := (Int32.ofNat_mul a b).symm
theorem pk_div {a d : Nat} (ha : a < 2 ^ 31) (h0 : 0 < d) (hd : d < 2 ^ 31) : nI a / nI d = nI (a / d) := by
  apply Int32.toInt_inj.mp
  rw [lg_idiv_nonneg (by rw [nI_toInt ha]; omega) (by rw [nI_toInt hd]; omega), nI_toInt ha, nI_toInt hd, nI_toInt (Nat.lt_of_le_of_lt (Nat.div_le_self a d) ha)]
  first | rfl | exact (Int.natCast_ediv _ _).symm
theorem pk_rem {a d : Nat} (ha : a < 2 ^ 31) (h0 : 0 < d) (hd : d < 2 ^ 31) : nI a - nI a / nI d * nI d = nI (a % d) := by
  rw [pk_div ha h0 hd, pk_mul, pk_sub (Nat.div_mul_le_self a d)]
  exact congrArg nI (by have := Nat.div_add_mod' a d; omega)
theorem pk_sub_toInt {a b : Nat} (ha : a < 2 ^ 30) (hb : b < 2 ^ 30) : (nI a - nI b).toInt = (a : Int) - b := by
  rw [Int32.toInt_sub, nI_toInt (by omega), nI_toInt (by omega)]
  exact Int.bmod_eq_of_le (by omega) (by omega)
theorem pk_sneg {a b : Nat} (hb : b < 2 ^ 30) (h : a < b) : nI a - nI b < 0 := by
  rw [Int32.lt_iff_toInt_lt, pk_sub_toInt (by omega) hb, show (0 : Int32).toInt = 0 from by decide]
  omega
theorem pk_ix (x : Int32) {n : Nat} (hn : n < 2 ^ 31) : x < 0 ∨ nI n ≤ x ∨ ∃ j : Nat, j < n ∧ x = nI j := by
  by_cases h : x < 0
  · exact Or.inl h
  · obtain ⟨j, hj, rfl⟩ := nI_of h
    by_cases h2 : j < n
    · exact Or.inr (Or.inr ⟨j, h2, rfl⟩)
    · exact Or.inr (Or.inl (nI_le (by omega) hj))
theorem pk_le {x y : Int32} {A B : Prop} (a b : Nat) (f : a ≤ b → A) (g : b < a → B) (hx : x = nI a := by rfl) (hy : y = nI b := by rfl) (ha : a < 2 ^ 31 := by omega) (hb : b < 2 ^ 31 := by omega) : (x ≤ y → A) ∧ (¬ x ≤ y → B) := by
  subst hx hy
  rw [nI_leI ha hb]
  exact ⟨f, fun z => g (by omega)⟩
theorem pk_lt {x y : Int32} {A B : Prop} (a b : Nat) (f : a < b → A) (g : b ≤ a → B) (hx : x = nI a := by rfl) (hy : y = nI b := by rfl) (ha : a < 2 ^ 31 := by omega) (hb : b < 2 ^ 31 := by omega) : (x < y → A) ∧ (¬ x < y → B) := by
  subst hx hy
  rw [nI_ltI ha hb]
  exact ⟨f, fun z => g (by omega)⟩
theorem pk_eq {x y : Int32} {A B : Prop} (a b : Nat) (f : a = b → A) (g : a ≠ b → B) (hx : x = nI a := by rfl) (hy : y = nI b := by rfl) (ha : a < 2 ^ 31 := by omega) (hb : b < 2 ^ 31 := by omega) : (x = y → A) ∧ (¬ x = y → B) := by
  subst hx hy
  rw [nI_eq ha hb]
  exact ⟨f, g⟩
theorem pk_in {x : Int32} (n N : Nat) (h : n < N) (hx : x = nI n := by rfl) (hN : N < 2 ^ 31 := by omega) : vp_in x N := by
  subst hx
  exact vp_in_nI h hN
theorem pk_cl {x : Int32} (n : Nat) (hx : x = nI n := by rfl) (h : n < 2 ^ 31 := by omega) : x.toNatClampNeg = n := by
  subst hx
  exact nI_clamp h
theorem pk_tn {n : Nat} (h : n < 2 ^ 32) : (nI n).toBitVec.toNat = n := Nat.mod_eq_of_lt h
theorem pk_and (x : Int32) {m : Int32} (k : Nat) (hm : m.toBitVec.toNat = 2 ^ k - 1) : x &&& m = nI (x.toBitVec.toNat % 2 ^ k) := by
  apply Int32.toBitVec_inj.mp
  apply BitVec.eq_of_toNat_eq
  rw [Int32.toBitVec_and, BitVec.toNat_and, hm, Nat.and_two_pow_sub_one_eq_mod]
  show _ = (BitVec.ofNat 32 _).toNat
  rw [BitVec.toNat_ofNat]
  exact (Nat.mod_eq_of_lt (Nat.lt_of_le_of_lt (Nat.mod_le _ _) x.toBitVec.isLt)).symm
theorem pk_andN {n : Nat} (h : n < 2 ^ 32) {m : Int32} (k : Nat) (hm : m.toBitVec.toNat = 2 ^ k - 1) : nI n &&& m = nI (n % 2 ^ k) := by
  rw [pk_and _ k hm, pk_tn h]
theorem pk_andE (x : Int32) {m : Int32} (k : Nat) (hm : m.toBitVec.toNat = 2 ^ k - 1) : ∃ j : Nat, j < 2 ^ k ∧ x &&& m = nI j := ⟨_, Nat.mod_lt _ (Nat.two_pow_pos k), pk_and x k hm⟩
theorem pk_andIn (x : Int32) {m : Int32} (k : Nat) (hm : m.toBitVec.toNat = 2 ^ k - 1) (hk : k ≤ 30) : vp_in (x &&& m) (2 ^ k) := by
  obtain ⟨j, hj, e⟩ := pk_andE x k hm
  rw [e]
  exact vp_in_nI hj (Nat.lt_of_le_of_lt (Nat.pow_le_pow_right (by decide) hk) (by decide))
theorem pk_shl (a s : Int32) (k : Nat) (hs : (s.toBitVec.smod 32).toNat = k) : (a <<< s).toBitVec.toNat = a.toBitVec.toNat * 2 ^ k % 2 ^ 32 := by
  show (a.toBitVec <<< (s.toBitVec.smod 32).toNat).toNat = _
  rw [hs, BitVec.toNat_shiftLeft, Nat.shiftLeft_eq]
theorem pk_shlN {n : Nat} (s : Int32) (k : Nat) (hs : (s.toBitVec.smod 32).toNat = k) (h : n * 2 ^ k < 2 ^ 32) : nI n <<< s = nI (n * 2 ^ k) := by
  apply Int32.toBitVec_inj.mp
  apply BitVec.eq_of_toNat_eq
  have hn : n < 2 ^ 32 := Nat.lt_of_le_of_lt (Nat.le_mul_of_pos_right n (Nat.two_pow_pos k)) h
  rw [pk_shl _ _ k hs, pk_tn hn, pk_tn h, Nat.mod_eq_of_lt h]
theorem pk_shr (a s : Int32) (k : Nat) (hs : (s.toBitVec.smod 32).toNat = k) : (a >>> s).toInt = a.toInt >>> k := by
  show (a.toBitVec.sshiftRight (s.toBitVec.smod 32).toNat).toInt = _
  rw [hs, BitVec.toInt_sshiftRight]
  rfl
theorem pk_shrN {n : Nat} (h : n < 2 ^ 31) (s : Int32) (k : Nat) (hs : (s.toBitVec.smod 32).toNat = k) : nI n >>> s = nI (n / 2 ^ k) := by
  apply Int32.toInt_inj.mp
  have h2 : n / 2 ^ k ≤ n := Nat.div_le_self _ _
  rw [pk_shr _ _ k hs, nI_toInt h, nI_toInt (by omega), Int.shiftRight_eq_div_pow]
  rfl
theorem pk_ushr (x s : Int32) (k : Nat) (hs : ((s.toUInt32 &&& Int32.toUInt32 31).toBitVec % 32).toNat = k) : (x.toUInt32 >>> (s.toUInt32 &&& Int32.toUInt32 31)).toInt32.toBitVec.toNat = x.toBitVec.toNat / 2 ^ k := by
  have e : (x.toUInt32 >>> (s.toUInt32 &&& Int32.toUInt32 31)).toInt32.toBitVec = x.toBitVec >>> k := by
    rw [← hs]
    exact UInt32.toBitVec_shiftRight _ _
  rw [e, BitVec.toNat_ushiftRight, Nat.shiftRight_eq_div_pow]
theorem pk_ushrN {n : Nat} (hn : n < 2 ^ 32) (s : Int32) (k : Nat) (hs : ((s.toUInt32 &&& Int32.toUInt32 31).toBitVec % 32).toNat = k) : ((nI n).toUInt32 >>> (s.toUInt32 &&& Int32.toUInt32 31)).toInt32 = nI (n / 2 ^ k) := by
  apply Int32.toBitVec_inj.mp
  apply BitVec.eq_of_toNat_eq
  rw [pk_ushr _ s k hs, pk_tn hn, pk_tn (Nat.lt_of_le_of_lt (Nat.div_le_self _ _) hn)]
theorem pk_nb (z : Int32) : narrow .byte (.int z.toInt8.toInt32) = .int z.toInt8.toInt32 := congrArg Value.int (by simp)
theorem pk_ns (z : Int32) : narrow .short (.int z.toInt16.toInt32) = .int z.toInt16.toInt32 := congrArg Value.int (by simp)
theorem pk_fb (r : Int32) : fits .byte (.int r.toInt8.toInt32) = true := by
  have ⟨a, b⟩ := lg_i2b_range r
  have h1 : (-128 : Int32).toInt = -128 := by decide
  have h2 : (127 : Int32).toInt = 127 := by decide
  simp only [fits, Bool.and_eq_true, decide_eq_true_eq, Int32.le_iff_toInt_le, h1, h2]
  omega
theorem pk_fs (r : Int32) : fits .short (.int r.toInt16.toInt32) = true := by
  have ⟨a, b⟩ := lg_i2s_range r
  have h1 : (-32768 : Int32).toInt = -32768 := by decide
  have h2 : (32767 : Int32).toInt = 32767 := by decide
  simp only [fits, Bool.and_eq_true, decide_eq_true_eq, Int32.le_iff_toInt_le, h1, h2]
  omega
theorem pk_charN {q : Nat} (hq : q < 65536) : narrow .char (.int (nI q)) = .int (nI q) ∧ fits .char (.int (nI q)) = true := by
  constructor
  · have e : (nI q).toUInt32.toUInt16.toUInt32.toInt32 = nI q := by
      apply Int32.toBitVec_inj.mp
      apply BitVec.eq_of_toNat_eq
      show (nI q).toUInt32.toUInt16.toUInt32.toNat = q % 2 ^ 32
      rw [UInt16.toNat_toUInt32, UInt32.toNat_toUInt16, show (nI q).toUInt32.toNat = q % 2 ^ 32 from rfl]
      omega
    exact congrArg Value.int e
  · have a : (0 : Int32) ≤ nI q := nI_pos' (by omega)
    have b : nI q ≤ 65535 := nI_le (b := 65535) (by omega) (by decide)
    show (decide ((0 : Int32) ≤ nI q) && decide (nI q ≤ 65535)) = true
    rw [decide_eq_true a, decide_eq_true b]
    rfl
theorem pk_char (x : Int32) : (x.toUInt32 % 65536).toInt32 = nI (x.toBitVec.toNat % 65536) := by
  apply Int32.toBitVec_inj.mp
  apply BitVec.eq_of_toNat_eq
  rw [pk_tn (by omega)]
  show (x.toUInt32 % 65536).toNat = _
  rw [UInt32.toNat_mod]
  rfl
theorem pk_nc (x : Int32) : narrow .char (.int (x.toUInt32 % 65536).toInt32) = .int (x.toUInt32 % 65536).toInt32 := by
  rw [pk_char]
  exact (pk_charN (Nat.mod_lt _ (by decide))).1
theorem pk_fc (x : Int32) : fits .char (.int (x.toUInt32 % 65536).toInt32) = true := by
  rw [pk_char]
  exact (pk_charN (Nat.mod_lt _ (by decide))).2
theorem pk_vb (z : Int32) : vp_nar .byte z.toInt8.toInt32 = z.toInt8.toInt32 := by rw [vp_nar_byte]; simp
theorem pk_vs (z : Int32) : vp_nar .short z.toInt16.toInt32 = z.toInt16.toInt32 := by rw [vp_nar_short]; simp
theorem pk_vc (z : Int32) : vp_nar .char (z.toUInt32 % 65536).toInt32 = (z.toUInt32 % 65536).toInt32 := Value.int.inj (pk_nc z)
theorem pk_lT {n : Nat} (h : n < 2 ^ 63) : (lN n).toInt = (n : Int) := lg_ofNat_toInt h
theorem pk_lLT {a b : Nat} (ha : a < 2 ^ 63) (hb : b < 2 ^ 63) : lN a < lN b ↔ a < b := by
  rw [Int64.lt_iff_toInt_lt, pk_lT ha, pk_lT hb]; omega
theorem pk_lLE {a b : Nat} (ha : a < 2 ^ 63) (hb : b < 2 ^ 63) : lN a ≤ lN b ↔ a ≤ b := by
  rw [Int64.le_iff_toInt_le, pk_lT ha, pk_lT hb]; omega
theorem pk_lEQ {a b : Nat} (ha : a < 2 ^ 63) (hb : b < 2 ^ 63) : lN a = lN b ↔ a = b := by
  rw [← Int64.toInt_inj, pk_lT ha, pk_lT hb]; omega
theorem pk_lOf {x : Int64} (h : ¬ x < 0) : ∃ k : Nat, k < 2 ^ 63 ∧ x = lN k := by
  rw [Int64.lt_iff_toInt_lt] at h
  have h0 : (0 : Int64).toInt = 0 := by decide
  have hx := Int64.toInt_lt x
  refine ⟨x.toInt.toNat, by omega, Int64.toInt_inj.mp ?_⟩
  rw [pk_lT (by omega)]
  omega
theorem pk_lDiv {a b : Nat} (ha : a < 2 ^ 63) (h0 : 0 < b) (hb : b < 2 ^ 63) : lN a / lN b = lN (a / b) := by
  apply Int64.toInt_inj.mp
  rw [lg_ldiv_nonneg (by rw [pk_lT ha]; omega) (by rw [pk_lT hb]; omega), pk_lT ha, pk_lT hb, pk_lT (Nat.lt_of_le_of_lt (Nat.div_le_self a b) ha)]
  rfl
theorem pk_lRem {a b : Nat} (ha : a < 2 ^ 63) (h0 : 0 < b) (hb : b < 2 ^ 63) : lN a - lN a / lN b * lN b = lN (a % b) := by
  rw [pk_lDiv ha h0 hb, lN_mul, lN_sub (Nat.div_mul_le_self a b)]
  exact congrArg lN (by have := Nat.div_add_mod' a b; omega)
theorem pk_loop {σ : Type} (W : Nat → Nat → σ → Prop) (I : Nat → σ → Prop) (e i0 : Nat) (s : σ) (hi : i0 ≤ e) (h0 : I i0 s) (hx : ∀ n s, I e s → W (n + 1) e s)
    (hs : ∀ n i s, i < e → I i s → (∀ s', I (i + 1) s' → W n (i + 1) s') → W (n + 1) i s) : ∃ n, W n i0 s :=
  ⟨e + 1, loop_i W I e hx hs (e + 1) i0 s hi (by omega) h0⟩
theorem pk_loopD {σ : Type} (W : Nat → Nat → σ → Prop) (I : Nat → σ → Prop) (hx : ∀ n s, I 0 s → W (n + 1) 0 s)
    (hs : ∀ n i s, I (i + 1) s → (∀ s', I i s' → W n i s') → W (n + 1) (i + 1) s) : ∀ (e : Nat) (s : σ), I e s → W (e + 1) e s := by
  intro e
  induction e with
  | zero => exact fun s h => hx 0 s h
  | succ e ih => exact fun s h => hs (e + 1) e s h (fun s' h' => ih s' h')
theorem lp1 {A1 : Type} (W : Nat → A1 → Prop) (I : A1 → Prop) (μ : A1 → Nat) (hs : ∀ (n : Nat) (a1 : A1), I a1 → (∀ (b1 : A1), I b1 → μ b1 < μ a1 → W n b1) → W (n + 1) a1) (a1 : A1) (h : I a1) : ∃ n, W n a1 :=
  loop_m (σ := A1) (fun n s => W n s) (fun s => I s) (fun s => μ s) (fun n s hI hk => hs n s hI (fun b1 h9 hm => hk b1 h9 hm)) a1 h
theorem lp2 {A1 A2 : Type} (W : Nat → A1 → A2 → Prop) (I : A1 → A2 → Prop) (μ : A1 → A2 → Nat) (hs : ∀ (n : Nat) (a1 : A1) (a2 : A2), I a1 a2 → (∀ (b1 : A1) (b2 : A2), I b1 b2 → μ b1 b2 < μ a1 a2 → W n b1 b2) → W (n + 1) a1 a2) (a1 : A1) (a2 : A2) (h : I a1 a2) : ∃ n, W n a1 a2 :=
  loop_m (σ := A1 × A2) (fun n s => W n s.1 s.2) (fun s => I s.1 s.2) (fun s => μ s.1 s.2) (fun n s hI hk => hs n s.1 s.2 hI (fun b1 b2 h9 hm => hk (b1, b2) h9 hm)) (a1, a2) h
theorem lp3 {A1 A2 A3 : Type} (W : Nat → A1 → A2 → A3 → Prop) (I : A1 → A2 → A3 → Prop) (μ : A1 → A2 → A3 → Nat) (hs : ∀ (n : Nat) (a1 : A1) (a2 : A2) (a3 : A3), I a1 a2 a3 → (∀ (b1 : A1) (b2 : A2) (b3 : A3), I b1 b2 b3 → μ b1 b2 b3 < μ a1 a2 a3 → W n b1 b2 b3) → W (n + 1) a1 a2 a3) (a1 : A1) (a2 : A2) (a3 : A3) (h : I a1 a2 a3) : ∃ n, W n a1 a2 a3 :=
  loop_m (σ := A1 × A2 × A3) (fun n s => W n s.1 s.2.1 s.2.2) (fun s => I s.1 s.2.1 s.2.2) (fun s => μ s.1 s.2.1 s.2.2) (fun n s hI hk => hs n s.1 s.2.1 s.2.2 hI (fun b1 b2 b3 h9 hm => hk (b1, b2, b3) h9 hm)) (a1, a2, a3) h
theorem lp4 {A1 A2 A3 A4 : Type} (W : Nat → A1 → A2 → A3 → A4 → Prop) (I : A1 → A2 → A3 → A4 → Prop) (μ : A1 → A2 → A3 → A4 → Nat) (hs : ∀ (n : Nat) (a1 : A1) (a2 : A2) (a3 : A3) (a4 : A4), I a1 a2 a3 a4 → (∀ (b1 : A1) (b2 : A2) (b3 : A3) (b4 : A4), I b1 b2 b3 b4 → μ b1 b2 b3 b4 < μ a1 a2 a3 a4 → W n b1 b2 b3 b4) → W (n + 1) a1 a2 a3 a4) (a1 : A1) (a2 : A2) (a3 : A3) (a4 : A4) (h : I a1 a2 a3 a4) : ∃ n, W n a1 a2 a3 a4 :=
  loop_m (σ := A1 × A2 × A3 × A4) (fun n s => W n s.1 s.2.1 s.2.2.1 s.2.2.2) (fun s => I s.1 s.2.1 s.2.2.1 s.2.2.2) (fun s => μ s.1 s.2.1 s.2.2.1 s.2.2.2) (fun n s hI hk => hs n s.1 s.2.1 s.2.2.1 s.2.2.2 hI (fun b1 b2 b3 b4 h9 hm => hk (b1, b2, b3, b4) h9 hm)) (a1, a2, a3, a4) h
theorem lp5 {A1 A2 A3 A4 A5 : Type} (W : Nat → A1 → A2 → A3 → A4 → A5 → Prop) (I : A1 → A2 → A3 → A4 → A5 → Prop) (μ : A1 → A2 → A3 → A4 → A5 → Nat) (hs : ∀ (n : Nat) (a1 : A1) (a2 : A2) (a3 : A3) (a4 : A4) (a5 : A5), I a1 a2 a3 a4 a5 → (∀ (b1 : A1) (b2 : A2) (b3 : A3) (b4 : A4) (b5 : A5), I b1 b2 b3 b4 b5 → μ b1 b2 b3 b4 b5 < μ a1 a2 a3 a4 a5 → W n b1 b2 b3 b4 b5) → W (n + 1) a1 a2 a3 a4 a5) (a1 : A1) (a2 : A2) (a3 : A3) (a4 : A4) (a5 : A5) (h : I a1 a2 a3 a4 a5) : ∃ n, W n a1 a2 a3 a4 a5 :=
  loop_m (σ := A1 × A2 × A3 × A4 × A5) (fun n s => W n s.1 s.2.1 s.2.2.1 s.2.2.2.1 s.2.2.2.2) (fun s => I s.1 s.2.1 s.2.2.1 s.2.2.2.1 s.2.2.2.2) (fun s => μ s.1 s.2.1 s.2.2.1 s.2.2.2.1 s.2.2.2.2) (fun n s hI hk => hs n s.1 s.2.1 s.2.2.1 s.2.2.2.1 s.2.2.2.2 hI (fun b1 b2 b3 b4 b5 h9 hm => hk (b1, b2, b3, b4, b5) h9 hm)) (a1, a2, a3, a4, a5) h
theorem lp6 {A1 A2 A3 A4 A5 A6 : Type} (W : Nat → A1 → A2 → A3 → A4 → A5 → A6 → Prop) (I : A1 → A2 → A3 → A4 → A5 → A6 → Prop) (μ : A1 → A2 → A3 → A4 → A5 → A6 → Nat) (hs : ∀ (n : Nat) (a1 : A1) (a2 : A2) (a3 : A3) (a4 : A4) (a5 : A5) (a6 : A6), I a1 a2 a3 a4 a5 a6 → (∀ (b1 : A1) (b2 : A2) (b3 : A3) (b4 : A4) (b5 : A5) (b6 : A6), I b1 b2 b3 b4 b5 b6 → μ b1 b2 b3 b4 b5 b6 < μ a1 a2 a3 a4 a5 a6 → W n b1 b2 b3 b4 b5 b6) → W (n + 1) a1 a2 a3 a4 a5 a6) (a1 : A1) (a2 : A2) (a3 : A3) (a4 : A4) (a5 : A5) (a6 : A6) (h : I a1 a2 a3 a4 a5 a6) : ∃ n, W n a1 a2 a3 a4 a5 a6 :=
  loop_m (σ := A1 × A2 × A3 × A4 × A5 × A6) (fun n s => W n s.1 s.2.1 s.2.2.1 s.2.2.2.1 s.2.2.2.2.1 s.2.2.2.2.2) (fun s => I s.1 s.2.1 s.2.2.1 s.2.2.2.1 s.2.2.2.2.1 s.2.2.2.2.2) (fun s => μ s.1 s.2.1 s.2.2.1 s.2.2.2.1 s.2.2.2.2.1 s.2.2.2.2.2) (fun n s hI hk => hs n s.1 s.2.1 s.2.2.1 s.2.2.2.1 s.2.2.2.2.1 s.2.2.2.2.2 hI (fun b1 b2 b3 b4 b5 b6 h9 hm => hk (b1, b2, b3, b4, b5, b6) h9 hm)) (a1, a2, a3, a4, a5, a6) h
theorem lp7 {A1 A2 A3 A4 A5 A6 A7 : Type} (W : Nat → A1 → A2 → A3 → A4 → A5 → A6 → A7 → Prop) (I : A1 → A2 → A3 → A4 → A5 → A6 → A7 → Prop) (μ : A1 → A2 → A3 → A4 → A5 → A6 → A7 → Nat) (hs : ∀ (n : Nat) (a1 : A1) (a2 : A2) (a3 : A3) (a4 : A4) (a5 : A5) (a6 : A6) (a7 : A7), I a1 a2 a3 a4 a5 a6 a7 → (∀ (b1 : A1) (b2 : A2) (b3 : A3) (b4 : A4) (b5 : A5) (b6 : A6) (b7 : A7), I b1 b2 b3 b4 b5 b6 b7 → μ b1 b2 b3 b4 b5 b6 b7 < μ a1 a2 a3 a4 a5 a6 a7 → W n b1 b2 b3 b4 b5 b6 b7) → W (n + 1) a1 a2 a3 a4 a5 a6 a7) (a1 : A1) (a2 : A2) (a3 : A3) (a4 : A4) (a5 : A5) (a6 : A6) (a7 : A7) (h : I a1 a2 a3 a4 a5 a6 a7) : ∃ n, W n a1 a2 a3 a4 a5 a6 a7 :=
  loop_m (σ := A1 × A2 × A3 × A4 × A5 × A6 × A7) (fun n s => W n s.1 s.2.1 s.2.2.1 s.2.2.2.1 s.2.2.2.2.1 s.2.2.2.2.2.1 s.2.2.2.2.2.2) (fun s => I s.1 s.2.1 s.2.2.1 s.2.2.2.1 s.2.2.2.2.1 s.2.2.2.2.2.1 s.2.2.2.2.2.2) (fun s => μ s.1 s.2.1 s.2.2.1 s.2.2.2.1 s.2.2.2.2.1 s.2.2.2.2.2.1 s.2.2.2.2.2.2) (fun n s hI hk => hs n s.1 s.2.1 s.2.2.1 s.2.2.2.1 s.2.2.2.2.1 s.2.2.2.2.2.1 s.2.2.2.2.2.2 hI (fun b1 b2 b3 b4 b5 b6 b7 h9 hm => hk (b1, b2, b3, b4, b5, b6, b7) h9 hm)) (a1, a2, a3, a4, a5, a6, a7) h
theorem lp8 {A1 A2 A3 A4 A5 A6 A7 A8 : Type} (W : Nat → A1 → A2 → A3 → A4 → A5 → A6 → A7 → A8 → Prop) (I : A1 → A2 → A3 → A4 → A5 → A6 → A7 → A8 → Prop) (μ : A1 → A2 → A3 → A4 → A5 → A6 → A7 → A8 → Nat) (hs : ∀ (n : Nat) (a1 : A1) (a2 : A2) (a3 : A3) (a4 : A4) (a5 : A5) (a6 : A6) (a7 : A7) (a8 : A8), I a1 a2 a3 a4 a5 a6 a7 a8 → (∀ (b1 : A1) (b2 : A2) (b3 : A3) (b4 : A4) (b5 : A5) (b6 : A6) (b7 : A7) (b8 : A8), I b1 b2 b3 b4 b5 b6 b7 b8 → μ b1 b2 b3 b4 b5 b6 b7 b8 < μ a1 a2 a3 a4 a5 a6 a7 a8 → W n b1 b2 b3 b4 b5 b6 b7 b8) → W (n + 1) a1 a2 a3 a4 a5 a6 a7 a8) (a1 : A1) (a2 : A2) (a3 : A3) (a4 : A4) (a5 : A5) (a6 : A6) (a7 : A7) (a8 : A8) (h : I a1 a2 a3 a4 a5 a6 a7 a8) : ∃ n, W n a1 a2 a3 a4 a5 a6 a7 a8 :=
  loop_m (σ := A1 × A2 × A3 × A4 × A5 × A6 × A7 × A8) (fun n s => W n s.1 s.2.1 s.2.2.1 s.2.2.2.1 s.2.2.2.2.1 s.2.2.2.2.2.1 s.2.2.2.2.2.2.1 s.2.2.2.2.2.2.2) (fun s => I s.1 s.2.1 s.2.2.1 s.2.2.2.1 s.2.2.2.2.1 s.2.2.2.2.2.1 s.2.2.2.2.2.2.1 s.2.2.2.2.2.2.2) (fun s => μ s.1 s.2.1 s.2.2.1 s.2.2.2.1 s.2.2.2.2.1 s.2.2.2.2.2.1 s.2.2.2.2.2.2.1 s.2.2.2.2.2.2.2) (fun n s hI hk => hs n s.1 s.2.1 s.2.2.1 s.2.2.2.1 s.2.2.2.2.1 s.2.2.2.2.2.1 s.2.2.2.2.2.2.1 s.2.2.2.2.2.2.2 hI (fun b1 b2 b3 b4 b5 b6 b7 b8 h9 hm => hk (b1, b2, b3, b4, b5, b6, b7, b8) h9 hm)) (a1, a2, a3, a4, a5, a6, a7, a8) h
theorem lp9 {A1 A2 A3 A4 A5 A6 A7 A8 A9 : Type} (W : Nat → A1 → A2 → A3 → A4 → A5 → A6 → A7 → A8 → A9 → Prop) (I : A1 → A2 → A3 → A4 → A5 → A6 → A7 → A8 → A9 → Prop) (μ : A1 → A2 → A3 → A4 → A5 → A6 → A7 → A8 → A9 → Nat) (hs : ∀ (n : Nat) (a1 : A1) (a2 : A2) (a3 : A3) (a4 : A4) (a5 : A5) (a6 : A6) (a7 : A7) (a8 : A8) (a9 : A9), I a1 a2 a3 a4 a5 a6 a7 a8 a9 → (∀ (b1 : A1) (b2 : A2) (b3 : A3) (b4 : A4) (b5 : A5) (b6 : A6) (b7 : A7) (b8 : A8) (b9 : A9), I b1 b2 b3 b4 b5 b6 b7 b8 b9 → μ b1 b2 b3 b4 b5 b6 b7 b8 b9 < μ a1 a2 a3 a4 a5 a6 a7 a8 a9 → W n b1 b2 b3 b4 b5 b6 b7 b8 b9) → W (n + 1) a1 a2 a3 a4 a5 a6 a7 a8 a9) (a1 : A1) (a2 : A2) (a3 : A3) (a4 : A4) (a5 : A5) (a6 : A6) (a7 : A7) (a8 : A8) (a9 : A9) (h : I a1 a2 a3 a4 a5 a6 a7 a8 a9) : ∃ n, W n a1 a2 a3 a4 a5 a6 a7 a8 a9 :=
  loop_m (σ := A1 × A2 × A3 × A4 × A5 × A6 × A7 × A8 × A9) (fun n s => W n s.1 s.2.1 s.2.2.1 s.2.2.2.1 s.2.2.2.2.1 s.2.2.2.2.2.1 s.2.2.2.2.2.2.1 s.2.2.2.2.2.2.2.1 s.2.2.2.2.2.2.2.2) (fun s => I s.1 s.2.1 s.2.2.1 s.2.2.2.1 s.2.2.2.2.1 s.2.2.2.2.2.1 s.2.2.2.2.2.2.1 s.2.2.2.2.2.2.2.1 s.2.2.2.2.2.2.2.2) (fun s => μ s.1 s.2.1 s.2.2.1 s.2.2.2.1 s.2.2.2.2.1 s.2.2.2.2.2.1 s.2.2.2.2.2.2.1 s.2.2.2.2.2.2.2.1 s.2.2.2.2.2.2.2.2) (fun n s hI hk => hs n s.1 s.2.1 s.2.2.1 s.2.2.2.1 s.2.2.2.2.1 s.2.2.2.2.2.1 s.2.2.2.2.2.2.1 s.2.2.2.2.2.2.2.1 s.2.2.2.2.2.2.2.2 hI (fun b1 b2 b3 b4 b5 b6 b7 b8 b9 h9 hm => hk (b1, b2, b3, b4, b5, b6, b7, b8, b9) h9 hm)) (a1, a2, a3, a4, a5, a6, a7, a8, a9) h
theorem lp10 {A1 A2 A3 A4 A5 A6 A7 A8 A9 A10 : Type} (W : Nat → A1 → A2 → A3 → A4 → A5 → A6 → A7 → A8 → A9 → A10 → Prop) (I : A1 → A2 → A3 → A4 → A5 → A6 → A7 → A8 → A9 → A10 → Prop) (μ : A1 → A2 → A3 → A4 → A5 → A6 → A7 → A8 → A9 → A10 → Nat) (hs : ∀ (n : Nat) (a1 : A1) (a2 : A2) (a3 : A3) (a4 : A4) (a5 : A5) (a6 : A6) (a7 : A7) (a8 : A8) (a9 : A9) (a10 : A10), I a1 a2 a3 a4 a5 a6 a7 a8 a9 a10 → (∀ (b1 : A1) (b2 : A2) (b3 : A3) (b4 : A4) (b5 : A5) (b6 : A6) (b7 : A7) (b8 : A8) (b9 : A9) (b10 : A10), I b1 b2 b3 b4 b5 b6 b7 b8 b9 b10 → μ b1 b2 b3 b4 b5 b6 b7 b8 b9 b10 < μ a1 a2 a3 a4 a5 a6 a7 a8 a9 a10 → W n b1 b2 b3 b4 b5 b6 b7 b8 b9 b10) → W (n + 1) a1 a2 a3 a4 a5 a6 a7 a8 a9 a10) (a1 : A1) (a2 : A2) (a3 : A3) (a4 : A4) (a5 : A5) (a6 : A6) (a7 : A7) (a8 : A8) (a9 : A9) (a10 : A10) (h : I a1 a2 a3 a4 a5 a6 a7 a8 a9 a10) : ∃ n, W n a1 a2 a3 a4 a5 a6 a7 a8 a9 a10 :=
  loop_m (σ := A1 × A2 × A3 × A4 × A5 × A6 × A7 × A8 × A9 × A10) (fun n s => W n s.1 s.2.1 s.2.2.1 s.2.2.2.1 s.2.2.2.2.1 s.2.2.2.2.2.1 s.2.2.2.2.2.2.1 s.2.2.2.2.2.2.2.1 s.2.2.2.2.2.2.2.2.1 s.2.2.2.2.2.2.2.2.2) (fun s => I s.1 s.2.1 s.2.2.1 s.2.2.2.1 s.2.2.2.2.1 s.2.2.2.2.2.1 s.2.2.2.2.2.2.1 s.2.2.2.2.2.2.2.1 s.2.2.2.2.2.2.2.2.1 s.2.2.2.2.2.2.2.2.2) (fun s => μ s.1 s.2.1 s.2.2.1 s.2.2.2.1 s.2.2.2.2.1 s.2.2.2.2.2.1 s.2.2.2.2.2.2.1 s.2.2.2.2.2.2.2.1 s.2.2.2.2.2.2.2.2.1 s.2.2.2.2.2.2.2.2.2) (fun n s hI hk => hs n s.1 s.2.1 s.2.2.1 s.2.2.2.1 s.2.2.2.2.1 s.2.2.2.2.2.1 s.2.2.2.2.2.2.1 s.2.2.2.2.2.2.2.1 s.2.2.2.2.2.2.2.2.1 s.2.2.2.2.2.2.2.2.2 hI (fun b1 b2 b3 b4 b5 b6 b7 b8 b9 b10 h9 hm => hk (b1, b2, b3, b4, b5, b6, b7, b8, b9, b10) h9 hm)) (a1, a2, a3, a4, a5, a6, a7, a8, a9, a10) h
theorem lp11 {A1 A2 A3 A4 A5 A6 A7 A8 A9 A10 A11 : Type} (W : Nat → A1 → A2 → A3 → A4 → A5 → A6 → A7 → A8 → A9 → A10 → A11 → Prop) (I : A1 → A2 → A3 → A4 → A5 → A6 → A7 → A8 → A9 → A10 → A11 → Prop) (μ : A1 → A2 → A3 → A4 → A5 → A6 → A7 → A8 → A9 → A10 → A11 → Nat) (hs : ∀ (n : Nat) (a1 : A1) (a2 : A2) (a3 : A3) (a4 : A4) (a5 : A5) (a6 : A6) (a7 : A7) (a8 : A8) (a9 : A9) (a10 : A10) (a11 : A11), I a1 a2 a3 a4 a5 a6 a7 a8 a9 a10 a11 → (∀ (b1 : A1) (b2 : A2) (b3 : A3) (b4 : A4) (b5 : A5) (b6 : A6) (b7 : A7) (b8 : A8) (b9 : A9) (b10 : A10) (b11 : A11), I b1 b2 b3 b4 b5 b6 b7 b8 b9 b10 b11 → μ b1 b2 b3 b4 b5 b6 b7 b8 b9 b10 b11 < μ a1 a2 a3 a4 a5 a6 a7 a8 a9 a10 a11 → W n b1 b2 b3 b4 b5 b6 b7 b8 b9 b10 b11) → W (n + 1) a1 a2 a3 a4 a5 a6 a7 a8 a9 a10 a11) (a1 : A1) (a2 : A2) (a3 : A3) (a4 : A4) (a5 : A5) (a6 : A6) (a7 : A7) (a8 : A8) (a9 : A9) (a10 : A10) (a11 : A11) (h : I a1 a2 a3 a4 a5 a6 a7 a8 a9 a10 a11) : ∃ n, W n a1 a2 a3 a4 a5 a6 a7 a8 a9 a10 a11 :=
  loop_m (σ := A1 × A2 × A3 × A4 × A5 × A6 × A7 × A8 × A9 × A10 × A11) (fun n s => W n s.1 s.2.1 s.2.2.1 s.2.2.2.1 s.2.2.2.2.1 s.2.2.2.2.2.1 s.2.2.2.2.2.2.1 s.2.2.2.2.2.2.2.1 s.2.2.2.2.2.2.2.2.1 s.2.2.2.2.2.2.2.2.2.1 s.2.2.2.2.2.2.2.2.2.2) (fun s => I s.1 s.2.1 s.2.2.1 s.2.2.2.1 s.2.2.2.2.1 s.2.2.2.2.2.1 s.2.2.2.2.2.2.1 s.2.2.2.2.2.2.2.1 s.2.2.2.2.2.2.2.2.1 s.2.2.2.2.2.2.2.2.2.1 s.2.2.2.2.2.2.2.2.2.2) (fun s => μ s.1 s.2.1 s.2.2.1 s.2.2.2.1 s.2.2.2.2.1 s.2.2.2.2.2.1 s.2.2.2.2.2.2.1 s.2.2.2.2.2.2.2.1 s.2.2.2.2.2.2.2.2.1 s.2.2.2.2.2.2.2.2.2.1 s.2.2.2.2.2.2.2.2.2.2) (fun n s hI hk => hs n s.1 s.2.1 s.2.2.1 s.2.2.2.1 s.2.2.2.2.1 s.2.2.2.2.2.1 s.2.2.2.2.2.2.1 s.2.2.2.2.2.2.2.1 s.2.2.2.2.2.2.2.2.1 s.2.2.2.2.2.2.2.2.2.1 s.2.2.2.2.2.2.2.2.2.2 hI (fun b1 b2 b3 b4 b5 b6 b7 b8 b9 b10 b11 h9 hm => hk (b1, b2, b3, b4, b5, b6, b7, b8, b9, b10, b11) h9 hm)) (a1, a2, a3, a4, a5, a6, a7, a8, a9, a10, a11) h
theorem lp12 {A1 A2 A3 A4 A5 A6 A7 A8 A9 A10 A11 A12 : Type} (W : Nat → A1 → A2 → A3 → A4 → A5 → A6 → A7 → A8 → A9 → A10 → A11 → A12 → Prop) (I : A1 → A2 → A3 → A4 → A5 → A6 → A7 → A8 → A9 → A10 → A11 → A12 → Prop) (μ : A1 → A2 → A3 → A4 → A5 → A6 → A7 → A8 → A9 → A10 → A11 → A12 → Nat) (hs : ∀ (n : Nat) (a1 : A1) (a2 : A2) (a3 : A3) (a4 : A4) (a5 : A5) (a6 : A6) (a7 : A7) (a8 : A8) (a9 : A9) (a10 : A10) (a11 : A11) (a12 : A12), I a1 a2 a3 a4 a5 a6 a7 a8 a9 a10 a11 a12 → (∀ (b1 : A1) (b2 : A2) (b3 : A3) (b4 : A4) (b5 : A5) (b6 : A6) (b7 : A7) (b8 : A8) (b9 : A9) (b10 : A10) (b11 : A11) (b12 : A12), I b1 b2 b3 b4 b5 b6 b7 b8 b9 b10 b11 b12 → μ b1 b2 b3 b4 b5 b6 b7 b8 b9 b10 b11 b12 < μ a1 a2 a3 a4 a5 a6 a7 a8 a9 a10 a11 a12 → W n b1 b2 b3 b4 b5 b6 b7 b8 b9 b10 b11 b12) → W (n + 1) a1 a2 a3 a4 a5 a6 a7 a8 a9 a10 a11 a12) (a1 : A1) (a2 : A2) (a3 : A3) (a4 : A4) (a5 : A5) (a6 : A6) (a7 : A7) (a8 : A8) (a9 : A9) (a10 : A10) (a11 : A11) (a12 : A12) (h : I a1 a2 a3 a4 a5 a6 a7 a8 a9 a10 a11 a12) : ∃ n, W n a1 a2 a3 a4 a5 a6 a7 a8 a9 a10 a11 a12 :=
  loop_m (σ := A1 × A2 × A3 × A4 × A5 × A6 × A7 × A8 × A9 × A10 × A11 × A12) (fun n s => W n s.1 s.2.1 s.2.2.1 s.2.2.2.1 s.2.2.2.2.1 s.2.2.2.2.2.1 s.2.2.2.2.2.2.1 s.2.2.2.2.2.2.2.1 s.2.2.2.2.2.2.2.2.1 s.2.2.2.2.2.2.2.2.2.1 s.2.2.2.2.2.2.2.2.2.2.1 s.2.2.2.2.2.2.2.2.2.2.2) (fun s => I s.1 s.2.1 s.2.2.1 s.2.2.2.1 s.2.2.2.2.1 s.2.2.2.2.2.1 s.2.2.2.2.2.2.1 s.2.2.2.2.2.2.2.1 s.2.2.2.2.2.2.2.2.1 s.2.2.2.2.2.2.2.2.2.1 s.2.2.2.2.2.2.2.2.2.2.1 s.2.2.2.2.2.2.2.2.2.2.2) (fun s => μ s.1 s.2.1 s.2.2.1 s.2.2.2.1 s.2.2.2.2.1 s.2.2.2.2.2.1 s.2.2.2.2.2.2.1 s.2.2.2.2.2.2.2.1 s.2.2.2.2.2.2.2.2.1 s.2.2.2.2.2.2.2.2.2.1 s.2.2.2.2.2.2.2.2.2.2.1 s.2.2.2.2.2.2.2.2.2.2.2) (fun n s hI hk => hs n s.1 s.2.1 s.2.2.1 s.2.2.2.1 s.2.2.2.2.1 s.2.2.2.2.2.1 s.2.2.2.2.2.2.1 s.2.2.2.2.2.2.2.1 s.2.2.2.2.2.2.2.2.1 s.2.2.2.2.2.2.2.2.2.1 s.2.2.2.2.2.2.2.2.2.2.1 s.2.2.2.2.2.2.2.2.2.2.2 hI (fun b1 b2 b3 b4 b5 b6 b7 b8 b9 b10 b11 b12 h9 hm => hk (b1, b2, b3, b4, b5, b6, b7, b8, b9, b10, b11, b12) h9 hm)) (a1, a2, a3, a4, a5, a6, a7, a8, a9, a10, a11, a12) h
theorem lp13 {A1 A2 A3 A4 A5 A6 A7 A8 A9 A10 A11 A12 A13 : Type} (W : Nat → A1 → A2 → A3 → A4 → A5 → A6 → A7 → A8 → A9 → A10 → A11 → A12 → A13 → Prop) (I : A1 → A2 → A3 → A4 → A5 → A6 → A7 → A8 → A9 → A10 → A11 → A12 → A13 → Prop) (μ : A1 → A2 → A3 → A4 → A5 → A6 → A7 → A8 → A9 → A10 → A11 → A12 → A13 → Nat) (hs : ∀ (n : Nat) (a1 : A1) (a2 : A2) (a3 : A3) (a4 : A4) (a5 : A5) (a6 : A6) (a7 : A7) (a8 : A8) (a9 : A9) (a10 : A10) (a11 : A11) (a12 : A12) (a13 : A13), I a1 a2 a3 a4 a5 a6 a7 a8 a9 a10 a11 a12 a13 → (∀ (b1 : A1) (b2 : A2) (b3 : A3) (b4 : A4) (b5 : A5) (b6 : A6) (b7 : A7) (b8 : A8) (b9 : A9) (b10 : A10) (b11 : A11) (b12 : A12) (b13 : A13), I b1 b2 b3 b4 b5 b6 b7 b8 b9 b10 b11 b12 b13 → μ b1 b2 b3 b4 b5 b6 b7 b8 b9 b10 b11 b12 b13 < μ a1 a2 a3 a4 a5 a6 a7 a8 a9 a10 a11 a12 a13 → W n b1 b2 b3 b4 b5 b6 b7 b8 b9 b10 b11 b12 b13) → W (n + 1) a1 a2 a3 a4 a5 a6 a7 a8 a9 a10 a11 a12 a13) (a1 : A1) (a2 : A2) (a3 : A3) (a4 : A4) (a5 : A5) (a6 : A6) (a7 : A7) (a8 : A8) (a9 : A9) (a10 : A10) (a11 : A11) (a12 : A12) (a13 : A13) (h : I a1 a2 a3 a4 a5 a6 a7 a8 a9 a10 a11 a12 a13) : ∃ n, W n a1 a2 a3 a4 a5 a6 a7 a8 a9 a10 a11 a12 a13 :=
  loop_m (σ := A1 × A2 × A3 × A4 × A5 × A6 × A7 × A8 × A9 × A10 × A11 × A12 × A13) (fun n s => W n s.1 s.2.1 s.2.2.1 s.2.2.2.1 s.2.2.2.2.1 s.2.2.2.2.2.1 s.2.2.2.2.2.2.1 s.2.2.2.2.2.2.2.1 s.2.2.2.2.2.2.2.2.1 s.2.2.2.2.2.2.2.2.2.1 s.2.2.2.2.2.2.2.2.2.2.1 s.2.2.2.2.2.2.2.2.2.2.2.1 s.2.2.2.2.2.2.2.2.2.2.2.2) (fun s => I s.1 s.2.1 s.2.2.1 s.2.2.2.1 s.2.2.2.2.1 s.2.2.2.2.2.1 s.2.2.2.2.2.2.1 s.2.2.2.2.2.2.2.1 s.2.2.2.2.2.2.2.2.1 s.2.2.2.2.2.2.2.2.2.1 s.2.2.2.2.2.2.2.2.2.2.1 s.2.2.2.2.2.2.2.2.2.2.2.1 s.2.2.2.2.2.2.2.2.2.2.2.2) (fun s => μ s.1 s.2.1 s.2.2.1 s.2.2.2.1 s.2.2.2.2.1 s.2.2.2.2.2.1 s.2.2.2.2.2.2.1 s.2.2.2.2.2.2.2.1 s.2.2.2.2.2.2.2.2.1 s.2.2.2.2.2.2.2.2.2.1 s.2.2.2.2.2.2.2.2.2.2.1 s.2.2.2.2.2.2.2.2.2.2.2.1 s.2.2.2.2.2.2.2.2.2.2.2.2) (fun n s hI hk => hs n s.1 s.2.1 s.2.2.1 s.2.2.2.1 s.2.2.2.2.1 s.2.2.2.2.2.1 s.2.2.2.2.2.2.1 s.2.2.2.2.2.2.2.1 s.2.2.2.2.2.2.2.2.1 s.2.2.2.2.2.2.2.2.2.1 s.2.2.2.2.2.2.2.2.2.2.1 s.2.2.2.2.2.2.2.2.2.2.2.1 s.2.2.2.2.2.2.2.2.2.2.2.2 hI (fun b1 b2 b3 b4 b5 b6 b7 b8 b9 b10 b11 b12 b13 h9 hm => hk (b1, b2, b3, b4, b5, b6, b7, b8, b9, b10, b11, b12, b13) h9 hm)) (a1, a2, a3, a4, a5, a6, a7, a8, a9, a10, a11, a12, a13) h
theorem lp14 {A1 A2 A3 A4 A5 A6 A7 A8 A9 A10 A11 A12 A13 A14 : Type} (W : Nat → A1 → A2 → A3 → A4 → A5 → A6 → A7 → A8 → A9 → A10 → A11 → A12 → A13 → A14 → Prop) (I : A1 → A2 → A3 → A4 → A5 → A6 → A7 → A8 → A9 → A10 → A11 → A12 → A13 → A14 → Prop) (μ : A1 → A2 → A3 → A4 → A5 → A6 → A7 → A8 → A9 → A10 → A11 → A12 → A13 → A14 → Nat) (hs : ∀ (n : Nat) (a1 : A1) (a2 : A2) (a3 : A3) (a4 : A4) (a5 : A5) (a6 : A6) (a7 : A7) (a8 : A8) (a9 : A9) (a10 : A10) (a11 : A11) (a12 : A12) (a13 : A13) (a14 : A14), I a1 a2 a3 a4 a5 a6 a7 a8 a9 a10 a11 a12 a13 a14 → (∀ (b1 : A1) (b2 : A2) (b3 : A3) (b4 : A4) (b5 : A5) (b6 : A6) (b7 : A7) (b8 : A8) (b9 : A9) (b10 : A10) (b11 : A11) (b12 : A12) (b13 : A13) (b14 : A14), I b1 b2 b3 b4 b5 b6 b7 b8 b9 b10 b11 b12 b13 b14 → μ b1 b2 b3 b4 b5 b6 b7 b8 b9 b10 b11 b12 b13 b14 < μ a1 a2 a3 a4 a5 a6 a7 a8 a9 a10 a11 a12 a13 a14 → W n b1 b2 b3 b4 b5 b6 b7 b8 b9 b10 b11 b12 b13 b14) → W (n + 1) a1 a2 a3 a4 a5 a6 a7 a8 a9 a10 a11 a12 a13 a14) (a1 : A1) (a2 : A2) (a3 : A3) (a4 : A4) (a5 : A5) (a6 : A6) (a7 : A7) (a8 : A8) (a9 : A9) (a10 : A10) (a11 : A11) (a12 : A12) (a13 : A13) (a14 : A14) (h : I a1 a2 a3 a4 a5 a6 a7 a8 a9 a10 a11 a12 a13 a14) : ∃ n, W n a1 a2 a3 a4 a5 a6 a7 a8 a9 a10 a11 a12 a13 a14 :=
  loop_m (σ := A1 × A2 × A3 × A4 × A5 × A6 × A7 × A8 × A9 × A10 × A11 × A12 × A13 × A14) (fun n s => W n s.1 s.2.1 s.2.2.1 s.2.2.2.1 s.2.2.2.2.1 s.2.2.2.2.2.1 s.2.2.2.2.2.2.1 s.2.2.2.2.2.2.2.1 s.2.2.2.2.2.2.2.2.1 s.2.2.2.2.2.2.2.2.2.1 s.2.2.2.2.2.2.2.2.2.2.1 s.2.2.2.2.2.2.2.2.2.2.2.1 s.2.2.2.2.2.2.2.2.2.2.2.2.1 s.2.2.2.2.2.2.2.2.2.2.2.2.2) (fun s => I s.1 s.2.1 s.2.2.1 s.2.2.2.1 s.2.2.2.2.1 s.2.2.2.2.2.1 s.2.2.2.2.2.2.1 s.2.2.2.2.2.2.2.1 s.2.2.2.2.2.2.2.2.1 s.2.2.2.2.2.2.2.2.2.1 s.2.2.2.2.2.2.2.2.2.2.1 s.2.2.2.2.2.2.2.2.2.2.2.1 s.2.2.2.2.2.2.2.2.2.2.2.2.1 s.2.2.2.2.2.2.2.2.2.2.2.2.2) (fun s => μ s.1 s.2.1 s.2.2.1 s.2.2.2.1 s.2.2.2.2.1 s.2.2.2.2.2.1 s.2.2.2.2.2.2.1 s.2.2.2.2.2.2.2.1 s.2.2.2.2.2.2.2.2.1 s.2.2.2.2.2.2.2.2.2.1 s.2.2.2.2.2.2.2.2.2.2.1 s.2.2.2.2.2.2.2.2.2.2.2.1 s.2.2.2.2.2.2.2.2.2.2.2.2.1 s.2.2.2.2.2.2.2.2.2.2.2.2.2) (fun n s hI hk => hs n s.1 s.2.1 s.2.2.1 s.2.2.2.1 s.2.2.2.2.1 s.2.2.2.2.2.1 s.2.2.2.2.2.2.1 s.2.2.2.2.2.2.2.1 s.2.2.2.2.2.2.2.2.1 s.2.2.2.2.2.2.2.2.2.1 s.2.2.2.2.2.2.2.2.2.2.1 s.2.2.2.2.2.2.2.2.2.2.2.1 s.2.2.2.2.2.2.2.2.2.2.2.2.1 s.2.2.2.2.2.2.2.2.2.2.2.2.2 hI (fun b1 b2 b3 b4 b5 b6 b7 b8 b9 b10 b11 b12 b13 b14 h9 hm => hk (b1, b2, b3, b4, b5, b6, b7, b8, b9, b10, b11, b12, b13, b14) h9 hm)) (a1, a2, a3, a4, a5, a6, a7, a8, a9, a10, a11, a12, a13, a14) h
theorem lp15 {A1 A2 A3 A4 A5 A6 A7 A8 A9 A10 A11 A12 A13 A14 A15 : Type} (W : Nat → A1 → A2 → A3 → A4 → A5 → A6 → A7 → A8 → A9 → A10 → A11 → A12 → A13 → A14 → A15 → Prop) (I : A1 → A2 → A3 → A4 → A5 → A6 → A7 → A8 → A9 → A10 → A11 → A12 → A13 → A14 → A15 → Prop) (μ : A1 → A2 → A3 → A4 → A5 → A6 → A7 → A8 → A9 → A10 → A11 → A12 → A13 → A14 → A15 → Nat) (hs : ∀ (n : Nat) (a1 : A1) (a2 : A2) (a3 : A3) (a4 : A4) (a5 : A5) (a6 : A6) (a7 : A7) (a8 : A8) (a9 : A9) (a10 : A10) (a11 : A11) (a12 : A12) (a13 : A13) (a14 : A14) (a15 : A15), I a1 a2 a3 a4 a5 a6 a7 a8 a9 a10 a11 a12 a13 a14 a15 → (∀ (b1 : A1) (b2 : A2) (b3 : A3) (b4 : A4) (b5 : A5) (b6 : A6) (b7 : A7) (b8 : A8) (b9 : A9) (b10 : A10) (b11 : A11) (b12 : A12) (b13 : A13) (b14 : A14) (b15 : A15), I b1 b2 b3 b4 b5 b6 b7 b8 b9 b10 b11 b12 b13 b14 b15 → μ b1 b2 b3 b4 b5 b6 b7 b8 b9 b10 b11 b12 b13 b14 b15 < μ a1 a2 a3 a4 a5 a6 a7 a8 a9 a10 a11 a12 a13 a14 a15 → W n b1 b2 b3 b4 b5 b6 b7 b8 b9 b10 b11 b12 b13 b14 b15) → W (n + 1) a1 a2 a3 a4 a5 a6 a7 a8 a9 a10 a11 a12 a13 a14 a15) (a1 : A1) (a2 : A2) (a3 : A3) (a4 : A4) (a5 : A5) (a6 : A6) (a7 : A7) (a8 : A8) (a9 : A9) (a10 : A10) (a11 : A11) (a12 : A12) (a13 : A13) (a14 : A14) (a15 : A15) (h : I a1 a2 a3 a4 a5 a6 a7 a8 a9 a10 a11 a12 a13 a14 a15) : ∃ n, W n a1 a2 a3 a4 a5 a6 a7 a8 a9 a10 a11 a12 a13 a14 a15 :=
  loop_m (σ := A1 × A2 × A3 × A4 × A5 × A6 × A7 × A8 × A9 × A10 × A11 × A12 × A13 × A14 × A15) (fun n s => W n s.1 s.2.1 s.2.2.1 s.2.2.2.1 s.2.2.2.2.1 s.2.2.2.2.2.1 s.2.2.2.2.2.2.1 s.2.2.2.2.2.2.2.1 s.2.2.2.2.2.2.2.2.1 s.2.2.2.2.2.2.2.2.2.1 s.2.2.2.2.2.2.2.2.2.2.1 s.2.2.2.2.2.2.2.2.2.2.2.1 s.2.2.2.2.2.2.2.2.2.2.2.2.1 s.2.2.2.2.2.2.2.2.2.2.2.2.2.1 s.2.2.2.2.2.2.2.2.2.2.2.2.2.2) (fun s => I s.1 s.2.1 s.2.2.1 s.2.2.2.1 s.2.2.2.2.1 s.2.2.2.2.2.1 s.2.2.2.2.2.2.1 s.2.2.2.2.2.2.2.1 s.2.2.2.2.2.2.2.2.1 s.2.2.2.2.2.2.2.2.2.1 s.2.2.2.2.2.2.2.2.2.2.1 s.2.2.2.2.2.2.2.2.2.2.2.1 s.2.2.2.2.2.2.2.2.2.2.2.2.1 s.2.2.2.2.2.2.2.2.2.2.2.2.2.1 s.2.2.2.2.2.2.2.2.2.2.2.2.2.2) (fun s => μ s.1 s.2.1 s.2.2.1 s.2.2.2.1 s.2.2.2.2.1 s.2.2.2.2.2.1 s.2.2.2.2.2.2.1 s.2.2.2.2.2.2.2.1 s.2.2.2.2.2.2.2.2.1 s.2.2.2.2.2.2.2.2.2.1 s.2.2.2.2.2.2.2.2.2.2.1 s.2.2.2.2.2.2.2.2.2.2.2.1 s.2.2.2.2.2.2.2.2.2.2.2.2.1 s.2.2.2.2.2.2.2.2.2.2.2.2.2.1 s.2.2.2.2.2.2.2.2.2.2.2.2.2.2) (fun n s hI hk => hs n s.1 s.2.1 s.2.2.1 s.2.2.2.1 s.2.2.2.2.1 s.2.2.2.2.2.1 s.2.2.2.2.2.2.1 s.2.2.2.2.2.2.2.1 s.2.2.2.2.2.2.2.2.1 s.2.2.2.2.2.2.2.2.2.1 s.2.2.2.2.2.2.2.2.2.2.1 s.2.2.2.2.2.2.2.2.2.2.2.1 s.2.2.2.2.2.2.2.2.2.2.2.2.1 s.2.2.2.2.2.2.2.2.2.2.2.2.2.1 s.2.2.2.2.2.2.2.2.2.2.2.2.2.2 hI (fun b1 b2 b3 b4 b5 b6 b7 b8 b9 b10 b11 b12 b13 b14 b15 h9 hm => hk (b1, b2, b3, b4, b5, b6, b7, b8, b9, b10, b11, b12, b13, b14, b15) h9 hm)) (a1, a2, a3, a4, a5, a6, a7, a8, a9, a10, a11, a12, a13, a14, a15) h
theorem lp16 {A1 A2 A3 A4 A5 A6 A7 A8 A9 A10 A11 A12 A13 A14 A15 A16 : Type} (W : Nat → A1 → A2 → A3 → A4 → A5 → A6 → A7 → A8 → A9 → A10 → A11 → A12 → A13 → A14 → A15 → A16 → Prop) (I : A1 → A2 → A3 → A4 → A5 → A6 → A7 → A8 → A9 → A10 → A11 → A12 → A13 → A14 → A15 → A16 → Prop) (μ : A1 → A2 → A3 → A4 → A5 → A6 → A7 → A8 → A9 → A10 → A11 → A12 → A13 → A14 → A15 → A16 → Nat) (hs : ∀ (n : Nat) (a1 : A1) (a2 : A2) (a3 : A3) (a4 : A4) (a5 : A5) (a6 : A6) (a7 : A7) (a8 : A8) (a9 : A9) (a10 : A10) (a11 : A11) (a12 : A12) (a13 : A13) (a14 : A14) (a15 : A15) (a16 : A16), I a1 a2 a3 a4 a5 a6 a7 a8 a9 a10 a11 a12 a13 a14 a15 a16 → (∀ (b1 : A1) (b2 : A2) (b3 : A3) (b4 : A4) (b5 : A5) (b6 : A6) (b7 : A7) (b8 : A8) (b9 : A9) (b10 : A10) (b11 : A11) (b12 : A12) (b13 : A13) (b14 : A14) (b15 : A15) (b16 : A16), I b1 b2 b3 b4 b5 b6 b7 b8 b9 b10 b11 b12 b13 b14 b15 b16 → μ b1 b2 b3 b4 b5 b6 b7 b8 b9 b10 b11 b12 b13 b14 b15 b16 < μ a1 a2 a3 a4 a5 a6 a7 a8 a9 a10 a11 a12 a13 a14 a15 a16 → W n b1 b2 b3 b4 b5 b6 b7 b8 b9 b10 b11 b12 b13 b14 b15 b16) → W (n + 1) a1 a2 a3 a4 a5 a6 a7 a8 a9 a10 a11 a12 a13 a14 a15 a16) (a1 : A1) (a2 : A2) (a3 : A3) (a4 : A4) (a5 : A5) (a6 : A6) (a7 : A7) (a8 : A8) (a9 : A9) (a10 : A10) (a11 : A11) (a12 : A12) (a13 : A13) (a14 : A14) (a15 : A15) (a16 : A16) (h : I a1 a2 a3 a4 a5 a6 a7 a8 a9 a10 a11 a12 a13 a14 a15 a16) : ∃ n, W n a1 a2 a3 a4 a5 a6 a7 a8 a9 a10 a11 a12 a13 a14 a15 a16 :=
  loop_m (σ := A1 × A2 × A3 × A4 × A5 × A6 × A7 × A8 × A9 × A10 × A11 × A12 × A13 × A14 × A15 × A16) (fun n s => W n s.1 s.2.1 s.2.2.1 s.2.2.2.1 s.2.2.2.2.1 s.2.2.2.2.2.1 s.2.2.2.2.2.2.1 s.2.2.2.2.2.2.2.1 s.2.2.2.2.2.2.2.2.1 s.2.2.2.2.2.2.2.2.2.1 s.2.2.2.2.2.2.2.2.2.2.1 s.2.2.2.2.2.2.2.2.2.2.2.1 s.2.2.2.2.2.2.2.2.2.2.2.2.1 s.2.2.2.2.2.2.2.2.2.2.2.2.2.1 s.2.2.2.2.2.2.2.2.2.2.2.2.2.2.1 s.2.2.2.2.2.2.2.2.2.2.2.2.2.2.2) (fun s => I s.1 s.2.1 s.2.2.1 s.2.2.2.1 s.2.2.2.2.1 s.2.2.2.2.2.1 s.2.2.2.2.2.2.1 s.2.2.2.2.2.2.2.1 s.2.2.2.2.2.2.2.2.1 s.2.2.2.2.2.2.2.2.2.1 s.2.2.2.2.2.2.2.2.2.2.1 s.2.2.2.2.2.2.2.2.2.2.2.1 s.2.2.2.2.2.2.2.2.2.2.2.2.1 s.2.2.2.2.2.2.2.2.2.2.2.2.2.1 s.2.2.2.2.2.2.2.2.2.2.2.2.2.2.1 s.2.2.2.2.2.2.2.2.2.2.2.2.2.2.2) (fun s => μ s.1 s.2.1 s.2.2.1 s.2.2.2.1 s.2.2.2.2.1 s.2.2.2.2.2.1 s.2.2.2.2.2.2.1 s.2.2.2.2.2.2.2.1 s.2.2.2.2.2.2.2.2.1 s.2.2.2.2.2.2.2.2.2.1 s.2.2.2.2.2.2.2.2.2.2.1 s.2.2.2.2.2.2.2.2.2.2.2.1 s.2.2.2.2.2.2.2.2.2.2.2.2.1 s.2.2.2.2.2.2.2.2.2.2.2.2.2.1 s.2.2.2.2.2.2.2.2.2.2.2.2.2.2.1 s.2.2.2.2.2.2.2.2.2.2.2.2.2.2.2) (fun n s hI hk => hs n s.1 s.2.1 s.2.2.1 s.2.2.2.1 s.2.2.2.2.1 s.2.2.2.2.2.1 s.2.2.2.2.2.2.1 s.2.2.2.2.2.2.2.1 s.2.2.2.2.2.2.2.2.1 s.2.2.2.2.2.2.2.2.2.1 s.2.2.2.2.2.2.2.2.2.2.1 s.2.2.2.2.2.2.2.2.2.2.2.1 s.2.2.2.2.2.2.2.2.2.2.2.2.1 s.2.2.2.2.2.2.2.2.2.2.2.2.2.1 s.2.2.2.2.2.2.2.2.2.2.2.2.2.2.1 s.2.2.2.2.2.2.2.2.2.2.2.2.2.2.2 hI (fun b1 b2 b3 b4 b5 b6 b7 b8 b9 b10 b11 b12 b13 b14 b15 b16 h9 hm => hk (b1, b2, b3, b4, b5, b6, b7, b8, b9, b10, b11, b12, b13, b14, b15, b16) h9 hm)) (a1, a2, a3, a4, a5, a6, a7, a8, a9, a10, a11, a12, a13, a14, a15, a16) h
theorem pk_least (P : Nat → Prop) (h : ∃ k, P k) : ∃ k, P k ∧ ∀ j, j < k → ¬ P j := by
  obtain ⟨k, hk⟩ := h
  induction k using Nat.strongRecOn with
  | ind k ih =>
    by_cases e : ∃ j, j < k ∧ P j
    · obtain ⟨j, hj, pj⟩ := e
      exact ih j hj pj
    · exact ⟨k, hk, fun j hj pj => e ⟨j, hj, pj⟩⟩
theorem rp1 {ρ A1 : Type} (W : Nat → (ρ → Prop) → A1 → Prop) (ok : A1 → Prop) (μ : A1 → Nat) (val : A1 → ρ)
    (hs : ∀ (d : Nat) (post : ρ → Prop) (a1 : A1), ok a1 → post (val a1) → (∀ (post' : ρ → Prop) (b1 : A1), ok b1 → μ b1 < μ a1 → post' (val b1) → W d post' b1) → W (d + 1) post a1) :
    ∀ (d : Nat) (post : ρ → Prop) (a1 : A1), ok a1 → μ a1 < d → post (val a1) → W d post a1 := by
  intro d
  induction d with
  | zero => intro post a1 _ h; omega
  | succ d ih =>
    intro post a1 ho hm hp
    exact hs d post a1 ho hp (fun post' b1 ho' hm' hp' => ih post' b1 ho' (by omega) hp')
theorem rp2 {ρ A1 A2 : Type} (W : Nat → (ρ → Prop) → A1 → A2 → Prop) (ok : A1 → A2 → Prop) (μ : A1 → A2 → Nat) (val : A1 → A2 → ρ)
    (hs : ∀ (d : Nat) (post : ρ → Prop) (a1 : A1) (a2 : A2), ok a1 a2 → post (val a1 a2) → (∀ (post' : ρ → Prop) (b1 : A1) (b2 : A2), ok b1 b2 → μ b1 b2 < μ a1 a2 → post' (val b1 b2) → W d post' b1 b2) → W (d + 1) post a1 a2) :
    ∀ (d : Nat) (post : ρ → Prop) (a1 : A1) (a2 : A2), ok a1 a2 → μ a1 a2 < d → post (val a1 a2) → W d post a1 a2 := by
  intro d
  induction d with
  | zero => intro post a1 a2 _ h; omega
  | succ d ih =>
    intro post a1 a2 ho hm hp
    exact hs d post a1 a2 ho hp (fun post' b1 b2 ho' hm' hp' => ih post' b1 b2 ho' (by omega) hp')
theorem rp3 {ρ A1 A2 A3 : Type} (W : Nat → (ρ → Prop) → A1 → A2 → A3 → Prop) (ok : A1 → A2 → A3 → Prop) (μ : A1 → A2 → A3 → Nat) (val : A1 → A2 → A3 → ρ)
    (hs : ∀ (d : Nat) (post : ρ → Prop) (a1 : A1) (a2 : A2) (a3 : A3), ok a1 a2 a3 → post (val a1 a2 a3) → (∀ (post' : ρ → Prop) (b1 : A1) (b2 : A2) (b3 : A3), ok b1 b2 b3 → μ b1 b2 b3 < μ a1 a2 a3 → post' (val b1 b2 b3) → W d post' b1 b2 b3) → W (d + 1) post a1 a2 a3) :
    ∀ (d : Nat) (post : ρ → Prop) (a1 : A1) (a2 : A2) (a3 : A3), ok a1 a2 a3 → μ a1 a2 a3 < d → post (val a1 a2 a3) → W d post a1 a2 a3 := by
  intro d
  induction d with
  | zero => intro post a1 a2 a3 _ h; omega
  | succ d ih =>
    intro post a1 a2 a3 ho hm hp
    exact hs d post a1 a2 a3 ho hp (fun post' b1 b2 b3 ho' hm' hp' => ih post' b1 b2 b3 ho' (by omega) hp')
theorem rp4 {ρ A1 A2 A3 A4 : Type} (W : Nat → (ρ → Prop) → A1 → A2 → A3 → A4 → Prop) (ok : A1 → A2 → A3 → A4 → Prop) (μ : A1 → A2 → A3 → A4 → Nat) (val : A1 → A2 → A3 → A4 → ρ)
    (hs : ∀ (d : Nat) (post : ρ → Prop) (a1 : A1) (a2 : A2) (a3 : A3) (a4 : A4), ok a1 a2 a3 a4 → post (val a1 a2 a3 a4) → (∀ (post' : ρ → Prop) (b1 : A1) (b2 : A2) (b3 : A3) (b4 : A4), ok b1 b2 b3 b4 → μ b1 b2 b3 b4 < μ a1 a2 a3 a4 → post' (val b1 b2 b3 b4) → W d post' b1 b2 b3 b4) → W (d + 1) post a1 a2 a3 a4) :
    ∀ (d : Nat) (post : ρ → Prop) (a1 : A1) (a2 : A2) (a3 : A3) (a4 : A4), ok a1 a2 a3 a4 → μ a1 a2 a3 a4 < d → post (val a1 a2 a3 a4) → W d post a1 a2 a3 a4 := by
  intro d
  induction d with
  | zero => intro post a1 a2 a3 a4 _ h; omega
  | succ d ih =>
    intro post a1 a2 a3 a4 ho hm hp
    exact hs d post a1 a2 a3 a4 ho hp (fun post' b1 b2 b3 b4 ho' hm' hp' => ih post' b1 b2 b3 b4 ho' (by omega) hp')
theorem rp5 {ρ A1 A2 A3 A4 A5 : Type} (W : Nat → (ρ → Prop) → A1 → A2 → A3 → A4 → A5 → Prop) (ok : A1 → A2 → A3 → A4 → A5 → Prop) (μ : A1 → A2 → A3 → A4 → A5 → Nat) (val : A1 → A2 → A3 → A4 → A5 → ρ)
    (hs : ∀ (d : Nat) (post : ρ → Prop) (a1 : A1) (a2 : A2) (a3 : A3) (a4 : A4) (a5 : A5), ok a1 a2 a3 a4 a5 → post (val a1 a2 a3 a4 a5) → (∀ (post' : ρ → Prop) (b1 : A1) (b2 : A2) (b3 : A3) (b4 : A4) (b5 : A5), ok b1 b2 b3 b4 b5 → μ b1 b2 b3 b4 b5 < μ a1 a2 a3 a4 a5 → post' (val b1 b2 b3 b4 b5) → W d post' b1 b2 b3 b4 b5) → W (d + 1) post a1 a2 a3 a4 a5) :
    ∀ (d : Nat) (post : ρ → Prop) (a1 : A1) (a2 : A2) (a3 : A3) (a4 : A4) (a5 : A5), ok a1 a2 a3 a4 a5 → μ a1 a2 a3 a4 a5 < d → post (val a1 a2 a3 a4 a5) → W d post a1 a2 a3 a4 a5 := by
  intro d
  induction d with
  | zero => intro post a1 a2 a3 a4 a5 _ h; omega
  | succ d ih =>
    intro post a1 a2 a3 a4 a5 ho hm hp
    exact hs d post a1 a2 a3 a4 a5 ho hp (fun post' b1 b2 b3 b4 b5 ho' hm' hp' => ih post' b1 b2 b3 b4 b5 ho' (by omega) hp')
theorem rp6 {ρ A1 A2 A3 A4 A5 A6 : Type} (W : Nat → (ρ → Prop) → A1 → A2 → A3 → A4 → A5 → A6 → Prop) (ok : A1 → A2 → A3 → A4 → A5 → A6 → Prop) (μ : A1 → A2 → A3 → A4 → A5 → A6 → Nat) (val : A1 → A2 → A3 → A4 → A5 → A6 → ρ)
    (hs : ∀ (d : Nat) (post : ρ → Prop) (a1 : A1) (a2 : A2) (a3 : A3) (a4 : A4) (a5 : A5) (a6 : A6), ok a1 a2 a3 a4 a5 a6 → post (val a1 a2 a3 a4 a5 a6) → (∀ (post' : ρ → Prop) (b1 : A1) (b2 : A2) (b3 : A3) (b4 : A4) (b5 : A5) (b6 : A6), ok b1 b2 b3 b4 b5 b6 → μ b1 b2 b3 b4 b5 b6 < μ a1 a2 a3 a4 a5 a6 → post' (val b1 b2 b3 b4 b5 b6) → W d post' b1 b2 b3 b4 b5 b6) → W (d + 1) post a1 a2 a3 a4 a5 a6) :
    ∀ (d : Nat) (post : ρ → Prop) (a1 : A1) (a2 : A2) (a3 : A3) (a4 : A4) (a5 : A5) (a6 : A6), ok a1 a2 a3 a4 a5 a6 → μ a1 a2 a3 a4 a5 a6 < d → post (val a1 a2 a3 a4 a5 a6) → W d post a1 a2 a3 a4 a5 a6 := by
  intro d
  induction d with
  | zero => intro post a1 a2 a3 a4 a5 a6 _ h; omega
  | succ d ih =>
    intro post a1 a2 a3 a4 a5 a6 ho hm hp
    exact hs d post a1 a2 a3 a4 a5 a6 ho hp (fun post' b1 b2 b3 b4 b5 b6 ho' hm' hp' => ih post' b1 b2 b3 b4 b5 b6 ho' (by omega) hp')
theorem rec_p {σ ρ : Type} (W : Nat → (ρ → Prop) → σ → Prop) (ok : σ → Prop) (μ : σ → Nat) (val : σ → ρ)
    (hs : ∀ d s post, ok s → post (val s) → (∀ s' post', ok s' → μ s' < μ s → post' (val s') → W d post' s') → W (d + 1) post s) :
    ∀ d s post, ok s → μ s < d → post (val s) → W d post s := by
  intro d
  induction d with
  | zero => intro s post _ h; omega
  | succ d ih =>
    intro s post ho hm hp
    exact hs d s post ho hp (fun s' post' ho' hm' hp' => ih s' post' ho' (by omega) hp')
theorem rec_q {σ ρ : Type} (W : Nat → (ρ → Prop) → σ → Prop) (ok : σ → Prop) (μ : σ → Nat) (Q : σ → ρ → Prop)
    (hs : ∀ d s post, ok s → (∀ r, Q s r → post r) → (∀ s' post', ok s' → μ s' < μ s → (∀ r, Q s' r → post' r) → W d post' s') → W (d + 1) post s) :
    ∀ d s post, ok s → μ s < d → (∀ r, Q s r → post r) → W d post s := by
  intro d
  induction d with
  | zero => intro s post _ h; omega
  | succ d ih =>
    intro s post ho hm hp
    exact hs d s post ho hp (fun s' post' ho' hm' hp' => ih s' post' ho' (by omega) hp')
def bx_sum (f : Nat → Int32) : Nat → Int32
  | 0 => 0
  | n + 1 => bx_sum f n + f n
theorem ek_u {A : Prop} {B : Nat → Prop} {k N : Nat} (hk : k < N) (h : B k) : (some k = none → A) ∧ (∀ y : Nat, some k = some y → (y < N ∧ B y)) :=
  ⟨fun z => absurd z (Option.some_ne_none k), fun _ e => (by cases e; exact ⟨hk, h⟩)⟩
theorem ek_nu {A : Prop} {B : Nat → Prop} (h : A) : ((none : Option Nat) = none → A) ∧ (∀ y : Nat, (none : Option Nat) = some y → B y) :=
  ⟨fun _ => h, fun _ e => (by cases e)⟩
theorem ek_if {c d A B : Prop} (e : c ↔ d) (f : d → A) (g : ¬ d → B) : (c → A) ∧ (¬ c → B) :=
  ⟨fun z => f (e.mp z), fun z => g (fun y => z (e.mpr y))⟩
theorem ek_v {α : Sort _} {P : α → Prop} {a b : α} (e : a = b) (h : P b) : P a := e ▸ h
theorem co_some {x : Option Nat} {A : Prop} {B : Nat → Prop} (i : Nat) (h : B i) (hx : x = some i := by rfl) : (x = none → A) ∧ (∀ y : Nat, x = some y → B y) := by
  subst hx
  exact ⟨fun e => (nomatch e), fun y e => Option.some.inj e ▸ h⟩
theorem co_none {x : Option Nat} {A : Prop} {B : Nat → Prop} (h : A) (hx : x = none := by rfl) : (x = none → A) ∧ (∀ y : Nat, x = some y → B y) := by
  subst hx
  exact ⟨fun _ => h, fun y e => (nomatch e)⟩
theorem co_any {x : Option Nat} {A : Prop} {B : Nat → Prop} (hn : x = none → A) (hs : ∀ i : Nat, x = some i → B i) : (x = none → A) ∧ (∀ y : Nat, x = some y → B y) := ⟨hn, hs⟩
theorem co_2 {P : Nat → Prop} (h0 : P 0) (h1 : P 1) {i : Nat} (hi : i < 2) : P i :=
  match i, hi with
  | 0, _ => h0
  | 1, _ => h1
theorem co_3 {P : Nat → Prop} (h0 : P 0) (h1 : P 1) (h2 : P 2) {i : Nat} (hi : i < 3) : P i :=
  match i, hi with
  | 0, _ => h0
  | 1, _ => h1
  | 2, _ => h2
theorem co_4 {P : Nat → Prop} (h0 : P 0) (h1 : P 1) (h2 : P 2) (h3 : P 3) {i : Nat} (hi : i < 4) : P i :=
  match i, hi with
  | 0, _ => h0
  | 1, _ => h1
  | 2, _ => h2
  | 3, _ => h3
theorem co_dec {N : Nat} {P : Nat → Prop} [DecidablePred P] (h : (List.range N).all (fun i => decide (P i)) = true) {i : Nat} (hi : i < N) : P i := by
  have := List.all_eq_true.mp h i (List.mem_range.mpr hi)
  exact of_decide_eq_true this
theorem co_tab {α : Type} {l : List α} {d : α} {P : α → Prop} (h : ∀ a, a ∈ l → P a) {i : Nat} (hi : i < l.length) : P (l.getD i d) := by
  rw [List.getD_eq_getElem?_getD, List.getElem?_eq_getElem hi]
  exact h _ (List.getElem_mem hi)
theorem pk_mu {x : Int32} {L : Nat} (h0 : ¬ x < 0) (h : ¬ nI L ≤ x) (hL : L < 2 ^ 31) : ∃ j : Nat, j < L ∧ x = nI j ∧ x + 1 = nI (j + 1) ∧ x.toNatClampNeg = j ∧ L - (x + 1).toNatClampNeg < L - x.toNatClampNeg := by
  obtain ⟨j, hj, rfl⟩ := nI_of h0
  have hl : j < L := Nat.not_le.mp fun q => h (nI_le q hj)
  refine ⟨j, hl, rfl, nI_1 j, nI_clamp hj, ?_⟩
  rw [nI_1, nI_clamp (by omega), nI_clamp hj]
  omega
theorem op_s {α : Type} {r : Option α} {A : Prop} {B : α → Prop} {y : α} (h : r = some y) (b : B y) : (r = none → A) ∧ ∀ z, r = some z → B z :=
  ⟨fun e => (by rw [h] at e; cases e), fun z e => (by rw [h] at e; cases e; exact b)⟩
def l_holds {α : Type} (a : Nat → Option Nat) (LP : List Nat) (p : Nat → α) (c : Nat) (b : Nat → α) : Prop :=
  ∀ j, j < c → ∃ y, a j = some y ∧ y ∈ LP ∧ p y = b j
theorem l_holds_0 {α : Type} {a : Nat → Option Nat} {LP : List Nat} {p b : Nat → α} : l_holds a LP p 0 b := fun j h => absurd h (Nat.not_lt_zero j)
theorem l_in_new (LP : List Nat) (q : Nat) : q ∈ LP ++ [q] := List.mem_append.mpr (Or.inr (List.mem_singleton.mpr rfl))
def l_sum (b : Nat → Int32) : Nat → Int32
  | 0 => 0
  | k + 1 => l_sum b k + b k
theorem sb_shr0 (x : Int32) : x >>> ((0 : Int32) &&& 31) = x := by
  rw [show ((0 : Int32) &&& 31) = 0 by decide]
  simp
theorem sb_shl0 (x : Int32) : x <<< ((0 : Int32) &&& 31) = x := by
  rw [show ((0 : Int32) &&& 31) = 0 by decide]
  simp
theorem sb_cl0 : (0 : Int32).toNatClampNeg = 0 := by decide
theorem sb_m1 {p : Nat} (h : 0 < p) : nI p + (-1) = nI (p - 1) := by
  obtain ⟨q, rfl⟩ : ∃ q, p = q + 1 := ⟨p - 1, by omega⟩
  exact pk_m1 q
def sb_b (c : Nat) : Int32 := (nI c).toInt8.toInt32
theorem sb_byte : ∀ c, c < 256 → sb_b c &&& 255 = nI c ∧ ((nI c).toUInt32 % 65536).toInt32 = nI c ∧ nI c ≤ 255 := by decide +kernel
def sb_Fit (a : Nat → Int32) : Prop := ∀ j, fits .byte (.int (a j)) = true
def sb_Lat (t : Nat → Nat) (n : Nat) (a : Nat → Int32) : Prop := ∀ j, j < n → t j < 256 ∧ a j = sb_b (t j)
theorem sb_fitB (c : Nat) : fits .byte (.int (sb_b c)) = true := pk_fb _
theorem sb_fit0 : sb_Fit (fun _ => 0) := fun _ => by
  show fits .byte (.int 0) = true
  decide
theorem sb_fitU {a : Nat → Int32} {k : Nat} {x : Int32} (h : sb_Fit a) (hx : fits .byte (.int x) = true) : sb_Fit (upd a k x) := by
  intro j
  by_cases e : j = k
  · subst e
    rw [pk_us]
    exact hx
  · rw [pk_un e]
    exact h j
def sb_cat (t : Nat → Nat) (n : Nat) (s : Nat → Nat) : Nat → Nat := fun j => if j < n then t j else s (j - n)
theorem sb_cat_lo {t s : Nat → Nat} {n j : Nat} (h : j < n) : sb_cat t n s j = t j := if_pos h
theorem sb_cat_hi {t s : Nat → Nat} {n j : Nat} : sb_cat t n s (n + j) = s j := by
  show (if n + j < n then t (n + j) else s (n + j - n)) = s j
  rw [if_neg (by omega), Nat.add_sub_cancel_left]
theorem sb_latPut {t s : Nat → Nat} {n w : Nat} {a a' : Nat → Int32} (h : sb_Lat t n a) (hk : ∀ j, j < n → a' j = a j) (hs : ∀ i, i < w → s i < 256 ∧ a' (n + i) = sb_b (s i)) : sb_Lat (sb_cat t n s) (n + w) a' := by
  intro j hj
  by_cases e : j < n
  · rw [sb_cat_lo e, hk j e]
    exact h j e
  · obtain ⟨i, rfl⟩ : ∃ i, j = n + i := ⟨j - n, by omega⟩
    rw [sb_cat_hi]
    exact hs i (by omega)
theorem sb_latKeep {t : Nat → Nat} {n : Nat} {a a' : Nat → Int32} (h : sb_Lat t n a) (hk : ∀ j, j < n → a' j = a j) : sb_Lat t n a' := fun j hj => by
  rw [hk j hj]
  exact h j hj
def sb_cap (q m : Nat) : Nat := if q ≤ m then m else if 2 * m + 2 < q then q else 2 * m + 2
def sb_Room (q m mc ms : Nat) : Prop := q ≤ m ∨ (1 ≤ mc ∧ sb_cap q m ≤ ms ∧ sb_cap q m ≤ 65536)
theorem sb_cap_ge (q m : Nat) : q ≤ sb_cap q m := by
  unfold sb_cap
  split
  · omega
  · split <;> omega
theorem sb_cap_gem (q m : Nat) : m ≤ sb_cap q m := by
  unfold sb_cap
  split
  · omega
  · split <;> omega
theorem sb_cap_le {q m mc ms : Nat} (hm : m ≤ 65536) (hr : sb_Room q m mc ms) : sb_cap q m ≤ 65536 := by
  rcases hr with h | h
  · rw [sb_cap, if_pos h]
    exact hm
  · exact h.2.2
theorem sb_at {P : Int32 → Prop} {x y : Int32} (e : x = y) (h : P y) : P x := e ▸ h
def sb_dg (w : Nat) : Nat := if w < 10 then 1 else if w < 100 then 2 else if w < 1000 then 3 else if w < 10000 then 4 else if w < 100000 then 5 else if w < 1000000 then 6 else if w < 10000000 then 7 else if w < 100000000 then 8 else if w < 1000000000 then 9 else 10
def sb_dec (v : Nat) : Nat → Nat := fun i => 48 + v / 10 ^ (sb_dg v - 1 - i) % 10
theorem sb_dg_in (w : Nat) : 1 ≤ sb_dg w ∧ sb_dg w ≤ 10 := by
  unfold sb_dg
  constructor <;> (repeat' split) <;> omega
theorem sb_dg100 {w : Nat} (h : 100 ≤ w) (hw : w < 2 ^ 31) : sb_dg w = sb_dg (w / 100) + 2 := by
  rw [sb_dg, sb_dg, if_neg (show ¬ w < 10 by omega), if_neg (show ¬ w < 100 by omega)]
  by_cases h3 : w < 1000
  · rw [if_pos h3, if_pos (show w / 100 < 10 by omega)]
  rw [if_neg h3, if_neg (show ¬ w / 100 < 10 by omega)]
  by_cases h4 : w < 10000
  · rw [if_pos h4, if_pos (show w / 100 < 100 by omega)]
  rw [if_neg h4, if_neg (show ¬ w / 100 < 100 by omega)]
  by_cases h5 : w < 100000
  · rw [if_pos h5, if_pos (show w / 100 < 1000 by omega)]
  rw [if_neg h5, if_neg (show ¬ w / 100 < 1000 by omega)]
  by_cases h6 : w < 1000000
  · rw [if_pos h6, if_pos (show w / 100 < 10000 by omega)]
  rw [if_neg h6, if_neg (show ¬ w / 100 < 10000 by omega)]
  by_cases h7 : w < 10000000
  · rw [if_pos h7, if_pos (show w / 100 < 100000 by omega)]
  rw [if_neg h7, if_neg (show ¬ w / 100 < 100000 by omega)]
  by_cases h8 : w < 100000000
  · rw [if_pos h8, if_pos (show w / 100 < 1000000 by omega)]
  rw [if_neg h8, if_neg (show ¬ w / 100 < 1000000 by omega)]
  by_cases h9 : w < 1000000000
  · rw [if_pos h9, if_pos (show w / 100 < 10000000 by omega)]
  rw [if_neg h9, if_neg (show ¬ w / 100 < 10000000 by omega)]
  rw [if_pos (show w / 100 < 100000000 by omega)]
theorem sb_negT {w : Nat} (h : w < 2 ^ 31) : (-nI w).toInt = -(w : Int) := by
  rw [Int32.toInt_neg, nI_toInt h]
  exact Int.bmod_eq_of_le (by omega) (by omega)
theorem sb_nle {a b : Nat} (ha : a < 2 ^ 31) (hb : b < 2 ^ 31) : -nI a ≤ -nI b ↔ b ≤ a := by
  rw [Int32.le_iff_toInt_le, sb_negT ha, sb_negT hb]
  omega
theorem sb_nlt {a b : Nat} (ha : a < 2 ^ 31) (hb : b < 2 ^ 31) : -nI a < -nI b ↔ b < a := by
  rw [Int32.lt_iff_toInt_lt, sb_negT ha, sb_negT hb]
  omega
theorem sb_cmp {A B : Prop} {x : Int32} (v c : Nat) (f : c ≤ v → A) (g : v < c → B) (hv : v < 2 ^ 31) (hx : x = -nI c := by rfl) (hc : c < 2 ^ 31 := by omega) : (-nI v ≤ x → A) ∧ (¬ -nI v ≤ x → B) := by
  subst hx
  rw [sb_nle hv hc]
  exact ⟨f, fun z => g (by omega)⟩
theorem sb_ndiv {w : Nat} (hw : w < 2 ^ 31) : (-nI w) / 100 = -nI (w / 100) := by
  apply Int32.toInt_inj.mp
  have h100 : (100 : Int32).toInt = 100 := by decide
  rw [Int32.toInt_div, sb_negT hw, h100, sb_negT (by omega), Int.neg_tdiv, Int.tdiv_eq_ediv_of_nonneg (by omega), Int.bmod_eq_of_le (by omega) (by omega)]
  omega
theorem sb_nrem {w : Nat} (hw : w < 2 ^ 31) : (-nI (w / 100)) * 100 - (-nI w) = nI (w % 100) := by
  have h := pk_rem (a := w) (d := 100) hw (by decide) (by decide)
  rw [pk_div hw (by decide) (by decide)] at h
  rw [← h]
  show (-nI (w / 100)) * nI 100 - (-nI w) = nI w - nI (w / 100) * nI 100
  rw [Int32.neg_mul, Int32.sub_neg, Int32.add_comm, ← Int32.sub_eq_add_neg]
end
section
/-! rows on bits, shifts and unsigned numbers, to paste: each family out of a closed proof of our own, whole with what it rests on; each by itself clean at Lean in its own claim (generation 39, form 5). Take a family whole -/
/-! ===== Int32 by its bits: bt x i ===== -/
def bt (x : Int32) (i : Nat) : Bool := x.toBitVec.getLsbD i
theorem b_ext {x y : Int32} (h : ∀ i, i < 32 → bt x i = bt y i) : x = y := Int32.toBitVec_inj.mp (BitVec.eq_of_getLsbD_eq (fun i hi => h i hi))
theorem b_or (x y : Int32) (i : Nat) : bt (x ||| y) i = (bt x i || bt y i) := by unfold bt; rw [Int32.toBitVec_or, BitVec.getLsbD_or]
theorem b_and (x y : Int32) (i : Nat) : bt (x &&& y) i = (bt x i && bt y i) := by unfold bt; rw [Int32.toBitVec_and, BitVec.getLsbD_and]
theorem b_xor (x y : Int32) (i : Nat) : bt (x ^^^ y) i = (bt x i ^^ bt y i) := by unfold bt; rw [Int32.toBitVec_xor, BitVec.getLsbD_xor]
theorem b_big {x : Int32} {i : Nat} (h : 32 ≤ i) : bt x i = false := BitVec.getLsbD_of_ge _ _ h
theorem b_255 (i : Nat) : bt 255 i = decide (i < 8) := by
  rcases Nat.lt_or_ge i 32 with h | h
  · exact (by decide +kernel : ∀ i, i < 32 → bt 255 i = decide (i < 8)) i h
  · rw [b_big h, decide_eq_false (by omega)]
theorem b_65535 (i : Nat) : bt 65535 i = decide (i < 16) := by
  rcases Nat.lt_or_ge i 32 with h | h
  · exact (by decide +kernel : ∀ i, i < 32 → bt 65535 i = decide (i < 16)) i h
  · rw [b_big h, decide_eq_false (by omega)]
theorem b_m1 : ∀ i, i < 32 → bt (-1) i = true := by decide +kernel
theorem b_0 (i : Nat) : bt 0 i = false := BitVec.getLsbD_zero
theorem s_l : ∀ n, n < 32 → ((nI n &&& 31).toBitVec.smod 32).toNat = n := by decide +kernel
theorem s_u : ∀ n, n < 32 → (((nI n).toUInt32 &&& Int32.toUInt32 31).toBitVec % 32).toNat = n := by decide +kernel
theorem b_shl (n : Nat) (hn : n < 32) (x : Int32) {i : Nat} (hi : i < 32) : bt (x <<< (nI n &&& 31)) i = (decide (n ≤ i) && bt x (i - n)) := by
  unfold bt
  rw [Int32.toBitVec_shiftLeft]
  show (x.toBitVec <<< ((nI n &&& 31).toBitVec.smod 32).toNat).getLsbD i = _
  rw [s_l n hn, BitVec.getLsbD_shiftLeft]
  rcases Nat.lt_or_ge i n with h | h
  · simp [h, Nat.not_le.mpr h]
  · simp [hi, h, Nat.not_lt.mpr h]
theorem b_ushr (n : Nat) (hn : n < 32) (x : Int32) (i : Nat) : bt ((x.toUInt32 >>> ((nI n).toUInt32 &&& Int32.toUInt32 31)).toInt32) i = bt x (n + i) := by
  show (x.toUInt32 >>> ((nI n).toUInt32 &&& Int32.toUInt32 31)).toBitVec.getLsbD i = x.toUInt32.toBitVec.getLsbD (n + i)
  rw [UInt32.toBitVec_shiftRight]
  show (x.toUInt32.toBitVec >>> (((nI n).toUInt32 &&& Int32.toUInt32 31).toBitVec % 32).toNat).getLsbD i = _
  rw [s_u n hn, BitVec.getLsbD_ushiftRight]
theorem b_sshr (n : Nat) (hn : n < 32) (x : Int32) {i : Nat} (hi : i < 32) : bt (x >>> (nI n &&& 31)) i = if n + i < 32 then bt x (n + i) else bt x 31 := by
  unfold bt
  rw [Int32.toBitVec_shiftRight]
  show (x.toBitVec.sshiftRight ((nI n &&& 31).toBitVec.smod 32).toNat).getLsbD i = _
  rw [s_l n hn, BitVec.getLsbD_sshiftRight, BitVec.msb_eq_getLsbD_last]
  simp [hi]
theorem b_shl8 (x : Int32) {i : Nat} (hi : i < 32) : bt (x <<< ((8 : Int32) &&& 31)) i = (decide (8 ≤ i) && bt x (i - 8)) := b_shl 8 (by omega) x hi
theorem b_shl16 (x : Int32) {i : Nat} (hi : i < 32) : bt (x <<< ((16 : Int32) &&& 31)) i = (decide (16 ≤ i) && bt x (i - 16)) := b_shl 16 (by omega) x hi
theorem b_shl24 (x : Int32) {i : Nat} (hi : i < 32) : bt (x <<< ((24 : Int32) &&& 31)) i = (decide (24 ≤ i) && bt x (i - 24)) := b_shl 24 (by omega) x hi
theorem b_sshr8 (x : Int32) {i : Nat} (hi : i < 32) : bt (x >>> ((8 : Int32) &&& 31)) i = if 8 + i < 32 then bt x (8 + i) else bt x 31 := b_sshr 8 (by omega) x hi
/-! ===== nI under and, xor, >>>, one bit, 65535 ===== -/
theorem nx_and (a b : Nat) : nI a &&& nI b = nI (a &&& b) := by
  apply Int32.toBitVec_inj.1
  show BitVec.ofNat 32 a &&& BitVec.ofNat 32 b = BitVec.ofNat 32 (a &&& b)
  apply BitVec.eq_of_getLsbD_eq
  intro i hi
  simp [hi]
theorem nx_xor (a b : Nat) : nI a ^^^ nI b = nI (a ^^^ b) := by
  apply Int32.toBitVec_inj.1
  show BitVec.ofNat 32 a ^^^ BitVec.ofNat 32 b = BitVec.ofNat 32 (a ^^^ b)
  apply BitVec.eq_of_getLsbD_eq
  intro i hi
  simp [hi]
theorem nx_cnt : ∀ j : Fin 32, (UInt32.ofNat j.val &&& Int32.toUInt32 31).toNat % 32 = j.val := by decide +kernel
theorem nx_ush {k j : Nat} (hk : k < 65536) (hj : j < 32) : ((nI k).toUInt32 >>> ((nI j).toUInt32 &&& Int32.toUInt32 31)).toInt32 = nI (k >>> j) := by
  have hs : k >>> j ≤ k := by
    rw [Nat.shiftRight_eq_div_pow]
    exact Nat.div_le_self _ _
  have e2 : UInt32.ofNat k >>> (UInt32.ofNat j &&& Int32.toUInt32 31) = UInt32.ofNat (k >>> j) := by
    apply UInt32.toNat_inj.1
    have h1 : (UInt32.ofNat k).toNat = k := Nat.mod_eq_of_lt (by omega)
    have h2 : (UInt32.ofNat (k >>> j)).toNat = k >>> j := Nat.mod_eq_of_lt (by omega)
    rw [UInt32.toNat_shiftRight, nx_cnt ⟨j, hj⟩, h1, h2]
  show (UInt32.ofNat k >>> (UInt32.ofNat j &&& Int32.toUInt32 31)).toInt32 = _
  rw [e2]
  rfl
theorem nx_bit {k j : Nat} (hk : k < 65536) (hj : j < 16) : (((nI k).toUInt32 >>> ((nI j).toUInt32 &&& Int32.toUInt32 31)).toInt32 &&& 1) = 0 ↔ k.testBit j = false := by
  rw [nx_ush hk (by omega)]
  show nI (k >>> j) &&& nI 1 = 0 ↔ _
  rw [nx_and, Nat.and_one_is_mod, ← nI_0, nI_eq (by omega) (by omega), Nat.testBit_eq_decide_div_mod_eq, Nat.shiftRight_eq_div_pow, decide_eq_false_iff_not]
  generalize k / 2 ^ j = z
  omega
theorem nx_mod (k : Nat) : nI k &&& 65535 = nI (k % 65536) := by
  show nI k &&& nI 65535 = _
  rw [nx_and, show (65535 : Nat) = 2 ^ 16 - 1 from rfl, Nat.and_two_pow_sub_one_eq_mod]
theorem nx_m16 {k : Nat} (h : k < 65536) : nI k &&& 65535 = nI k := by rw [nx_mod, Nat.mod_eq_of_lt h]
theorem nx_mask (x : Int32) : ∃ k, k < 65536 ∧ x &&& 65535 = nI k := by
  have e : x = nI x.toBitVec.toNat := by
    apply Int32.toBitVec_inj.1
    show x.toBitVec = BitVec.ofNat 32 x.toBitVec.toNat
    simp
  refine ⟨x.toBitVec.toNat % 65536, Nat.mod_lt _ (by omega), ?_⟩
  rw [← nx_mod, ← e]
/-! ===== Int32 as a set of bits: test, set ===== -/
def nf_M (m : Int32) : Nat := 4294967296 - m.toBitVec.toNat
theorem nf_sh : ∀ l, l < 32 → ((1 : Int32) <<< (nI l &&& 31)).toBitVec = BitVec.twoPow 32 l := by decide +kernel
theorem nf_sl : ∀ l, l < 32 → (((nI l).toUInt32 &&& Int32.toUInt32 31).toBitVec % 32).toNat = l := by decide +kernel
theorem nf_tp : ∀ l, l < 32 → BitVec.twoPow 32 l ≠ 0#32 := by decide +kernel
theorem nf_bit (m : Int32) (l : Nat) (hl : l < 32) : ((m.toUInt32 >>> ((nI l).toUInt32 &&& Int32.toUInt32 31)).toInt32 &&& 1) = 0 ↔ (m &&& ((1 : Int32) <<< (nI l &&& 31))) = 0 := by
  have e : ((m.toUInt32 >>> ((nI l).toUInt32 &&& Int32.toUInt32 31)).toInt32).toBitVec = m.toBitVec >>> l := by
    show m.toBitVec >>> (((nI l).toUInt32 &&& Int32.toUInt32 31).toBitVec % 32) = m.toBitVec >>> l
    rw [BitVec.ushiftRight_eq', nf_sl l hl]
  rw [← Int32.toBitVec_inj, ← Int32.toBitVec_inj, Int32.toBitVec_and, Int32.toBitVec_and, nf_sh l hl, e, BitVec.and_twoPow]
  show (m.toBitVec >>> l &&& 1#32) = 0#32 ↔ _ = 0#32
  rw [BitVec.and_one_eq_setWidth_ofBool_getLsbD, BitVec.getLsbD_ushiftRight, Nat.add_zero]
  cases hb : m.toBitVec.getLsbD l
  · exact ⟨fun _ => by simp, fun _ => by decide⟩
  · exact ⟨fun z => absurd z (by decide), fun z => absurd ((if_pos rfl).symm.trans z) (nf_tp l hl)⟩
theorem nf_gr (m k : Int32) (h : m &&& k = 0) (hk : k ≠ 0) : nf_M (m ||| k) < nf_M m := by
  have hm := m.toBitVec.isLt
  have hm' := (m ||| k).toBitVec.isLt
  have h1 : m.toBitVec.toNat ≤ (m ||| k).toBitVec.toNat := by
    rw [Int32.toBitVec_or, BitVec.toNat_or]
    exact Nat.left_le_or
  have h2 : m.toBitVec.toNat ≠ (m ||| k).toBitVec.toNat := by
    intro e
    have e2 : m = m ||| k := Int32.toBitVec_inj.mp (BitVec.eq_of_toNat_eq e)
    apply hk
    apply Int32.toBitVec_inj.mp
    show k.toBitVec = 0#32
    apply BitVec.eq_of_getLsbD_eq
    intro i hi
    have a : m.toBitVec.getLsbD i = (m.toBitVec.getLsbD i || k.toBitVec.getLsbD i) := by rw [← BitVec.getLsbD_or, ← Int32.toBitVec_or, ← e2]
    have b : (m.toBitVec.getLsbD i && k.toBitVec.getLsbD i) = false := by
      rw [← BitVec.getLsbD_and, ← Int32.toBitVec_and, h]
      exact BitVec.getLsbD_zero
    rw [BitVec.getLsbD_zero]
    revert a b
    cases m.toBitVec.getLsbD i <;> cases k.toBitVec.getLsbD i <;> simp
  unfold nf_M
  omega
/-! ===== a byte read unsigned ===== -/
theorem bp_b (x : Int32) : x.toInt8.toInt32 &&& 255 = x &&& 255 := by
  apply Int32.toBitVec_inj.mp
  rw [Int32.toBitVec_and, Int32.toBitVec_and, Int8.toBitVec_toInt32, Int32.toBitVec_toInt8]
  apply BitVec.eq_of_getLsbD_eq
  intro i hi
  rw [BitVec.getLsbD_and, BitVec.getLsbD_and]
  have hm : ∀ i < 32, 8 ≤ i → (255 : Int32).toBitVec.getLsbD i = false := by decide
  rcases Nat.lt_or_ge i 8 with z | z
  · rw [BitVec.getLsbD_signExtend, BitVec.getLsbD_signExtend, if_pos z, if_pos hi]
    simp only [z, hi, decide_true, Bool.true_and]
  · rw [hm i hi z]; simp
/-! ===== the char cast and 65535 ===== -/
theorem em_w (v : Int32) : ∃ w : Nat, w < 65536 ∧ (v.toUInt32 % 65536).toInt32 = nI w ∧ v &&& 65535 = nI w := by
  have hr := lw_u16_r v
  have h0 : (0 : Int32).toInt = 0 := by decide
  obtain ⟨w, h1, h2⟩ := nI_of (x := lw_u16 v) (by rw [Int32.lt_iff_toInt_lt]; omega)
  have h3 : (v.toUInt32 % 65536).toInt32 = nI w := h2
  rw [h2, nI_toInt h1] at hr
  exact ⟨w, by omega, h3, by rw [← lg_i2c_mask, ← lg_i2c_nf, h3]⟩
/-! ===== Int64 as a set of bits: test, set, clear ===== -/
theorem ts_nf {x : Bool} (h : ¬ x = false) : x = true := by cases x <;> first | rfl | exact absurd rfl h
theorem ts_nt {x : Bool} (h : ¬ x = true) : x = false := by cases x <;> first | rfl | exact absurd rfl h
theorem ts_bit {w : Int64} {s : UInt64} {j : Nat} (hj : j < 64) (hs : s.toNat = j) : ((w.toUInt64 >>> s).toInt64 &&& 1) = 0 ↔ w.toBitVec.getLsbD j = false := by
  have e : (w.toUInt64 >>> s).toInt64.toBitVec = w.toBitVec >>> j := by
    apply BitVec.eq_of_toNat_eq
    show (w.toUInt64 >>> s).toNat = _
    rw [UInt64.toNat_shiftRight, hs, Nat.mod_eq_of_lt hj, BitVec.toNat_ushiftRight]
    rfl
  rw [← Int64.toBitVec_inj, Int64.toBitVec_and, e]
  show w.toBitVec >>> j &&& 1#64 = 0#64 ↔ _
  constructor
  · intro h
    have t := congrArg (fun x => x.getLsbD 0) h
    simpa using t
  · intro h
    apply BitVec.eq_of_getLsbD_eq
    intro i hi
    cases i with
    | zero => simp [h]
    | succ i => simp
theorem ts_or {w m : Int64} {j : Nat} (hj : j < 64) (hm : m.toBitVec = BitVec.twoPow 64 j) : (w ||| m) = w ↔ w.toBitVec.getLsbD j = true := by
  rw [← Int64.toBitVec_inj, Int64.toBitVec_or, hm]
  constructor
  · intro h
    have t := congrArg (fun x => x.getLsbD j) h
    simp only [BitVec.getLsbD_or, BitVec.getLsbD_twoPow] at t
    simpa [hj] using t.symm
  · intro h
    apply BitVec.eq_of_getLsbD_eq
    intro i hi
    rw [BitVec.getLsbD_or, BitVec.getLsbD_twoPow]
    by_cases e : j = i
    · subst e; rw [h, Bool.true_or]
    · simp [e]
theorem ts_and {w m : Int64} {j : Nat} (hj : j < 64) (hm : m.toBitVec = BitVec.twoPow 64 j) : (w &&& (m ^^^ (-1))) = w ↔ w.toBitVec.getLsbD j = false := by
  have ha : (-1 : Int64).toBitVec = BitVec.allOnes 64 := by decide
  rw [← Int64.toBitVec_inj, Int64.toBitVec_and, Int64.toBitVec_xor, hm, ha]
  constructor
  · intro h
    have t := congrArg (fun x => x.getLsbD j) h
    simp only [BitVec.getLsbD_and, BitVec.getLsbD_xor, BitVec.getLsbD_twoPow, BitVec.getLsbD_allOnes] at t
    simpa [hj] using t.symm
  · intro h
    apply BitVec.eq_of_getLsbD_eq
    intro i hi
    rw [BitVec.getLsbD_and, BitVec.getLsbD_xor, BitVec.getLsbD_twoPow, BitVec.getLsbD_allOnes]
    by_cases e : j = i
    · subst e; rw [h, Bool.false_and]
    · simp [e, hi]
/-! ===== lN n to 2^64: shifts, and, or, masks, one bit ===== -/
theorem wb_tb (n : Nat) : (lN n).toBitVec = BitVec.ofNat 64 n := rfl
theorem wb_inj {a b : Int64} (h : a.toBitVec = b.toBitVec) : a = b := Int64.toBitVec_inj.mp h
theorem wb_tn {n : Nat} (h : n < 2 ^ 64) : (lN n).toBitVec.toNat = n := by rw [wb_tb, BitVec.toNat_ofNat, Nat.mod_eq_of_lt h]
theorem wb_of (x : Int64) : ∃ n, n < 2 ^ 64 ∧ x = lN n := ⟨x.toBitVec.toNat, x.toBitVec.isLt, wb_inj (by rw [wb_tb]; simp)⟩
theorem wb_of32 (x : Int32) : ∃ n, n < 2 ^ 32 ∧ x = nI n := ⟨x.toBitVec.toNat, x.toBitVec.isLt, Int32.toBitVec_inj.mp (by show _ = BitVec.ofNat 32 _; simp)⟩
theorem wb_c : ∀ k, k < 64 → ((nI k).toInt64 &&& 63) = lN k := by decide +kernel
theorem wb_cu : ∀ k, k < 64 → ((nI k).toInt64.toUInt64 &&& Int64.toUInt64 63) = UInt64.ofNat k := by decide +kernel
theorem wb_sm : ∀ k, k < 64 → (BitVec.ofNat 64 k).smod 64 = BitVec.ofNat 64 k := by decide +kernel
theorem wb_pw {a b : Nat} (h : a ≤ b) : 2 ^ b = 2 ^ a * 2 ^ (b - a) := by rw [← Nat.pow_add]; congr 1; omega
theorem wb_lt2 {a b : Nat} (h : a < b) : 2 ^ a < 2 ^ b := Nat.pow_lt_pow_right (by decide) h
theorem wb_mod (n : Nat) : lN n = lN (n % 2 ^ 64) := wb_inj (by rw [wb_tb, wb_tb]; apply BitVec.eq_of_toNat_eq; rw [BitVec.toNat_ofNat, BitVec.toNat_ofNat, Nat.mod_mod])
theorem wb_shr {n k : Nat} (hn : n < 2 ^ 64) (hk : k < 64) : ((lN n).toUInt64 >>> ((nI k).toInt64.toUInt64 &&& Int64.toUInt64 63)).toInt64 = lN (n / 2 ^ k) := by
  rw [wb_cu k hk]
  apply wb_inj
  apply BitVec.eq_of_toNat_eq
  show ((lN n).toUInt64 >>> UInt64.ofNat k).toNat = (BitVec.ofNat 64 _).toNat
  have h1 : (UInt64.ofNat k).toNat = k := by
    show (BitVec.ofNat 64 k).toNat = k
    rw [BitVec.toNat_ofNat, Nat.mod_eq_of_lt (by omega)]
  have h2 : (lN n).toUInt64.toNat = n := wb_tn hn
  rw [UInt64.toNat_shiftRight, h1, h2, Nat.mod_eq_of_lt hk, Nat.shiftRight_eq_div_pow, BitVec.toNat_ofNat, Nat.mod_eq_of_lt (Nat.lt_of_le_of_lt (Nat.div_le_self _ _) hn)]
theorem wb_shl (n : Nat) {k : Nat} (hk : k < 64) : lN n <<< ((nI k).toInt64 &&& 63) = lN (n * 2 ^ k) := by
  rw [wb_c k hk]
  apply wb_inj
  rw [Int64.toBitVec_shiftLeft, wb_tb, wb_tb, wb_tb, wb_sm k hk]
  apply BitVec.eq_of_toNat_eq
  rw [BitVec.shiftLeft_eq', BitVec.toNat_shiftLeft, BitVec.toNat_ofNat, BitVec.toNat_ofNat, BitVec.toNat_ofNat, Nat.mod_eq_of_lt (show k < 2 ^ 64 by omega), Nat.shiftLeft_eq, Nat.mul_mod, Nat.mod_mod, ← Nat.mul_mod]
theorem wb_and {a b : Nat} (ha : a < 2 ^ 64) (hb : b < 2 ^ 64) : lN a &&& lN b = lN (a &&& b) := by
  apply wb_inj
  rw [Int64.toBitVec_and, wb_tb, wb_tb, wb_tb]
  apply BitVec.eq_of_toNat_eq
  rw [BitVec.toNat_and, BitVec.toNat_ofNat, BitVec.toNat_ofNat, BitVec.toNat_ofNat, Nat.mod_eq_of_lt ha, Nat.mod_eq_of_lt hb, Nat.mod_eq_of_lt (Nat.and_lt_two_pow _ hb)]
theorem wb_or {a b : Nat} (ha : a < 2 ^ 64) (hb : b < 2 ^ 64) : lN a ||| lN b = lN (a ||| b) := by
  apply wb_inj
  rw [Int64.toBitVec_or, wb_tb, wb_tb, wb_tb]
  apply BitVec.eq_of_toNat_eq
  rw [BitVec.toNat_or, BitVec.toNat_ofNat, BitVec.toNat_ofNat, BitVec.toNat_ofNat, Nat.mod_eq_of_lt ha, Nat.mod_eq_of_lt hb, Nat.mod_eq_of_lt (Nat.or_lt_two_pow ha hb)]
theorem wb_mask {n k : Nat} (hn : n < 2 ^ 64) (hk : k < 64) : lN n &&& lN (2 ^ k - 1) = lN (n % 2 ^ k) := by
  rw [wb_and hn (by have := wb_lt2 hk; omega), Nat.and_two_pow_sub_one_eq_mod]
theorem wb_a1 {n : Nat} (hn : n < 2 ^ 64) : lN n &&& 1 = lN (n % 2) := wb_mask (k := 1) hn (by decide)
theorem wb_bit {n k : Nat} (hn : n < 2 ^ 64) (hk : k < 64) : ((lN n).toUInt64 >>> ((nI k).toInt64.toUInt64 &&& Int64.toUInt64 63)).toInt64 &&& 1 = lN (n / 2 ^ k % 2) := by
  rw [wb_shr hn hk, wb_a1 (Nat.lt_of_le_of_lt (Nat.div_le_self _ _) hn)]
theorem wb_xor {q k : Nat} (hk : k < 63) (h : 2 ^ k ≤ q) (h2 : q < 2 ^ (k + 1)) : lN q ^^^ lN (2 ^ k) = lN (q - 2 ^ k) := by
  obtain ⟨r, rfl⟩ : ∃ r, q = 2 ^ k + r := ⟨q - 2 ^ k, by omega⟩
  have hr : r < 2 ^ k := by rw [Nat.pow_succ] at h2; omega
  have hx : (2 ^ k + r) ^^^ 2 ^ k = r := by
    apply Nat.eq_of_testBit_eq
    intro i
    rw [Nat.testBit_xor, Nat.testBit_two_pow]
    rcases Nat.lt_trichotomy i k with h | h | h
    · rw [Nat.testBit_two_pow_add_gt h]
      simp [show ¬ k = i by omega]
    · subst h
      rw [Nat.testBit_two_pow_add_eq]
      simp
    · have a1 : 2 ^ (k + 1) ≤ 2 ^ i := Nat.pow_le_pow_right (by decide) h
      rw [Nat.testBit_lt_two_pow (show 2 ^ k + r < 2 ^ i by omega), Nat.testBit_lt_two_pow (show r < 2 ^ i by omega)]
      simp [show ¬ k = i by omega]
  have b1 := wb_lt2 (show k + 1 < 64 by omega)
  have b2 := wb_lt2 (show k < 64 by omega)
  apply wb_inj
  rw [Int64.toBitVec_xor, wb_tb, wb_tb, wb_tb]
  apply BitVec.eq_of_toNat_eq
  rw [BitVec.toNat_xor, BitVec.toNat_ofNat, BitVec.toNat_ofNat, BitVec.toNat_ofNat, Nat.mod_eq_of_lt (by omega : 2 ^ k + r < 2 ^ 64), Nat.mod_eq_of_lt b2, hx, Nat.add_sub_cancel_left, Nat.mod_eq_of_lt (by omega)]
/-! ===== lN: masks, 'or' of parts that don't overlap is a sum ===== -/
theorem u_tn {n : Nat} (h : n < 2 ^ 64) : (UInt64.ofNat n).toNat = n := Nat.mod_eq_of_lt h
theorem g_and {a b c : Nat} (ha : a < 2 ^ 64) (hb : b < 2 ^ 64) (hc : a &&& b = c) : lN a &&& lN b = lN c := by
  subst hc
  have h : UInt64.ofNat a &&& UInt64.ofNat b = UInt64.ofNat (a &&& b) := UInt64.toNat_inj.mp (by rw [UInt64.toNat_and, u_tn ha, u_tn hb, u_tn (Nat.and_lt_two_pow a hb)])
  have h2 := congrArg UInt64.toInt64 h
  exact h2
theorem g_and1 {a : Nat} (ha : a < 2 ^ 64) : lN a &&& 1 = lN (a % 2) := g_and (b := 1) ha (by decide) (Nat.and_two_pow_sub_one_eq_mod a 1)
theorem g_mask {a s p : Nat} (hp : 2 ^ s = p) (hs : s < 64) (ha : a < 2 ^ 64) : lN a &&& lN (p - 1) = lN (a % p) := by
  subst hp
  have := Nat.pow_lt_pow_right (show 1 < 2 by decide) hs
  exact g_and ha (by omega) (Nat.and_two_pow_sub_one_eq_mod a s)
theorem g_or {k p a b : Nat} (hp : 2 ^ k = p) (ha : a < p) (h : b * p + a < 2 ^ 64) : lN (b * p) ||| lN a = lN (b * p + a) := by
  subst hp
  have h1 : b * 2 ^ k ||| a = b * 2 ^ k + a := by rw [← Nat.shiftLeft_eq, Nat.shiftLeft_add_eq_or_of_lt ha]
  have h3 : UInt64.ofNat (b * 2 ^ k) ||| UInt64.ofNat a = UInt64.ofNat (b * 2 ^ k + a) := UInt64.toNat_inj.mp (by rw [UInt64.toNat_or, u_tn (by omega), u_tn (by omega), u_tn h, h1])
  have h2 := congrArg UInt64.toInt64 h3
  exact h2
theorem g_or' {k p a b : Nat} (hp : 2 ^ k = p) (ha : a < p) (h : a + b * p < 2 ^ 64) : lN a ||| lN (b * p) = lN (a + b * p) := by
  rw [Int64.or_comm, g_or hp ha (by omega), Nat.add_comm]
theorem g_ushr {a k p : Nat} {y : UInt64} (hy : y = UInt64.ofNat k) (hk : k < 64) (hp : 2 ^ k = p) (ha : a < 2 ^ 64) : ((lN a).toUInt64 >>> y).toInt64 = lN (a / p) := by
  subst hy hp
  have h : UInt64.ofNat a >>> UInt64.ofNat k = UInt64.ofNat (a / 2 ^ k) := UInt64.toNat_inj.mp (by rw [UInt64.toNat_shiftRight, u_tn ha, u_tn (by omega), u_tn (Nat.lt_of_le_of_lt (Nat.div_le_self _ _) ha), Nat.mod_eq_of_lt hk, Nat.shiftRight_eq_div_pow])
  have h2 := congrArg UInt64.toInt64 h
  exact h2
theorem g_shl {a k p : Nat} {y : Int64} (hy : y.toBitVec.smod 64 = BitVec.ofNat 64 k) (hk : k < 64) (hp : 2 ^ k = p) (ha : a < 2 ^ 64) : lN a <<< y = lN (a * p) := by
  subst hp
  apply Int64.toBitVec_inj.mp
  rw [Int64.toBitVec_shiftLeft, hy]
  apply BitVec.eq_of_toNat_eq
  have hb : (lN a).toBitVec.toNat = a := Nat.mod_eq_of_lt ha
  have hk' : (BitVec.ofNat 64 k).toNat = k := Nat.mod_eq_of_lt (by omega)
  have h : ((lN a).toBitVec <<< BitVec.ofNat 64 k).toNat = (a * 2 ^ k) % 2 ^ 64 := by simp only [BitVec.shiftLeft_eq', BitVec.toNat_shiftLeft, hb, hk', Nat.shiftLeft_eq]
  exact h
/-! ===== lN to 2^62 under >> and >>> ===== -/
theorem pf_lI {a : Nat} (h : a < 2 ^ 63) : (lN a).toInt = (a : Int) := lg_ofNat_toInt h
theorem pf_shr {a d : Nat} {D : Int64} (hD : (D.toBitVec.smod 64).toNat = d) (h : a < 2 ^ 62) : lN a >>> D = lN (a / 2 ^ d) := by
  have hd : a / 2 ^ d ≤ a := Nat.div_le_self _ _
  apply Int64.toInt_inj.mp
  have e : (lN a >>> D).toInt = (lN a).toInt >>> d := by
    rw [← hD]
    exact BitVec.toInt_sshiftRight ..
  rw [e, Int.shiftRight_eq_div_pow, pf_lI (by omega), pf_lI (by omega)]
  rfl
theorem pf_ushr {a d : Nat} {D : UInt64} (hD : D.toNat % 64 = d) (h : a < 2 ^ 62) : ((lN a).toUInt64 >>> D).toInt64 = lN (a / 2 ^ d) := by
  have hd : a / 2 ^ d ≤ a := Nat.div_le_self _ _
  have e : (lN a).toUInt64 >>> D = UInt64.ofNat (a / 2 ^ d) := UInt64.toNat_inj.mp (by
    rw [UInt64.toNat_shiftRight, hD, Nat.shiftRight_eq_div_pow, UInt64.toNat_ofNat']
    show (UInt64.ofNat a).toNat / 2 ^ d = _
    rw [UInt64.toNat_ofNat', Nat.mod_eq_of_lt (by omega), Nat.mod_eq_of_lt (by omega)])
  rw [e]
  rfl
theorem pf_andw (x : Int64) : ∃ m, m < 2 ^ 32 ∧ x &&& 4294967295 = lN m := ⟨x.toBitVec.toNat % 2 ^ 32, Nat.mod_lt _ (by decide), Int64.toBitVec_inj.mp (BitVec.eq_of_toNat_eq (by
  show (x.toBitVec &&& 4294967295#64).toNat = (BitVec.ofNat 64 (x.toBitVec.toNat % 2 ^ 32)).toNat
  rw [BitVec.toNat_and, show (4294967295#64).toNat = 2 ^ 32 - 1 from by decide, Nat.and_two_pow_sub_one_eq_mod, BitVec.toNat_ofNat]
  omega))⟩
/-! ===== Int64 as an unsigned number: uN x ===== -/
def uN (x : Int64) : Nat := x.toUInt64.toNat
theorem uN_lt (x : Int64) : uN x < 18446744073709551616 := x.toUInt64.toNat_lt
theorem uN_inj {x y : Int64} (h : uN x = uN y) : x = y := congrArg UInt64.toInt64 (UInt64.toNat_inj.mp h)
theorem uN_add (x y : Int64) : uN (x + y) = (uN x + uN y) % 18446744073709551616 := by
  show (x.toUInt64 + y.toUInt64).toNat = _
  exact UInt64.toNat_add _ _
theorem uN_mul (x y : Int64) : uN (x * y) = (uN x * uN y) % 18446744073709551616 := by
  show (x.toUInt64 * y.toUInt64).toNat = _
  exact UInt64.toNat_mul _ _
theorem uN_shl (x : Int64) : uN (x <<< ((1 : Int32).toInt64 &&& 63)) = (2 * uN x) % 18446744073709551616 := by
  have h : (((1 : Int32).toInt64 &&& 63).toBitVec.smod 64).toNat = 1 := by decide
  show (x.toBitVec <<< (((1 : Int32).toInt64 &&& 63).toBitVec.smod 64).toNat).toNat = _
  rw [h, BitVec.toNat_shiftLeft, Nat.shiftLeft_eq, Nat.mul_comm]
  rfl
theorem uN_shr (x : Int64) (s : UInt64) : uN (x.toUInt64 >>> s).toInt64 = uN x / 2 ^ (s.toNat % 64) := by
  show (x.toUInt64 >>> s).toNat = _
  rw [UInt64.toNat_shiftRight, Nat.shiftRight_eq_div_pow]
  rfl
theorem uN_s32 (x : Int64) : uN (x.toUInt64 >>> ((32 : Int32).toInt64.toUInt64 &&& Int64.toUInt64 63)).toInt64 = uN x / 4294967296 := by
  have h : ((32 : Int32).toInt64.toUInt64 &&& Int64.toUInt64 63).toNat % 64 = 32 := by decide
  rw [uN_shr, h]
theorem uN_s63 (x : Int64) : uN (x.toUInt64 >>> ((63 : Int32).toInt64.toUInt64 &&& Int64.toUInt64 63)).toInt64 = uN x / 9223372036854775808 := by
  have h : ((63 : Int32).toInt64.toUInt64 &&& Int64.toUInt64 63).toNat % 64 = 63 := by decide
  rw [uN_shr, h]
theorem uN_lo (x : Int64) : uN (x &&& 4294967295) = uN x % 4294967296 := by
  show (x.toUInt64 &&& Int64.toUInt64 4294967295).toNat = _
  rw [UInt64.toNat_and]
  exact Nat.and_two_pow_sub_one_eq_mod _ 32
theorem uN_bit (x : Int64) : (x &&& 1) = 0 ↔ uN x % 2 = 0 := by
  have h : uN (x &&& 1) = uN x % 2 := by
    show (x.toUInt64 &&& Int64.toUInt64 1).toNat = _
    rw [UInt64.toNat_and]
    exact Nat.and_two_pow_sub_one_eq_mod _ 1
  rw [← h]
  exact ⟨fun z => by rw [z]; rfl, fun z => uN_inj (z.trans rfl)⟩
theorem uN_or {x y : Int64} (hy : uN y < 2) : uN ((x <<< ((1 : Int32).toInt64 &&& 63)) ||| y) = (2 * uN x) % 18446744073709551616 + uN y := by
  have h1 : uN ((x <<< ((1 : Int32).toInt64 &&& 63)) ||| y) = uN (x <<< ((1 : Int32).toInt64 &&& 63)) ||| uN y := UInt64.toNat_or _ _
  have h2 : (2 * uN x) % 18446744073709551616 = 2 ^ 1 * (uN x % 9223372036854775808) := by omega
  rw [h1, uN_shl, h2]
  exact (Nat.two_pow_add_eq_or_of_lt (i := 1) hy _).symm
theorem nat_xor {a : Nat} (h : a < 18446744073709551616) : a ^^^ 2 ^ 63 = (a + 9223372036854775808) % 18446744073709551616 := by
  have h1 : (a ^^^ 2 ^ 63) % 2 ^ 63 = a % 2 ^ 63 := by rw [Nat.xor_mod_two_pow, Nat.mod_self, Nat.xor_zero]
  have h2 : (a ^^^ 2 ^ 63) / 2 ^ 63 = (a / 2 ^ 63) ^^^ 1 := by rw [Nat.xor_div_two_pow, Nat.div_self (Nat.two_pow_pos 63)]
  have h3 : a / 2 ^ 63 = 0 ∨ a / 2 ^ 63 = 1 := by omega
  generalize a ^^^ 2 ^ 63 = t at h1 h2
  rcases h3 with h3 | h3
  · rw [h3] at h2
    have h2 : t / 2 ^ 63 = 1 := h2
    omega
  · rw [h3] at h2
    have h2 : t / 2 ^ 63 = 0 := h2
    omega
theorem uN_xor (x : Int64) : uN (x ^^^ (-9223372036854775808)) = (uN x + 9223372036854775808) % 18446744073709551616 := by
  rw [← nat_xor (uN_lt x)]
  exact UInt64.toNat_xor _ _
theorem uN_int (x : Int64) : x.toInt = if 2 * uN x < 18446744073709551616 then (uN x : Int) else (uN x : Int) - 18446744073709551616 := BitVec.toInt_eq_toNat_cond _
theorem uN_le (x y : Int64) : (x ^^^ (-9223372036854775808)) ≤ (y ^^^ (-9223372036854775808)) ↔ uN x ≤ uN y := by
  have hx := uN_lt x
  have hy := uN_lt y
  rw [Int64.le_iff_toInt_le, uN_int, uN_int, uN_xor, uN_xor]
  omega
theorem uN_sk (x : Int64) {k : Nat} (hk : k < 64) : uN (x.toUInt64 >>> ((nI k).toInt64.toUInt64 &&& Int64.toUInt64 63)).toInt64 = uN x / 2 ^ k := by
  have h : ((nI k).toInt64.toUInt64 &&& Int64.toUInt64 63).toNat % 64 = k := by
    rw [nI_l (by omega), UInt64.toNat_and]
    have e : (lN k).toUInt64.toNat = k % 2 ^ 64 := rfl
    have e2 : (Int64.toUInt64 63).toNat = 2 ^ 6 - 1 := by decide
    rw [e, e2, Nat.and_two_pow_sub_one_eq_mod]
    omega
  rw [uN_shr, h]
/-! ===== unsigned comparison by xor with the least ===== -/
theorem lN_bv (n : Nat) : (lN n).toBitVec = BitVec.ofNat 64 n := rfl
theorem lN_nat {n : Nat} (h : n < 2 ^ 64) : (lN n).toBitVec.toNat = n := by rw [lN_bv, BitVec.toNat_ofNat]; exact Nat.mod_eq_of_lt h
theorem lN_xor (a b : Nat) : lN a ^^^ lN b = lN (a ^^^ b) := by
  apply Int64.toBitVec_inj.mp; rw [Int64.toBitVec_xor, lN_bv, lN_bv, lN_bv]; apply BitVec.eq_of_getLsbD_eq; intro i hi; simp [BitVec.getLsbD_ofNat, Nat.testBit_xor, hi]
theorem lN_ti {m : Nat} (h : m < 2 ^ 64) : (lN m).toInt = if m < 2 ^ 63 then (m : Int) else (m : Int) - 2 ^ 64 := by
  have c := BitVec.toInt_eq_toNat_cond (lN m).toBitVec
  rw [lN_nat h] at c
  show (lN m).toBitVec.toInt = _
  rw [c]
  split <;> split <;> omega
theorem xor63 {x : Nat} (h : x < 2 ^ 63) : x ^^^ 2 ^ 63 = 2 ^ 63 + x := by
  apply Nat.eq_of_testBit_eq
  intro i
  rw [Nat.testBit_xor, Nat.testBit_two_pow]
  rcases Nat.lt_trichotomy i 63 with z | z | z
  · rw [Nat.testBit_two_pow_add_gt z, decide_eq_false (by omega)]; simp
  · subst z; rw [Nat.testBit_two_pow_add_eq]; simp
  · have hp : 2 ^ 64 ≤ 2 ^ i := Nat.pow_le_pow_right (by decide) z
    rw [Nat.testBit_lt_two_pow (show x < 2 ^ i by omega), Nat.testBit_lt_two_pow (show 2 ^ 63 + x < 2 ^ i by omega), decide_eq_false (by omega)]; rfl
theorem xorS {a : Nat} (h : a < 2 ^ 64) : (lN a ^^^ (-9223372036854775808)).toInt = (a : Int) - 2 ^ 63 := by
  rw [show (-9223372036854775808 : Int64) = lN (2 ^ 63) from by decide +kernel, lN_xor]
  rcases Nat.lt_or_ge a (2 ^ 63) with z | z
  · rw [xor63 z, lN_ti (by omega), if_neg (by omega)]; omega
  · obtain ⟨x, rfl⟩ : ∃ x, a = 2 ^ 63 + x := ⟨a - 2 ^ 63, by omega⟩
    rw [← xor63 (by omega), Nat.xor_assoc, Nat.xor_self, Nat.xor_zero, lN_ti (by omega), if_pos (by omega), xor63 (by omega)]; omega
theorem ultL {a b : Nat} (ha : a < 2 ^ 64) (hb : b < 2 ^ 64) : ((lN b ^^^ (-9223372036854775808)) ≤ (lN a ^^^ (-9223372036854775808))) ↔ b ≤ a := by
  rw [Int64.le_iff_toInt_le, xorS ha, xorS hb]; omega
/-! ===== Int64 masks of n low bits ===== -/
theorem cr_bits (W U M : BitVec 64) : ((W &&& U) &&& (U &&& (M ^^^ BitVec.allOnes 64))) = 0#64 ↔ (W &&& U) &&& M = W &&& U := by
  constructor
  · intro h
    apply BitVec.eq_of_getLsbD_eq
    intro i hi
    have e := congrArg (fun x => BitVec.getLsbD x i) h
    simp only [BitVec.getLsbD_and, BitVec.getLsbD_xor, BitVec.getLsbD_allOnes, BitVec.getLsbD_zero, hi, decide_true] at e ⊢
    revert e
    cases W.getLsbD i <;> cases U.getLsbD i <;> cases M.getLsbD i <;> decide
  · intro h
    apply BitVec.eq_of_getLsbD_eq
    intro i hi
    have e := congrArg (fun x => BitVec.getLsbD x i) h
    simp only [BitVec.getLsbD_and, BitVec.getLsbD_xor, BitVec.getLsbD_allOnes, BitVec.getLsbD_zero, hi, decide_true] at e ⊢
    revert e
    cases W.getLsbD i <;> cases U.getLsbD i <;> cases M.getLsbD i <;> decide
theorem cr_mask (w U m : Int64) (n : Nat) (hm : m.toBitVec.toNat = 2 ^ n - 1) : ((w &&& U) &&& (U &&& (m ^^^ (-1)))) = 0 ↔ (w &&& U).toBitVec.toNat < 2 ^ n := by
  have e0 : (-1 : Int64).toBitVec = BitVec.allOnes 64 := by decide
  have z0 : (0 : Int64).toBitVec = 0#64 := by decide
  rw [← Int64.toBitVec_inj, z0, Int64.toBitVec_and, Int64.toBitVec_and, Int64.toBitVec_and, Int64.toBitVec_xor, e0, cr_bits]
  generalize w.toBitVec &&& U.toBitVec = T
  rw [← BitVec.toNat_inj, BitVec.toNat_and, hm, Nat.and_two_pow_sub_one_eq_mod]
  constructor
  · intro h
    have t := Nat.mod_lt T.toNat (Nat.two_pow_pos n)
    rw [h] at t
    exact t
  · exact Nat.mod_eq_of_lt
theorem cr_shr (t : Int64) (x : UInt64) (n : Nat) (hx : x.toNat % 64 = n) : (t.toUInt64 >>> x).toInt64 = 0 ↔ t.toBitVec.toNat < 2 ^ n := by
  rw [← Int64.toBitVec_inj, ← BitVec.toNat_inj]
  show (t.toUInt64 >>> x).toNat = 0 ↔ t.toUInt64.toNat < 2 ^ n
  rw [UInt64.toNat_shiftRight, hx, Nat.shiftRight_eq_div_pow]
  constructor
  · intro h
    have d : t.toUInt64.toNat / 2 ^ n < 1 := by
      rw [h]
      decide
    have e := (Nat.div_lt_iff_lt_mul (Nat.two_pow_pos n)).mp d
    rw [Nat.one_mul] at e
    exact e
  · exact Nat.div_eq_of_lt
theorem cr_amt (s : Int64) : ∃ n, n < 64 ∧ s &&& 63 = lN n ∧ (s.toUInt64 &&& Int64.toUInt64 63).toNat % 64 = n := by
  have e : (s.toUInt64 &&& Int64.toUInt64 63).toNat = s.toUInt64.toNat % 2 ^ 6 := by
    rw [UInt64.toNat_and, show (Int64.toUInt64 63).toNat = 2 ^ 6 - 1 from by decide, Nat.and_two_pow_sub_one_eq_mod]
  refine ⟨s.toUInt64.toNat % 2 ^ 6, by omega, ?_, by omega⟩
  rw [← Int64.toBitVec_inj, ← BitVec.toNat_inj]
  show (s.toUInt64 &&& Int64.toUInt64 63).toNat = (BitVec.ofNat 64 (s.toUInt64.toNat % 2 ^ 6)).toNat
  rw [e, BitVec.toNat_ofNat]
  omega
end
section
section NT03
/-! words by their bits -/
def wd (x : Int64) (j : Nat) : Bool := x.toBitVec.getLsbD j
theorem wd_ext {x y : Int64} (h : ∀ i, i < 64 → wd x i = wd y i) : x = y := Int64.toBitVec_inj.mp (BitVec.eq_of_getLsbD_eq (fun i hi => h i hi))
theorem wd_or (x y : Int64) (i : Nat) : wd (x ||| y) i = (wd x i || wd y i) := by unfold wd; rw [Int64.toBitVec_or, BitVec.getLsbD_or]
theorem wd_and (x y : Int64) (i : Nat) : wd (x &&& y) i = (wd x i && wd y i) := by unfold wd; rw [Int64.toBitVec_and, BitVec.getLsbD_and]
theorem wd_xor (x y : Int64) (i : Nat) : wd (x ^^^ y) i = (wd x i ^^ wd y i) := by unfold wd; rw [Int64.toBitVec_xor, BitVec.getLsbD_xor]
theorem wd_big {x : Int64} {i : Nat} (h : 64 ≤ i) : wd x i = false := BitVec.getLsbD_of_ge _ _ h
theorem wd_0 (i : Nat) : wd 0 i = false := BitVec.getLsbD_zero
theorem wd_m1 : ∀ i, i < 64 → wd (-1) i = true := by decide +kernel
theorem wd_not (x : Int64) {i : Nat} (h : i < 64) : wd (x ^^^ (-1)) i = !wd x i := by rw [wd_xor, wd_m1 i h, Bool.xor_true]
theorem wd_z {x : Int64} : x = 0 ↔ ∀ i, i < 64 → wd x i = false := ⟨fun h i _ => by rw [h, wd_0], fun h => wd_ext fun i hi => by rw [h i hi, wd_0]⟩
theorem bo_nf {x : Bool} (h : ¬ x = true) : x = false := by cases x; exact rfl; exact absurd rfl h
theorem bo_eq {x y : Bool} (h : x = true ↔ y = true) : x = y := by
  cases x
  · cases y
    · rfl
    · exact absurd (h.mpr rfl) Bool.false_ne_true
  · cases y
    · exact absurd (h.mp rfl) Bool.false_ne_true
    · rfl
theorem bo_or {x y : Bool} : (x || y) = true ↔ x = true ∨ y = true := by cases x <;> cases y <;> simp
theorem bo_and {x y : Bool} : (x && y) = true ↔ x = true ∧ y = true := by cases x <;> cases y <;> simp
theorem wd_nz {x : Int64} : ¬ x = 0 ↔ ∃ i, i < 64 ∧ wd x i = true := by
  constructor
  · intro h
    apply Classical.byContradiction
    intro hn
    exact h (wd_z.mpr fun i hi => bo_nf fun e => hn ⟨i, hi, e⟩)
  · rintro ⟨i, hi, e⟩ h
    rw [h, wd_0] at e
    exact Bool.false_ne_true e
theorem wd_shl (n : Nat) (hn : n < 64) (x : Int64) {i : Nat} (hi : i < 64) : wd (x <<< ((nI n).toInt64 &&& 63)) i = (decide (n ≤ i) && wd x (i - n)) := by
  unfold wd
  rw [Int64.toBitVec_shiftLeft]
  show (x.toBitVec <<< (((nI n).toInt64 &&& 63).toBitVec.smod 64).toNat).getLsbD i = _
  rw [wb_c n hn, wb_tb, wb_sm n hn, BitVec.toNat_ofNat, Nat.mod_eq_of_lt (by omega), BitVec.getLsbD_shiftLeft]
  rcases Nat.lt_or_ge i n with h | h
  · simp [h, Nat.not_le.mpr h]
  · simp [hi, h, Nat.not_lt.mpr h]
theorem wd_uc : ∀ n, n < 64 → ((UInt64.ofNat n).toBitVec % 64).toNat = n := by decide +kernel
theorem wd_ushr (n : Nat) (hn : n < 64) (x : Int64) (i : Nat) : wd ((x.toUInt64 >>> ((nI n).toInt64.toUInt64 &&& Int64.toUInt64 63)).toInt64) i = wd x (n + i) := by
  rw [wb_cu n hn]
  show (x.toUInt64 >>> UInt64.ofNat n).toBitVec.getLsbD i = x.toUInt64.toBitVec.getLsbD (n + i)
  rw [UInt64.toBitVec_shiftRight]
  show (x.toUInt64.toBitVec >>> ((UInt64.ofNat n).toBitVec % 64).toNat).getLsbD i = _
  rw [wd_uc n hn, BitVec.getLsbD_ushiftRight]
theorem wd_dec : ∀ m, m < 128 → ∀ j, j < 64 → wd ((nI m).toInt64) j = bt (nI m) j := by decide +kernel
theorem bt_dec : ∀ m, m < 128 → ∀ j, j < 32 → 7 ≤ j → bt (nI m) j = false := by decide +kernel
/-! ints by their bits -/
theorem bt_1 (i : Nat) : bt 1 i = decide (i = 0) := by
  rcases Nat.lt_or_ge i 32 with h | h
  · exact (by decide +kernel : ∀ i, i < 32 → bt 1 i = decide (i = 0)) i h
  · rw [b_big h, decide_eq_false (by omega)]
theorem bt_a1 (x : Int32) : x &&& 1 = if bt x 0 = true then 1 else 0 := by
  apply b_ext
  intro i _
  rw [b_and, bt_1]
  by_cases h0 : i = 0
  · subst h0
    cases e : bt x 0
    · simp [b_0]
    · simp [bt_1]
  · rw [decide_eq_false h0, Bool.and_false]
    split
    · rw [bt_1, decide_eq_false h0]
    · rw [b_0]
theorem bt_s0 (x : Int32) (s : Nat) (hs : s < 32) : ((x >>> (nI s &&& 31)) &&& 1) = if bt x s = true then 1 else 0 := by
  rw [bt_a1, b_sshr s hs x (by omega : 0 < 32), if_pos (by omega : s + 0 < 32), Nat.add_zero]
theorem bt_s0z {x : Int32} {s : Nat} (hs : s < 32) : ((x >>> (nI s &&& 31)) &&& 1) = 0 ↔ bt x s = false := by
  rw [bt_s0 x s hs]
  cases e : bt x s
  · simp
  · rw [if_pos rfl]; exact ⟨fun h => absurd h (by decide), fun h => absurd h.symm Bool.false_ne_true⟩
theorem bt_s01 {x : Int32} {s : Nat} (hs : s < 32) : ((x >>> (nI s &&& 31)) &&& 1) = 1 ↔ bt x s = true := by
  rw [bt_s0 x s hs]
  cases e : bt x s
  · rw [if_neg (by decide)]; exact ⟨fun h => absurd h (by decide), fun h => absurd h Bool.false_ne_true⟩
  · simp
theorem bt_p (s : Nat) (hs : s < 32) {i : Nat} (hi : i < 32) : bt ((1 : Int32) <<< (nI s &&& 31)) i = decide (i = s) := by
  rw [b_shl s hs 1 hi, bt_1]
  rcases Nat.lt_trichotomy i s with h | h | h
  · rw [decide_eq_false (by omega : ¬ s ≤ i), decide_eq_false (by omega : ¬ i = s), Bool.false_and]
  · subst h; simp
  · rw [decide_eq_true (by omega : s ≤ i), decide_eq_false (by omega : ¬ i - s = 0), decide_eq_false (by omega : ¬ i = s)]; rfl
theorem b_z {x : Int32} : x = 0 ↔ ∀ i, i < 32 → bt x i = false := ⟨fun h i _ => by rw [h, b_0], fun h => b_ext fun i hi => by rw [h i hi, b_0]⟩
theorem b_nz {x : Int32} : ¬ x = 0 ↔ ∃ i, i < 32 ∧ bt x i = true := by
  constructor
  · intro h
    apply Classical.byContradiction
    intro hn
    exact h (b_z.mpr fun i hi => bo_nf fun e => hn ⟨i, hi, e⟩)
  · rintro ⟨i, hi, e⟩ h
    rw [h, b_0] at e
    exact Bool.false_ne_true e
/-! ors over a range -/
def orr (f : Nat → Bool) (l : Nat) : Nat → Bool
  | 0 => false
  | c + 1 => orr f l c || f (l + c)
theorem orr_iff {f : Nat → Bool} {l : Nat} : ∀ {c : Nat}, orr f l c = true ↔ ∃ s, l ≤ s ∧ s < l + c ∧ f s = true := by
  intro c
  induction c with
  | zero => exact ⟨fun h => absurd h Bool.false_ne_true, fun ⟨s, h1, h2, _⟩ => by omega⟩
  | succ c ih =>
    show (orr f l c || f (l + c)) = true ↔ _
    rw [bo_or, ih]
    constructor
    · rintro (⟨s, h1, h2, h3⟩ | h)
      · exact ⟨s, h1, by omega, h3⟩
      · exact ⟨l + c, by omega, by omega, h⟩
    · rintro ⟨s, h1, h2, h3⟩
      by_cases e : s = l + c
      · exact Or.inr (e ▸ h3)
      · exact Or.inl ⟨s, h1, by omega, h3⟩
def oRr (f : Nat → Int32) (l : Nat) : Nat → Int32
  | 0 => 0
  | c + 1 => oRr f l c ||| f (l + c)
theorem bt_oRr {f : Nat → Int32} {l i : Nat} : ∀ {c : Nat}, bt (oRr f l c) i = orr (fun s => bt (f s) i) l c := by
  intro c
  induction c with
  | zero => exact b_0 i
  | succ c ih =>
    show bt (oRr f l c ||| f (l + c)) i = (orr (fun s => bt (f s) i) l c || bt (f (l + c)) i)
    rw [b_or, ih]
def oLr (f : Nat → Int64) (l : Nat) : Nat → Int64
  | 0 => 0
  | c + 1 => oLr f l c ||| f (l + c)
theorem wd_oLr {f : Nat → Int64} {l i : Nat} : ∀ {c : Nat}, wd (oLr f l c) i = orr (fun s => wd (f s) i) l c := by
  intro c
  induction c with
  | zero => exact wd_0 i
  | succ c ih =>
    show wd (oLr f l c ||| f (l + c)) i = (orr (fun s => wd (f s) i) l c || wd (f (l + c)) i)
    rw [wd_or, ih]
theorem or_z (x : Int32) : x ||| 0 = x := b_ext fun i _ => by rw [b_or, b_0, Bool.or_false]
theorem or_zL (x : Int64) : x ||| 0 = x := wd_ext fun i _ => by rw [wd_or, wd_0, Bool.or_false]
/-! branches by an if -/
theorem ib {α : Sort _} {c : Prop} [d : Decidable c] {a b : α} {P : α → Prop} {A B : Prop} (h : P (if c then a else b)) (f : P a → A) (g : P b → B) : (c → A) ∧ (¬ c → B) :=
  ⟨fun hc => f (by rw [if_pos hc] at h; exact h), fun hc => g (by rw [if_neg hc] at h; exact h)⟩
/-! numbers -/
theorem na_m1 {n : Nat} (h : 0 < n) : nI n + (-1) = nI (n - 1) := by
  obtain ⟨m, rfl⟩ : ∃ m, n = m + 1 := ⟨n - 1, by omega⟩
  exact pk_m1 m
theorem na_49 (x s w : Nat) : ((nI x * 49) + (nI s * 7)) + nI w = nI (x * 49 + s * 7 + w) := by
  show ((nI x * nI 49) + (nI s * nI 7)) + nI w = _
  rw [pk_mul, pk_mul, nI_add, nI_add]
theorem na_7 (x w : Nat) : (nI x * 7) + nI w = nI (x * 7 + w) := by
  show (nI x * nI 7) + nI w = _
  rw [pk_mul, nI_add]
theorem na_343 (x w : Nat) : (nI x * 343) + nI w = nI (x * 343 + w) := by
  show (nI x * nI 343) + nI w = _
  rw [pk_mul, nI_add]
theorem na_8 (s : Nat) : 8 * nI s = nI (8 * s) := pk_mul 8 s
theorem na_in {x : Int32} {m N : Nat} (e : x = nI m) (h : m < N) (hN : N < 2 ^ 31) : vp_in x N := e ▸ vp_in_nI h hN
theorem na_cl {x : Int32} {m : Nat} (e : x = nI m) (h : m < 2 ^ 31) : x.toNatClampNeg = m := e ▸ nI_clamp h
theorem na_inj {a b : Nat} (h : nI a = nI b) (ha : a < 2 ^ 31) (hb : b < 2 ^ 31) : a = b := (nI_eq ha hb).mp h
theorem na_lt0 {a : Nat} (h : a < 2 ^ 31) : ¬ nI a < 0 := nI_pos h
theorem na_ne1 {a : Nat} (h : a < 2 ^ 31) : ¬ nI a = -1 := by
  intro e
  have := nI_pos (n := a) h
  rw [e] at this
  exact this (by decide)
theorem na_b0 : vp_nar .boolean 0 = 0 := by decide
theorem na_b1 : vp_nar .boolean 1 = 1 := by decide
end NT03
end
section
section NT04
/-! the outcome of an operation, as the reference reckons it -/
def oc97 (k s t : Int32) : Int32 := if s = 0 then (if t = 0 then (if k = 4 then 1 else 6) else 128) else 128
def oc160 (t z0 z1 z2 : Int32) : Int32 := if t = 0 then z2 <<< (((z1 + z0) + 0) &&& 31) else z2 <<< (((z1 + z0) + 1) &&& 31)
def oc284 (s t z0 z1 : Int32) : Int32 := if z1 = z0 then (1 : Int32) <<< (t &&& 31) else (1 : Int32) <<< (s &&& 31)
def oc255 (k s t : Int32) : Int32 := if k = 6 then (if s = 1 then 4 else 2) else if k = 7 then oc284 s t 2 s else oc284 s t 1 s
def oc143 (k s t : Int32) : Int32 := if k = 9 then (if s = 0 then oc160 t 0 3 1 else oc160 t 2 3 1) else if k = 10 then (if 3 ≤ s then (if s = 3 then 1 else if s = 4 then 1 else 6) else 128) else if k = 11 then (if 3 ≤ s then (if s = 3 then 1 else if s = 5 then 1 else 6) else 128) else if s = 1 then oc255 k s t else if s = 2 then oc255 k s t else 128
def oc32 (k s t : Int32) : Int32 := if k = 12 then (if s = 0 then 4 else 2) else if k = 13 then (if s = 1 then 4 else if s = 2 then 4 else 2) else if k = 14 then (if s < 3 then 2 else 4) else if k = 4 then oc97 k s t else if k = 5 then oc97 k s t else if k = 9 then (if 3 ≤ s then 128 else if t < 3 then oc143 k s t else 128) else oc143 k s t
def oc (k s t : Int32) : Int32 := if s = 7 then 128 else if t = 7 then (if k = 4 then 128 else if k = 5 then 128 else if k = 9 then 128 else oc32 k s t) else oc32 k s t
def ccb (k s t r : Nat) : Bool := bt (oc (nI k) (nI s) (nI t)) r
/-! the outcomes of a node, by sets: as the reference (fy), as the component (fx) -/
def fy (k : Nat) (A B : Nat → Bool) (r : Nat) : Bool := orr (fun s => A s && orr (fun t => B t && ccb k s t r) 0 8) 0 8
def fs (A B : Nat → Bool) (l c : Nat) : Bool := (A 7 || (orr A 0 7 && (B 7 || orr B l c))) || (orr A l c && orr B 0 7)
def fx (k : Nat) (A B : Nat → Bool) (s : Nat) : Bool :=
  match k with
  | 4 => if s = 0 then A 0 && B 0 else if s = 7 then fs A B 1 6 else false
  | 5 => if s = 1 then A 0 && B 0 else if s = 2 then A 0 && B 0 else if s = 7 then fs A B 1 6 else false
  | 6 => if s = 1 then A 2 else if s = 2 then A 1 else if s = 7 then A 7 || (A 0 || orr A 3 4) else false
  | 7 => if s = 7 then (A 7 || (A 0 || orr A 3 4)) || (A 2 && B 7) else if s = 1 then (A 2 && B s) || A 1 else A 2 && B s
  | 8 => if s = 7 then (A 7 || (A 0 || orr A 3 4)) || (A 1 && B 7) else if s = 2 then (A 1 && B s) || A 2 else A 1 && B s
  | 9 => if s = 3 then A 0 && B 0 else if s = 4 then A 0 && orr B 1 2 else if s = 5 then orr A 1 2 && B 0 else if s = 6 then orr A 1 2 && orr B 1 2 else if s = 7 then fs A B 3 4 else false
  | 10 => if s = 0 then A 3 || A 4 else if s = 1 then A 5 || A 6 else if s = 2 then A 5 || A 6 else if s = 7 then A 7 || orr A 0 3 else false
  | 11 => if s = 0 then A 3 || A 5 else if s = 1 then A 4 || A 6 else if s = 2 then A 4 || A 6 else if s = 7 then A 7 || orr A 0 3 else false
  | 12 => if s = 1 then orr A 0 0 || orr A 1 6 else if s = 2 then orr A 0 1 else if s = 7 then A 7 else false
  | 13 => if s = 1 then orr A 0 1 || orr A 3 4 else if s = 2 then orr A 1 2 else if s = 7 then A 7 else false
  | 14 => if s = 1 then orr A 0 3 || orr A 7 0 else if s = 2 then orr A 3 4 else if s = 7 then A 7 else false
  | _ => false
def un (i : Nat) : Nat → Bool := fun j => decide (j = i)
theorem un_s (i : Nat) : un i i = true := decide_eq_true rfl
theorem un_t {i j : Nat} (h : un i j = true) : j = i := of_decide_eq_true h
def Ln (f : (Nat → Bool) → Bool) : Prop := ∀ A : Nat → Bool, f A = true ↔ ∃ s, s < 8 ∧ A s = true ∧ f (un s) = true
def Bl (F : (Nat → Bool) → (Nat → Bool) → Bool) : Prop := ∀ A B : Nat → Bool, (∃ s, s < 8 ∧ A s = true) → (∃ t, t < 8 ∧ B t = true) → (F A B = true ↔ ∃ s, s < 8 ∧ A s = true ∧ ∃ t, t < 8 ∧ B t = true ∧ F (un s) (un t) = true)
theorem Ln_at {i : Nat} (h : i < 8) : Ln (fun A => A i) := fun A => ⟨fun e => ⟨i, h, e, un_s i⟩, fun ⟨s, _, e, u⟩ => by rw [un_t u]; exact e⟩
theorem Ln_orr {l c : Nat} (h : l + c ≤ 8) : Ln (fun A => orr A l c) := fun A => by
  constructor
  · intro e
    obtain ⟨s, h1, h2, h3⟩ := orr_iff.mp e
    exact ⟨s, by omega, h3, orr_iff.mpr ⟨s, h1, h2, un_s s⟩⟩
  · rintro ⟨s, _, e, u⟩
    obtain ⟨s', h1, h2, h3⟩ := orr_iff.mp u
    rw [un_t h3] at h1 h2
    exact orr_iff.mpr ⟨s, h1, h2, e⟩
theorem Ln_or {f g : (Nat → Bool) → Bool} (hf : Ln f) (hg : Ln g) : Ln (fun A => f A || g A) := fun A => by
  show (f A || g A) = true ↔ _
  rw [bo_or, hf A, hg A]
  constructor
  · rintro (⟨s, h1, h2, h3⟩ | ⟨s, h1, h2, h3⟩)
    · exact ⟨s, h1, h2, bo_or.mpr (Or.inl h3)⟩
    · exact ⟨s, h1, h2, bo_or.mpr (Or.inr h3)⟩
  · rintro ⟨s, h1, h2, h3⟩
    rcases bo_or.mp h3 with h | h
    · exact Or.inl ⟨s, h1, h2, h⟩
    · exact Or.inr ⟨s, h1, h2, h⟩
theorem Bl_false : Bl (fun _ _ => false) := fun A B _ _ => ⟨fun h => absurd h Bool.false_ne_true, fun ⟨_, _, _, _, _, _, h⟩ => absurd h Bool.false_ne_true⟩
theorem Bl_left {f : (Nat → Bool) → Bool} (hf : Ln f) : Bl (fun A _ => f A) := fun A B _ hB => by
  show f A = true ↔ _
  rw [hf A]
  obtain ⟨t, ht, hb⟩ := hB
  exact ⟨fun ⟨s, h1, h2, h3⟩ => ⟨s, h1, h2, t, ht, hb, h3⟩, fun ⟨s, h1, h2, _, _, _, h3⟩ => ⟨s, h1, h2, h3⟩⟩
theorem Bl_mul {f g : (Nat → Bool) → Bool} (hf : Ln f) (hg : Ln g) : Bl (fun A B => f A && g B) := fun A B _ _ => by
  show (f A && g B) = true ↔ _
  rw [bo_and, hf A, hg B]
  constructor
  · rintro ⟨⟨s, h1, h2, h3⟩, ⟨t, h4, h5, h6⟩⟩
    exact ⟨s, h1, h2, t, h4, h5, bo_and.mpr ⟨h3, h6⟩⟩
  · rintro ⟨s, h1, h2, t, h4, h5, h6⟩
    exact ⟨⟨s, h1, h2, (bo_and.mp h6).1⟩, ⟨t, h4, h5, (bo_and.mp h6).2⟩⟩
theorem Bl_or {F G : (Nat → Bool) → (Nat → Bool) → Bool} (hf : Bl F) (hg : Bl G) : Bl (fun A B => F A B || G A B) := fun A B hA hB => by
  show (F A B || G A B) = true ↔ _
  rw [bo_or, hf A B hA hB, hg A B hA hB]
  constructor
  · rintro (⟨s, h1, h2, t, h3, h4, h5⟩ | ⟨s, h1, h2, t, h3, h4, h5⟩)
    · exact ⟨s, h1, h2, t, h3, h4, bo_or.mpr (Or.inl h5)⟩
    · exact ⟨s, h1, h2, t, h3, h4, bo_or.mpr (Or.inr h5)⟩
  · rintro ⟨s, h1, h2, t, h3, h4, h5⟩
    rcases bo_or.mp h5 with h | h
    · exact Or.inl ⟨s, h1, h2, t, h3, h4, h⟩
    · exact Or.inr ⟨s, h1, h2, t, h3, h4, h⟩
theorem Bl_fs {l c : Nat} (h : l + c ≤ 8) : Bl (fun A B => fs A B l c) :=
  Bl_or (Bl_or (Bl_left (Ln_at (by decide))) (Bl_mul (Ln_orr (by decide)) (Ln_or (Ln_at (by decide)) (Ln_orr h)))) (Bl_mul (Ln_orr h) (Ln_orr (by decide)))
theorem Bl_if {c : Prop} [d : Decidable c] {F G : (Nat → Bool) → (Nat → Bool) → Bool} (hf : Bl F) (hg : Bl G) : Bl (fun A B => if c then F A B else G A B) := by
  by_cases h : c
  · simp only [if_pos h]; exact hf
  · simp only [if_neg h]; exact hg
theorem Bl_bool : Bl (fun A _ => A 7 || (A 0 || orr A 3 4)) := Bl_left (Ln_or (Ln_at (by decide)) (Ln_or (Ln_at (by decide)) (Ln_orr (by decide))))
theorem Bl_fx : ∀ (k s : Nat), s < 8 → Bl (fun A B => fx k A B s) := by
  intro k s hs
  rcases Nat.lt_or_ge k 4 with h | h
  · rcases (by omega : k = 0 ∨ k = 1 ∨ k = 2 ∨ k = 3) with rfl | rfl | rfl | rfl <;> exact Bl_false
  rcases Nat.lt_or_ge 14 k with h2 | h2
  · obtain ⟨m, rfl⟩ : ∃ m, k = m + 15 := ⟨k - 15, by omega⟩
    exact Bl_false
  rcases (by omega : k = 4 ∨ k = 5 ∨ k = 6 ∨ k = 7 ∨ k = 8 ∨ k = 9 ∨ k = 10 ∨ k = 11 ∨ k = 12 ∨ k = 13 ∨ k = 14) with rfl | rfl | rfl | rfl | rfl | rfl | rfl | rfl | rfl | rfl | rfl
  · exact Bl_if (Bl_mul (Ln_at (by decide)) (Ln_at (by decide))) (Bl_if (Bl_fs (by decide)) Bl_false)
  · exact Bl_if (Bl_mul (Ln_at (by decide)) (Ln_at (by decide))) (Bl_if (Bl_mul (Ln_at (by decide)) (Ln_at (by decide))) (Bl_if (Bl_fs (by decide)) Bl_false))
  · exact Bl_if (Bl_left (Ln_at (by decide))) (Bl_if (Bl_left (Ln_at (by decide))) (Bl_if Bl_bool Bl_false))
  · exact Bl_if (Bl_or Bl_bool (Bl_mul (Ln_at (by decide)) (Ln_at (by decide)))) (Bl_if (Bl_or (Bl_mul (Ln_at (by decide)) (Ln_at hs)) (Bl_left (Ln_at (by decide)))) (Bl_mul (Ln_at (by decide)) (Ln_at hs)))
  · exact Bl_if (Bl_or Bl_bool (Bl_mul (Ln_at (by decide)) (Ln_at (by decide)))) (Bl_if (Bl_or (Bl_mul (Ln_at (by decide)) (Ln_at hs)) (Bl_left (Ln_at (by decide)))) (Bl_mul (Ln_at (by decide)) (Ln_at hs)))
  · exact Bl_if (Bl_mul (Ln_at (by decide)) (Ln_at (by decide))) (Bl_if (Bl_mul (Ln_at (by decide)) (Ln_orr (by decide))) (Bl_if (Bl_mul (Ln_orr (by decide)) (Ln_at (by decide))) (Bl_if (Bl_mul (Ln_orr (by decide)) (Ln_orr (by decide))) (Bl_if (Bl_fs (by decide)) Bl_false))))
  · exact Bl_if (Bl_left (Ln_or (Ln_at (by decide)) (Ln_at (by decide)))) (Bl_if (Bl_left (Ln_or (Ln_at (by decide)) (Ln_at (by decide)))) (Bl_if (Bl_left (Ln_or (Ln_at (by decide)) (Ln_at (by decide)))) (Bl_if (Bl_left (Ln_or (Ln_at (by decide)) (Ln_orr (by decide)))) Bl_false)))
  · exact Bl_if (Bl_left (Ln_or (Ln_at (by decide)) (Ln_at (by decide)))) (Bl_if (Bl_left (Ln_or (Ln_at (by decide)) (Ln_at (by decide)))) (Bl_if (Bl_left (Ln_or (Ln_at (by decide)) (Ln_at (by decide)))) (Bl_if (Bl_left (Ln_or (Ln_at (by decide)) (Ln_orr (by decide)))) Bl_false)))
  · exact Bl_if (Bl_left (Ln_or (Ln_orr (by decide)) (Ln_orr (by decide)))) (Bl_if (Bl_left (Ln_orr (by decide))) (Bl_if (Bl_left (Ln_at (by decide))) Bl_false))
  · exact Bl_if (Bl_left (Ln_or (Ln_orr (by decide)) (Ln_orr (by decide)))) (Bl_if (Bl_left (Ln_orr (by decide))) (Bl_if (Bl_left (Ln_at (by decide))) Bl_false))
  · exact Bl_if (Bl_left (Ln_or (Ln_orr (by decide)) (Ln_orr (by decide)))) (Bl_if (Bl_left (Ln_orr (by decide))) (Bl_if (Bl_left (Ln_at (by decide))) Bl_false))
theorem fx_tab : ∀ k, k < 15 → 4 ≤ k → ∀ s, s < 8 → ∀ t, t < 8 → ∀ r, r < 8 → fx k (un s) (un t) r = ccb k s t r := by decide +kernel
theorem cc_ne : ∀ k, k < 15 → 4 ≤ k → ∀ s, s < 8 → ∀ t, t < 8 → ∃ r, r < 8 ∧ ccb k s t r = true := by decide +kernel
theorem cc_big0 : ∀ k, k < 15 → 4 ≤ k → ∀ s, s < 8 → ∀ t, t < 8 → ∀ r, r < 24 → ccb k s t (8 + r) = false := by decide +kernel
theorem cc_big {k s t r : Nat} (hk : k < 15) (h4 : 4 ≤ k) (hs : s < 8) (ht : t < 8) (h8 : 8 ≤ r) (hr : r < 32) : ccb k s t r = false := by
  obtain ⟨m, rfl⟩ : ∃ m, r = 8 + m := ⟨r - 8, by omega⟩
  exact cc_big0 k hk h4 s hs t ht m (by omega)
theorem fy_iff {k r : Nat} {A B : Nat → Bool} : fy k A B r = true ↔ ∃ s, s < 8 ∧ A s = true ∧ ∃ t, t < 8 ∧ B t = true ∧ ccb k s t r = true := by
  unfold fy
  rw [orr_iff]
  constructor
  · rintro ⟨s, _, h2, h3⟩
    obtain ⟨h4, h5⟩ := bo_and.mp h3
    obtain ⟨t, _, h7, h8⟩ := orr_iff.mp h5
    exact ⟨s, by omega, h4, t, by omega, (bo_and.mp h8).1, (bo_and.mp h8).2⟩
  · rintro ⟨s, h1, h2, t, h3, h4, h5⟩
    exact ⟨s, by omega, by omega, bo_and.mpr ⟨h2, orr_iff.mpr ⟨t, by omega, by omega, bo_and.mpr ⟨h4, h5⟩⟩⟩⟩
theorem fx_fy {k r : Nat} {A B : Nat → Bool} (h4 : 4 ≤ k) (h14 : k ≤ 14) (hr : r < 8) (hA : ∃ s, s < 8 ∧ A s = true) (hB : ∃ t, t < 8 ∧ B t = true) : fx k A B r = fy k A B r := by
  apply bo_eq
  rw [fy_iff, Bl_fx k r hr A B hA hB]
  constructor
  · rintro ⟨s, h1, h2, t, h3, h5, h6⟩
    exact ⟨s, h1, h2, t, h3, h5, by rw [← fx_tab k (by omega) h4 s h1 t h3 r hr]; exact h6⟩
  · rintro ⟨s, h1, h2, t, h3, h5, h6⟩
    exact ⟨s, h1, h2, t, h3, h5, by show fx k (un s) (un t) r = true; rw [fx_tab k (by omega) h4 s h1 t h3 r hr]; exact h6⟩
theorem fy_ne {k : Nat} {A B : Nat → Bool} (h4 : 4 ≤ k) (h14 : k ≤ 14) (hA : ∃ s, s < 8 ∧ A s = true) (hB : ∃ t, t < 8 ∧ B t = true) : ∃ r, r < 8 ∧ fy k A B r = true := by
  obtain ⟨s, h1, h2⟩ := hA
  obtain ⟨t, h3, h5⟩ := hB
  obtain ⟨r, hr, h6⟩ := cc_ne k (by omega) h4 s h1 t h3
  exact ⟨r, hr, fy_iff.mpr ⟨s, h1, h2, t, h3, h5, h6⟩⟩
/-! shapes by state; a node's outcomes, all along the nodes -/
def shq (q : Nat) : Nat → Nat := fun v => if v = 0 then q % 7 else if v = 1 then q / 7 % 7 else q / 49
def shj (w j : Nat) : Nat → Nat := fun v => if v = 0 then j % 8 else if v = 1 then j / 8 else w
def qj (q : Nat) : Nat := q / 7 % 7 * 8 + q % 7
def qi (w j : Nat) : Nat := w * 49 + j / 8 * 7 + j % 8
def vj (j : Nat) : Prop := j % 8 < 7 ∧ j / 8 < 7
theorem sh_eq (q : Nat) : shj (q / 49) (qj q) = shq q := by
  funext v
  unfold shj shq qj
  have h1 : (q / 7 % 7 * 8 + q % 7) % 8 = q % 7 := by omega
  have h2 : (q / 7 % 7 * 8 + q % 7) / 8 = q / 7 % 7 := by omega
  rw [h1, h2]
theorem qj_v (q : Nat) : vj (qj q) := by unfold vj qj; omega
theorem qj_lt {j : Nat} (h : vj j) : j < 56 := by unfold vj at h; omega
theorem qj_64 (q : Nat) : qj q < 64 := by have := qj_lt (qj_v q); omega
theorem qi_lt {w j : Nat} (hw : w < 7) (h : vj j) : qi w j < 343 := by unfold vj at h; unfold qi; omega
theorem qi_w {w j : Nat} (h : vj j) : qi w j / 49 = w := by unfold vj at h; unfold qi; omega
theorem qi_j {w j : Nat} (h : vj j) : qj (qi w j) = j := by unfold vj at h; unfold qi qj; omega
theorem qj_i {q : Nat} (h : q < 343) : qi (q / 49) (qj q) = q := by unfold qi qj; omega
theorem qi_sh {w j : Nat} (h : vj j) : shq (qi w j) = shj w j := by rw [← sh_eq, qi_w h, qi_j h]
def Os (k a b : Int32) (σ : Nat → Nat) (T : Nat → Nat → Bool) (s : Nat) : Bool :=
  if k = 1 then decide (s = σ a.toNatClampNeg) else if k = 2 then decide (s = 0) else if k = 3 then decide (s = 1 + a.toNatClampNeg) else fy k.toNatClampNeg (T a.toNatClampNeg) (T b.toNatClampNeg) s
def Ot (nk na nb : Nat → Int32) (σ : Nat → Nat) : Nat → Nat → Nat → Bool
  | 0 => fun _ _ => false
  | n + 1 => fun x s => if x = n then Os (nk n) (na n) (nb n) σ (Ot nk na nb σ n) s else Ot nk na nb σ n x s
def OO (nk na nb : Nat → Int32) (σ : Nat → Nat) (x s : Nat) : Bool := Ot nk na nb σ (x + 1) x s
theorem Ot_st {nk na nb : Nat → Int32} {σ : Nat → Nat} {x : Nat} : ∀ n, x < n → Ot nk na nb σ n x = OO nk na nb σ x := by
  intro n
  induction n with
  | zero => intro h; omega
  | succ n ih =>
    intro h
    by_cases e : x = n
    · subst e; rfl
    · rw [← ih (by omega)]
      funext s
      exact if_neg e
theorem OO_eq (nk na nb : Nat → Int32) (σ : Nat → Nat) (x s : Nat) : OO nk na nb σ x s = Os (nk x) (na x) (nb x) σ (Ot nk na nb σ x) s := if_pos rfl
theorem OO_1 {nk na nb : Nat → Int32} {σ : Nat → Nat} {x s : Nat} (h : nk x = 1) : OO nk na nb σ x s = decide (s = σ (na x).toNatClampNeg) := by
  rw [OO_eq]; exact if_pos h
theorem OO_2 {nk na nb : Nat → Int32} {σ : Nat → Nat} {x s : Nat} (h : nk x = 2) : OO nk na nb σ x s = decide (s = 0) := by
  rw [OO_eq]; unfold Os; rw [h, if_neg (by decide), if_pos rfl]
theorem OO_3 {nk na nb : Nat → Int32} {σ : Nat → Nat} {x s : Nat} (h : nk x = 3) : OO nk na nb σ x s = decide (s = 1 + (na x).toNatClampNeg) := by
  rw [OO_eq]; unfold Os; rw [h, if_neg (by decide), if_neg (by decide), if_pos rfl]
theorem nI_ne {a b : Nat} (h : a ≠ b) (ha : a < 2 ^ 31) (hb : b < 2 ^ 31) : ¬ nI a = nI b := fun e => h (na_inj e ha hb)
theorem OO_4 {nk na nb : Nat → Int32} {σ : Nat → Nat} {x s k a b : Nat} (h : nk x = nI k) (h4 : 4 ≤ k) (h14 : k ≤ 14) (ha : na x = nI a) (hb : nb x = nI b) (hax : a < x) (hbx : b < x) (hx : x < 2 ^ 31) : OO nk na nb σ x s = fy k (OO nk na nb σ a) (OO nk na nb σ b) s := by
  rw [OO_eq]; unfold Os
  rw [h, if_neg (show ¬ nI k = 1 from nI_ne (b := 1) (by omega) (by omega) (by omega)), if_neg (show ¬ nI k = 2 from nI_ne (b := 2) (by omega) (by omega) (by omega)), if_neg (show ¬ nI k = 3 from nI_ne (b := 3) (by omega) (by omega) (by omega)), ha, hb, nI_clamp (by omega), nI_clamp (by omega), nI_clamp (by omega), Ot_st x hax, Ot_st x hbx]
end NT04
end
section
section NT05
/-! the scans over the lines: the innermost open line at a depth; the match of a line -/
def opk (k : Int32) : Bool := decide (k = 2) || decide (k = 5)
def opn (K : Nat → Int32) : Nat → Nat → Option Nat
  | 0 => fun _ => none
  | q + 1 => fun d => if opk (K q) = true then (match d with | 0 => some q | d' + 1 => opn K q d') else if K q = 4 then opn K q (d + 1) else opn K q d
def mtx (K : Nat → Int32) (e : Bool) (q d : Nat) : Prop := d = 0 ∧ (K q = 4 ∨ (K q = 3 ∧ e = true))
def mtd (K : Nat → Int32) (q d : Nat) : Nat := if opk (K q) = true then d + 1 else if K q = 4 then d - 1 else d
noncomputable def mt (K : Nat → Int32) (e : Bool) : Nat → Nat → Nat → Nat
  | 0 => fun q _ => q
  | m + 1 => fun q d => @ite _ (mtx K e q d) (Classical.propDecidable _) q (mt K e m (q + 1) (mtd K q d))
theorem opk_4 : opk 4 = false := by decide
theorem opk_3 : opk 3 = false := by decide
theorem opk_t {k : Int32} (h : opk k = true) : k = 2 ∨ k = 5 := by
  rcases bo_or.mp h with h | h
  · exact Or.inl (of_decide_eq_true h)
  · exact Or.inr (of_decide_eq_true h)
theorem opk_n4 {k : Int32} (h : opk k = true) : ¬ k = 4 := fun e => by rw [e, opk_4] at h; exact Bool.false_ne_true h
theorem opk_n3 {k : Int32} (h : opk k = true) : ¬ k = 3 := fun e => by rw [e, opk_3] at h; exact Bool.false_ne_true h
theorem op_o0 {K : Nat → Int32} {q : Nat} (h : opk (K q) = true) : opn K (q + 1) 0 = some q := if_pos h
theorem op_oS {K : Nat → Int32} {q d : Nat} (h : opk (K q) = true) : opn K (q + 1) (d + 1) = opn K q d := if_pos h
theorem op_c {K : Nat → Int32} {q d : Nat} (h : K q = 4) : opn K (q + 1) d = opn K q (d + 1) := by
  show (if opk (K q) = true then _ else if K q = 4 then _ else _) = _
  rw [if_neg (by rw [h]; decide), if_pos h]
theorem op_n {K : Nat → Int32} {q d : Nat} (h : ¬ opk (K q) = true) (h4 : ¬ K q = 4) : opn K (q + 1) d = opn K q d := by
  show (if opk (K q) = true then _ else if K q = 4 then _ else _) = _
  rw [if_neg h, if_neg h4]
theorem mt_f {K : Nat → Int32} {e : Bool} {m q d : Nat} (h : mtx K e q d) : mt K e (m + 1) q d = q := if_pos h
theorem mt_g {K : Nat → Int32} {e : Bool} {m q d : Nat} (h : ¬ mtx K e q d) : mt K e (m + 1) q d = mt K e m (q + 1) (mtd K q d) := if_neg h
/-- what the scan sees of the stack, one line on -/
theorem op_st {K : Nat → Int32} {e : Bool} {q d : Nat} (h : ¬ mtx K e q d) : opn K (q + 1) (mtd K q d) = opn K q d := by
  unfold mtd
  by_cases h1 : opk (K q) = true
  · rw [if_pos h1]; exact op_oS h1
  · rw [if_neg h1]
    by_cases h4 : K q = 4
    · rw [if_pos h4, op_c h4]
      have : d ≠ 0 := fun e0 => h ⟨e0, Or.inl h4⟩
      rw [show d - 1 + 1 = d by omega]
    · rw [if_neg h4]; exact op_n h1 h4
theorem mt_ge {K : Nat → Int32} {e : Bool} : ∀ m q d, q ≤ mt K e m q d ∧ mt K e m q d ≤ q + m := by
  intro m
  induction m with
  | zero => intro q d; exact ⟨Nat.le_refl q, Nat.le_refl q⟩
  | succ m ih =>
    intro q d
    by_cases h : mtx K e q d
    · rw [mt_f h]; omega
    · rw [mt_g h]; have := ih (q + 1) (mtd K q d); omega
/-- found stays found -/
theorem mt_add {K : Nat → Int32} {e : Bool} (c : Nat) : ∀ m q d, mt K e m q d < q + m → mt K e (m + c) q d = mt K e m q d := by
  intro m
  induction m with
  | zero => intro q d h; exact absurd h (Nat.lt_irrefl q)
  | succ m ih =>
    intro q d h
    rw [show m + 1 + c = (m + c) + 1 by omega]
    by_cases hx : mtx K e q d
    · rw [mt_f hx, mt_f hx]
    · rw [mt_g hx] at h
      rw [mt_g hx, mt_g hx]
      exact ih (q + 1) _ (by omega)
theorem mt_k {K : Nat → Int32} {e : Bool} : ∀ m q d, mt K e m q d < q + m → K (mt K e m q d) = 4 ∨ (K (mt K e m q d) = 3 ∧ e = true) := by
  intro m
  induction m with
  | zero => intro q d h; exact absurd h (Nat.lt_irrefl q)
  | succ m ih =>
    intro q d h
    by_cases hx : mtx K e q d
    · rw [mt_f hx]; exact hx.2
    · rw [mt_g hx] at h ⊢
      exact ih (q + 1) _ (by omega)
/-- where the scan stands -/
theorem mt_at {K : Nat → Int32} {e : Bool} {o : Nat} : ∀ m q d, opn K q d = some o →
    (mt K e m q d < q + m ∧ opn K (mt K e m q d) 0 = some o) ∨ (∃ d', opn K (q + m) d' = some o ∧ ∀ c, mt K e (m + c) q d = mt K e c (q + m) d') := by
  intro m
  induction m with
  | zero => intro q d h; exact Or.inr ⟨d, h, fun c => by rw [Nat.zero_add]; rfl⟩
  | succ m ih =>
    intro q d h
    by_cases hx : mtx K e q d
    · refine Or.inl ⟨by rw [mt_f hx]; omega, ?_⟩
      rw [mt_f hx, ← hx.1]; exact h
    · rcases ih (q + 1) (mtd K q d) ((op_st hx).trans h) with ⟨h1, h2⟩ | ⟨d', h1, h2⟩
      · exact Or.inl ⟨by rw [mt_g hx]; omega, by rw [mt_g hx]; exact h2⟩
      · refine Or.inr ⟨d', by rw [show q + (m + 1) = q + 1 + m by omega]; exact h1, fun c => ?_⟩
        rw [show m + 1 + c = (m + c) + 1 by omega, mt_g hx, h2 c, show q + (m + 1) = q + 1 + m by omega]
theorem op_lt {K : Nat → Int32} {o : Nat} : ∀ n d, opn K n d = some o → o < n := by
  intro n
  induction n with
  | zero => intro d h; exact absurd h (by intro z; cases z)
  | succ n ih =>
    intro d h
    by_cases h1 : opk (K n) = true
    · cases d with
      | zero => rw [op_o0 h1] at h; cases h; omega
      | succ d => rw [op_oS h1] at h; have := ih d h; omega
    · by_cases h4 : K n = 4
      · rw [op_c h4] at h; have := ih _ h; omega
      · rw [op_n h1 h4] at h; have := ih _ h; omega
theorem op_k {K : Nat → Int32} {o : Nat} : ∀ n d, opn K n d = some o → opk (K o) = true := by
  intro n
  induction n with
  | zero => intro d h; exact absurd h (by intro z; cases z)
  | succ n ih =>
    intro d h
    by_cases h1 : opk (K n) = true
    · cases d with
      | zero => rw [op_o0 h1] at h; cases h; exact h1
      | succ d => rw [op_oS h1] at h; exact ih d h
    · by_cases h4 : K n = 4
      · rw [op_c h4] at h; exact ih _ h
      · rw [op_n h1 h4] at h; exact ih _ h
theorem op_inj {K : Nat → Int32} {o : Nat} : ∀ n d d', opn K n d = some o → opn K n d' = some o → d = d' := by
  intro n
  induction n with
  | zero => intro d d' h; exact absurd h (by intro z; cases z)
  | succ n ih =>
    intro d d' h h'
    by_cases h1 : opk (K n) = true
    · cases d with
      | zero =>
        cases d' with
        | zero => rfl
        | succ d' =>
          rw [op_o0 h1] at h; cases h
          rw [op_oS h1] at h'; have := op_lt _ d' h'; omega
      | succ d =>
        cases d' with
        | zero =>
          rw [op_o0 h1] at h'; cases h'
          rw [op_oS h1] at h; have := op_lt _ d h; omega
        | succ d' =>
          rw [op_oS h1] at h h'; have := ih d d' h h'; omega
    · by_cases h4 : K n = 4
      · rw [op_c h4] at h h'; have := ih _ _ h h'; omega
      · rw [op_n h1 h4] at h h'; exact ih _ _ h h'
theorem op_mono {K : Nat → Int32} : ∀ n d, opn K n d = none → opn K n (d + 1) = none := by
  intro n
  induction n with
  | zero => intro d _; rfl
  | succ n ih =>
    intro d h
    by_cases h1 : opk (K n) = true
    · cases d with
      | zero => rw [op_o0 h1] at h; cases h
      | succ d => rw [op_oS h1] at h ⊢; exact ih d h
    · by_cases h4 : K n = 4
      · rw [op_c h4] at h ⊢; exact ih _ h
      · rw [op_n h1 h4] at h ⊢; exact ih _ h
theorem op_none {K : Nat → Int32} {n : Nat} (h : opn K n 0 = none) : ∀ d, opn K n d = none := by
  intro d
  induction d with
  | zero => exact h
  | succ d ih => exact op_mono n d ih
theorem op_gone {K : Nat → Int32} {o r : Nat} (ho : o < r) (h : ∀ d, ¬ opn K r d = some o) : ∀ m d, ¬ opn K (r + m) d = some o := by
  intro m
  induction m with
  | zero => exact h
  | succ m ih =>
    intro d hd
    rw [show r + (m + 1) = (r + m) + 1 by omega] at hd
    by_cases h1 : opk (K (r + m)) = true
    · cases d with
      | zero => rw [op_o0 h1] at hd; cases hd; omega
      | succ d => rw [op_oS h1] at hd; exact ih d hd
    · by_cases h4 : K (r + m) = 4
      · rw [op_c h4] at hd; exact ih _ hd
      · rw [op_n h1 h4] at hd; exact ih _ hd
/-- scans look below alone -/
theorem op_ag {K K' : Nat → Int32} : ∀ n, (∀ q, q < n → K' q = K q) → ∀ d, opn K' n d = opn K n d := by
  intro n
  induction n with
  | zero => intro _ d; rfl
  | succ n ih =>
    intro h d
    have ih := ih (fun q hq => h q (by omega))
    have e := h n (by omega)
    by_cases h1 : opk (K n) = true
    · cases d with
      | zero => rw [op_o0 h1, op_o0 (by rw [e]; exact h1)]
      | succ d => rw [op_oS h1, op_oS (by rw [e]; exact h1)]; exact ih d
    · by_cases h4 : K n = 4
      · rw [op_c h4, op_c (by rw [e]; exact h4)]; exact ih _
      · rw [op_n h1 h4, op_n (by rw [e]; exact h1) (by rw [e]; exact h4)]; exact ih _
theorem mt_ag {K K' : Nat → Int32} {e : Bool} : ∀ m q, (∀ r, q ≤ r → r < q + m → K' r = K r) → ∀ d, mt K' e m q d = mt K e m q d := by
  intro m
  induction m with
  | zero => intro q _ d; rfl
  | succ m ih =>
    intro q h d
    have eq := h q (by omega) (by omega)
    have ih := ih (q + 1) (fun r h1 h2 => h r (by omega) (by omega))
    have ed : mtd K' q d = mtd K q d := by unfold mtd; rw [eq]
    by_cases hx : mtx K e q d
    · rw [mt_f hx, mt_f (by unfold mtx; rw [eq]; exact hx)]
    · rw [mt_g hx, mt_g (by unfold mtx; rw [eq]; exact hx), ed]; exact ih _
/-- the match of line p among n lines -/
noncomputable def mm (K : Nat → Int32) (e : Bool) (n p : Nat) : Nat := mt K e (n - (p + 1)) (p + 1) 0
/-- an open line's scan: found, or at its place in the stack -/
theorem mm_at {K : Nat → Int32} {e : Bool} {n s o : Nat} (hs : s ≤ n) (ho : opn K s 0 = some o) :
    (mt K e (n - s) s 0 < n ∧ opn K (mt K e (n - s) s 0) 0 = some o) ∨ (∃ d', opn K n d' = some o ∧ mt K e (n + 1 - s) s 0 = mt K e 1 n d' ∧ mt K e (n - s) s 0 = n) := by
  rcases mt_at (e := e) (n - s) s 0 ho with ⟨h1, h2⟩ | ⟨d', h1, h2⟩
  · exact Or.inl ⟨by omega, h2⟩
  · rw [show s + (n - s) = n by omega] at h1 h2
    refine Or.inr ⟨d', h1, ?_, ?_⟩
    · have := h2 1
      rw [show n - s + 1 = n + 1 - s by omega] at this
      exact this
    · have := h2 0
      exact this
/-- a found END takes its line off the stack for good -/
theorem mm_off {K : Nat → Int32} {r o n : Nat} (h4 : K r = 4) (ho : opn K r 0 = some o) (hn : r < n) : ∀ d, ¬ opn K n d = some o := by
  have hl := op_lt r 0 ho
  have h1 : ∀ d, ¬ opn K (r + 1) d = some o := by
    intro d hd
    rw [op_c h4] at hd
    have := op_inj r _ _ hd ho
    omega
  intro d hd
  have := op_gone (o := o) (r := r + 1) (by omega) h1 (n - (r + 1)) d
  rw [show r + 1 + (n - (r + 1)) = n by omega] at this
  exact this hd
end NT05
end
section
section NT06
/-! the jumps as the lines stand, and what one line more does to them -/
def gE (K : Nat → Int32) (p : Nat) : Option Nat → Nat
  | some o => if K o = 5 then o else p + 1
  | none => p + 1
noncomputable def gJ (K : Nat → Int32) (n p : Nat) : Nat :=
  if K p = 4 then gE K p (opn K p 0)
  else if K p = 3 then (if mm K false n p < n then mm K false n p else p + 1)
  else if K p = 5 then (if mm K false n p < n then mm K false n p + 1 else p + 1)
  else if K p = 2 then (if mm K true n p < n then (if K (mm K true n p) = 3 then mm K true n p + 1 else mm K true n p) else p + 1)
  else p + 1
theorem gJ_4 {K : Nat → Int32} {n p : Nat} (h : K p = 4) : gJ K n p = gE K p (opn K p 0) := by unfold gJ; rw [if_pos h]
theorem gJ_3 {K : Nat → Int32} {n p : Nat} (h : K p = 3) : gJ K n p = if mm K false n p < n then mm K false n p else p + 1 := by
  unfold gJ; rw [if_neg (show ¬ K p = 4 by rw [h]; decide), if_pos h]
theorem gJ_5 {K : Nat → Int32} {n p : Nat} (h : K p = 5) : gJ K n p = if mm K false n p < n then mm K false n p + 1 else p + 1 := by
  unfold gJ; rw [if_neg (show ¬ K p = 4 by rw [h]; decide), if_neg (show ¬ K p = 3 by rw [h]; decide), if_pos h]
theorem gJ_2 {K : Nat → Int32} {n p : Nat} (h : K p = 2) : gJ K n p = if mm K true n p < n then (if K (mm K true n p) = 3 then mm K true n p + 1 else mm K true n p) else p + 1 := by
  unfold gJ; rw [if_neg (show ¬ K p = 4 by rw [h]; decide), if_neg (show ¬ K p = 3 by rw [h]; decide), if_neg (show ¬ K p = 5 by rw [h]; decide), if_pos h]
theorem gJ_0 {K : Nat → Int32} {n p : Nat} (h4 : ¬ K p = 4) (h3 : ¬ K p = 3) (h5 : ¬ K p = 5) (h2 : ¬ K p = 2) : gJ K n p = p + 1 := by
  unfold gJ; rw [if_neg h4, if_neg h3, if_neg h5, if_neg h2]
noncomputable def elv (K : Nat → Int32) (l p : Nat) : Nat := if mm K true l p < l ∧ K (mm K true l p) = 3 then mm K true l p else 0
def LN (l : Nat) (K : Nat → Int32) (D : Nat) (ju el ol : Nat → Int32) : Prop :=
  (∀ d, d < D → ∃ o, opn K l d = some o ∧ ol (D - 1 - d) = nI o) ∧ opn K l D = none ∧ D ≤ l ∧
  (∀ p, p < l → ju p = nI (gJ K l p)) ∧ (∀ p, p < l → K p = 2 → el p = nI (elv K l p)) ∧ (∀ p, l ≤ p → el p = 0) ∧
  (∀ p, p < l → K p = 3 → ∃ o, opn K p 0 = some o ∧ K o = 2 ∧ mm K true l o = p)
theorem ext_f {K K' : Nat → Int32} {e : Bool} {l p : Nat} (hK : ∀ q, q < l → K' q = K q) (hp : p < l) (h : mm K e l p < l) : mm K' e (l + 1) p = mm K e l p := by
  unfold mm at h ⊢
  have a := mt_ag (K := K) (K' := K') (e := e) (l - (p + 1)) (p + 1) (fun r h1 h2 => hK r (by omega)) 0
  rw [show l + 1 - (p + 1) = (l - (p + 1)) + 1 by omega, mt_add (K := K') (e := e) 1 _ _ _ (by rw [a]; omega), a]
theorem ext_p {K K' : Nat → Int32} {e : Bool} {l p o : Nat} (hK : ∀ q, q < l → K' q = K q) (hp : p < l) (ho : opn K (p + 1) 0 = some o) (h : ¬ mm K e l p < l) :
    mm K e l p = l ∧ ∃ d', opn K l d' = some o ∧ (mtx K' e l d' → mm K' e (l + 1) p = l) ∧ (¬ mtx K' e l d' → mm K' e (l + 1) p = l + 1) := by
  have ag : mt K' e (l - (p + 1)) (p + 1) 0 = mt K e (l - (p + 1)) (p + 1) 0 := mt_ag _ _ (fun r h1 h2 => hK r (by omega)) 0
  have ho' : opn K' (p + 1) 0 = some o := (op_ag (p + 1) (fun q hq => hK q (by omega)) 0).trans ho
  rcases mm_at (K := K') (e := e) (n := l) (s := p + 1) (by omega) ho' with ⟨h1, _⟩ | ⟨d', h1, h2, h3⟩
  · exfalso; rw [ag] at h1; exact h h1
  · exact ⟨ag.symm.trans h3, d', (op_ag l hK d').symm.trans h1, fun hx => h2.trans (mt_f hx), fun hx => h2.trans (mt_g hx)⟩
theorem ext_s {K K' : Nat → Int32} {e : Bool} {l p o : Nat} (hK : ∀ q, q < l → K' q = K q) (hp : p < l) (ho : opn K (p + 1) 0 = some o) (hx : ∀ d', opn K l d' = some o → ¬ mtx K' e l d') :
    (mm K e l p < l ∧ mm K' e (l + 1) p = mm K e l p) ∨ (mm K e l p = l ∧ mm K' e (l + 1) p = l + 1) := by
  by_cases h : mm K e l p < l
  · exact Or.inl ⟨h, ext_f hK hp h⟩
  · obtain ⟨a, d', b, _, c⟩ := ext_p hK hp ho h
    exact Or.inr ⟨a, c (hx d' b)⟩
theorem gJ_s {K K' : Nat → Int32} {l p : Nat} (hK : ∀ q, q < l → K' q = K q) (hp : p < l) (h3 : K p = 3 → ∃ o, opn K p 0 = some o)
    (hx : ∀ o e, (opk (K p) = true ∧ o = p) ∨ (K p = 3 ∧ opn K p 0 = some o) → ∀ d', opn K l d' = some o → ¬ mtx K' e l d') : gJ K' (l + 1) p = gJ K l p := by
  have e := hK p hp
  by_cases h4 : K p = 4
  · rw [gJ_4 (e.trans h4), gJ_4 h4, op_ag p (fun q hq => hK q (by omega)) 0]
    cases e : opn K p 0 with
    | none => rfl
    | some o =>
      show (if K' o = 5 then o else p + 1) = (if K o = 5 then o else p + 1)
      rw [hK o (by have := op_lt p 0 e; omega)]
  · by_cases h3' : K p = 3
    · rw [gJ_3 (e.trans h3'), gJ_3 h3']
      obtain ⟨o, ho⟩ := h3 h3'
      have ho1 : opn K (p + 1) 0 = some o := (op_n (by rw [h3']; decide) h4).trans ho
      rcases ext_s (e := false) hK hp ho1 (hx o false (Or.inr ⟨h3', ho⟩)) with ⟨a, b⟩ | ⟨a, b⟩
      · rw [b, if_pos a, if_pos (by omega)]
      · rw [a, b, if_neg (by omega), if_neg (by omega)]
    · by_cases h5 : K p = 5
      · rw [gJ_5 (e.trans h5), gJ_5 h5]
        have ho1 : opn K (p + 1) 0 = some p := op_o0 (by rw [h5]; decide)
        rcases ext_s (e := false) hK hp ho1 (hx p false (Or.inl ⟨by rw [h5]; decide, rfl⟩)) with ⟨a, b⟩ | ⟨a, b⟩
        · rw [b, if_pos a, if_pos (by omega)]
        · rw [a, b, if_neg (by omega), if_neg (by omega)]
      · by_cases h2 : K p = 2
        · rw [gJ_2 (e.trans h2), gJ_2 h2]
          have ho1 : opn K (p + 1) 0 = some p := op_o0 (by rw [h2]; decide)
          rcases ext_s (e := true) hK hp ho1 (hx p true (Or.inl ⟨by rw [h2]; decide, rfl⟩)) with ⟨a, b⟩ | ⟨a, b⟩
          · rw [b, if_pos a, if_pos (show mm K true l p < l + 1 by omega), hK _ a]
          · rw [a, b, if_neg (by omega), if_neg (by omega)]
        · rw [gJ_0 (by rw [e]; exact h4) (by rw [e]; exact h3') (by rw [e]; exact h5) (by rw [e]; exact h2), gJ_0 h4 h3' h5 h2]
theorem el_s {K K' : Nat → Int32} {l p : Nat} (hK : ∀ q, q < l → K' q = K q) (hp : p < l) (h2 : K p = 2)
    (hx : ∀ d', opn K l d' = some p → ¬ mtx K' true l d') : elv K' (l + 1) p = elv K l p := by
  unfold elv
  rcases ext_s (e := true) hK hp (op_o0 (by rw [h2]; decide)) hx with ⟨a, b⟩ | ⟨a, b⟩
  · rw [b, hK _ a]
    by_cases c : K (mm K true l p) = 3
    · rw [if_pos ⟨by omega, c⟩, if_pos ⟨a, c⟩]
    · rw [if_neg (fun z => c z.2), if_neg (fun z => c z.2)]
  · rw [if_neg (fun z => by omega), if_neg (fun z => by omega)]
theorem up_hK {K : Nat → Int32} {l : Nat} {k : Int32} : ∀ q, q < l → upd K l k q = K q := fun q hq => pk_un (by omega)
theorem el_else {K K' : Nat → Int32} {l p : Nat} (hK : ∀ q, q < l → K' q = K q) (hp : p < l) (h : ∃ o, opn K p 0 = some o ∧ K o = 2 ∧ mm K true l o = p) :
    ∃ o, opn K' p 0 = some o ∧ K' o = 2 ∧ mm K' true (l + 1) o = p := by
  obtain ⟨o, h1, h2, h3⟩ := h
  have := op_lt p 0 h1
  exact ⟨o, (op_ag p (fun q hq => hK q (by omega)) 0).trans h1, (hK o (by omega)).trans h2, (ext_f hK (by omega) (by omega)).trans h3⟩
/-- a line that neither opens nor closes -/
theorem LN_plain {l D : Nat} {K ju el ol : Nat → Int32} {k : Int32} (h : LN l K D ju el ol) (k2 : ¬ k = 2) (k3 : ¬ k = 3) (k4 : ¬ k = 4) (k5 : ¬ k = 5) :
    LN (l + 1) (upd K l k) D (upd ju l (nI (l + 1))) el ol := by
  obtain ⟨h1, h2, h3, h4, h5, h6, h7⟩ := h
  have hl : upd K l k l = k := pk_us
  have hK := up_hK (K := K) (l := l) (k := k)
  have ho : ∀ d, opn (upd K l k) (l + 1) d = opn K l d := fun d => by
    rw [op_n (by rw [hl]; unfold opk; rw [decide_eq_false k2, decide_eq_false k5]; decide) (by rw [hl]; exact k4)]
    exact op_ag l hK d
  have hx : ∀ e d', ¬ mtx (upd K l k) e l d' := fun e d' z => by
    unfold mtx at z; rw [hl] at z
    rcases z.2 with z | z
    · exact k4 z
    · exact k3 z.1
  refine ⟨fun d hd => ?_, (ho D).trans h2, by omega, fun p hp => ?_, fun p hp e2 => ?_, fun p hp => h6 p (by omega), fun p hp e3 => ?_⟩
  · rw [ho d]; exact h1 d hd
  · by_cases e : p = l
    · subst e
      rw [pk_us, gJ_0 (by rw [hl]; exact k4) (by rw [hl]; exact k3) (by rw [hl]; exact k5) (by rw [hl]; exact k2)]
    · rw [pk_un e, gJ_s hK (by omega) (fun z => by obtain ⟨o, ho, _⟩ := h7 p (by omega) z; exact ⟨o, ho⟩) (fun o e _ d' _ => hx e d')]
      exact h4 p (by omega)
  · by_cases e : p = l
    · subst e; rw [hl] at e2; exact absurd e2 k2
    · rw [hK p (by omega)] at e2
      rw [el_s hK (by omega) e2 (fun d' _ => hx true d')]
      exact h5 p (by omega) e2
  · by_cases e : p = l
    · subst e; rw [hl] at e3; exact absurd e3 k3
    · rw [hK p (by omega)] at e3
      exact el_else hK (by omega) (h7 p (by omega) e3)
/-- a line that opens -/
theorem LN_open {l D : Nat} {K ju el ol : Nat → Int32} {k : Int32} (h : LN l K D ju el ol) (hk : opk k = true) :
    LN (l + 1) (upd K l k) (D + 1) (upd ju l (nI (l + 1))) el (upd ol D (nI l)) := by
  obtain ⟨h1, h2, h3, h4, h5, h6, h7⟩ := h
  have k4 := opk_n4 hk
  have k3 := opk_n3 hk
  have hl : upd K l k l = k := pk_us
  have hK := up_hK (K := K) (l := l) (k := k)
  have hkl : opk (upd K l k l) = true := by rw [hl]; exact hk
  have hx : ∀ e d', ¬ mtx (upd K l k) e l d' := fun e d' z => by
    unfold mtx at z; rw [hl] at z
    rcases z.2 with z | z
    · exact k4 z
    · exact k3 z.1
  have hm : ∀ e, mm (upd K l k) e (l + 1) l = l + 1 := fun e => by unfold mm; rw [Nat.sub_self]; rfl
  refine ⟨fun d hd => ?_, ?_, by omega, fun p hp => ?_, fun p hp e2 => ?_, fun p hp => h6 p (by omega), fun p hp e3 => ?_⟩
  · cases d with
    | zero => exact ⟨l, op_o0 hkl, by rw [show D + 1 - 1 - 0 = D by omega, pk_us]⟩
    | succ d =>
      obtain ⟨o, ho, hol⟩ := h1 d (by omega)
      exact ⟨o, (op_oS hkl).trans ((op_ag l hK d).trans ho), by rw [pk_un (by omega), show D + 1 - 1 - (d + 1) = D - 1 - d by omega]; exact hol⟩
  · exact (op_oS hkl).trans ((op_ag l hK D).trans h2)
  · by_cases e : p = l
    · subst e
      rw [pk_us]
      rcases opk_t hkl with k2 | k5
      · rw [gJ_2 k2, hm, if_neg (Nat.lt_irrefl _)]
      · rw [gJ_5 k5, hm, if_neg (Nat.lt_irrefl _)]
    · rw [pk_un e, gJ_s hK (by omega) (fun z => by obtain ⟨o, ho, _⟩ := h7 p (by omega) z; exact ⟨o, ho⟩) (fun o e _ d' _ => hx e d')]
      exact h4 p (by omega)
  · by_cases e : p = l
    · subst e
      rw [h6 p (Nat.le_refl p)]; unfold elv; rw [hm, if_neg (fun z => Nat.lt_irrefl _ z.1)]; exact nI_0.symm
    · rw [hK p (by omega)] at e2
      rw [el_s hK (by omega) e2 (fun d' _ => hx true d')]
      exact h5 p (by omega) e2
  · by_cases e : p = l
    · subst e; rw [hl] at e3; exact absurd e3 k3
    · rw [hK p (by omega)] at e3
      exact el_else hK (by omega) (h7 p (by omega) e3)
/-- the innermost open line's scans -/
theorem top_f {K : Nat → Int32} {l p o : Nat} (hp : p < l) (ho : opn K (p + 1) 0 = some o) (ht : opn K l 0 = some o) : mm K false l p = l := by
  rcases mm_at (e := false) (n := l) (s := p + 1) (by omega) ho with ⟨h1, h2⟩ | ⟨d', _, _, h3⟩
  · exfalso
    rcases mt_k (K := K) (e := false) (l - (p + 1)) (p + 1) 0 (by omega) with h | h
    · exact mm_off h h2 h1 0 ht
    · exact Bool.false_ne_true h.2
  · exact h3
theorem top_t {K : Nat → Int32} {l o : Nat} (hk : opk (K o) = true) (ht : opn K l 0 = some o) : mm K true l o = l ∨ (mm K true l o < l ∧ K (mm K true l o) = 3 ∧ opn K (mm K true l o) 0 = some o) := by
  have hl := op_lt l 0 ht
  rcases mm_at (e := true) (n := l) (s := o + 1) (by omega) (op_o0 hk) with ⟨h1, h2⟩ | ⟨d', _, _, h3⟩
  · right
    rcases mt_k (K := K) (e := true) (l - (o + 1)) (o + 1) 0 (by omega) with h | h
    · exact absurd ht (mm_off h h2 h1 0)
    · exact ⟨h1, h.1, h2⟩
  · exact Or.inl h3
theorem LN_else {l D o : Nat} {K ju el ol : Nat → Int32} (h : LN l K D ju el ol) (ht : opn K l 0 = some o) (ho2 : K o = 2) (he : el o = 0) (hl16 : l < 2 ^ 31) :
    LN (l + 1) (upd K l 3) D (upd (upd ju l (nI (l + 1))) o (nI (l + 1))) (upd el o (nI l)) ol := by
  obtain ⟨h1, h2, h3, h4, h5, h6, h7⟩ := h
  have hol := op_lt l 0 ht
  have hl : upd K l 3 l = 3 := pk_us
  have hK := up_hK (K := K) (l := l) (k := 3)
  have hop : opk (K o) = true := by rw [ho2]; decide
  have ho : ∀ d, opn (upd K l 3) (l + 1) d = opn K l d := fun d => by
    rw [op_n (by rw [hl]; decide) (by rw [hl]; decide)]
    exact op_ag l hK d
  have hmo : mm K true l o = l := by
    rcases top_t hop ht with a | ⟨a, b, _⟩
    · exact a
    · exfalso
      have := h5 o hol ho2
      unfold elv at this
      rw [if_pos ⟨a, b⟩, he, ← nI_0] at this
      have z := na_inj this (by omega) (by omega)
      have := (mt_ge (K := K) (e := true) (l - (o + 1)) (o + 1) 0).1
      unfold mm at z; omega
  have hmo' : mm (upd K l 3) true (l + 1) o = l := by
    obtain ⟨_, d', a, b, _⟩ := ext_p (e := true) hK hol (op_o0 hop) (by omega)
    exact b ⟨op_inj l d' 0 a ht, Or.inr ⟨hl, rfl⟩⟩
  have hx : ∀ p, p < l → ¬ p = o → ∀ o' e, (opk (K p) = true ∧ o' = p) ∨ (K p = 3 ∧ opn K p 0 = some o') → ∀ d', opn K l d' = some o' → ¬ mtx (upd K l 3) e l d' := by
    intro p hp hpo o' e hc d' hd' z
    rw [z.1, ht] at hd'
    cases hd'
    rcases hc with ⟨_, hc⟩ | ⟨hk3, hc⟩
    · exact hpo hc.symm
    · obtain ⟨o2, a, _, c⟩ := h7 p hp hk3
      rw [a] at hc; cases hc
      omega
  refine ⟨fun d hd => ?_, (ho D).trans h2, by omega, fun p hp => ?_, fun p hp e2 => ?_, fun p hp => ?_, fun p hp e3 => ?_⟩
  · rw [ho d]; exact h1 d hd
  · by_cases eo : p = o
    · subst eo
      rw [pk_us, gJ_2 ((hK p hol).trans ho2), hmo', if_pos (by omega), if_pos hl]
    · rw [pk_un eo]
      by_cases e : p = l
      · subst e
        have hm : mm (upd K p 3) false (p + 1) p = p + 1 := by unfold mm; rw [Nat.sub_self]; rfl
        rw [pk_us, gJ_3 hl, hm, if_neg (Nat.lt_irrefl _)]
      · rw [pk_un e, gJ_s hK (by omega) (fun z => by obtain ⟨o, ho, _⟩ := h7 p (by omega) z; exact ⟨o, ho⟩) (hx p (by omega) eo)]
        exact h4 p (by omega)
  · by_cases e : p = l
    · subst e; rw [hl] at e2; exact absurd e2 (by decide)
    · rw [hK p (by omega)] at e2
      by_cases eo : p = o
      · subst eo
        rw [pk_us]; unfold elv; rw [hmo', if_pos ⟨by omega, hl⟩]
      · rw [pk_un eo, el_s hK (by omega) e2 (hx p (by omega) eo p true (Or.inl ⟨by rw [e2]; decide, rfl⟩))]
        exact h5 p (by omega) e2
  · rw [pk_un (by omega)]; exact h6 p (by omega)
  · by_cases e : p = l
    · subst e
      exact ⟨o, (op_ag p hK 0).trans ht, (hK o hol).trans ho2, hmo'⟩
    · rw [hK p (by omega)] at e3
      exact el_else hK (by omega) (h7 p (by omega) e3)
/-- END: the stack, the ELSE lines and what stays -/
theorem LN_end {l D o : Nat} {K ju el ol ju' : Nat → Int32} (h : LN l K D ju el ol) (ht : opn K l 0 = some o) (hD : 0 < D)
    (hj : ju' l = nI (if K o = 5 then o else l + 1))
    (hj5 : K o = 5 → ju' o = nI (l + 1) ∧ ∀ p, p < l → ¬ p = o → ju' p = ju p)
    (hj2 : K o = 2 → elv K l o = 0 → ju' o = nI l ∧ ∀ p, p < l → ¬ p = o → ju' p = ju p)
    (hj3 : K o = 2 → ¬ elv K l o = 0 → ju' (elv K l o) = nI l ∧ ∀ p, p < l → ¬ p = elv K l o → ju' p = ju p) :
    LN (l + 1) (upd K l 4) (D - 1) ju' el ol := by
  obtain ⟨h1, h2, h3, h4, h5, h6, h7⟩ := h
  have hol := op_lt l 0 ht
  have hop := op_k l 0 ht
  have hl : upd K l 4 l = 4 := pk_us
  have hK := up_hK (K := K) (l := l) (k := 4)
  have ho : ∀ d, opn (upd K l 4) (l + 1) d = opn K l (d + 1) := fun d => by
    rw [op_c hl]
    exact op_ag l hK (d + 1)
  have hx : ∀ p, p < l → ¬ p = o → ¬ (K p = 3 ∧ opn K p 0 = some o) → ∀ o' e, (opk (K p) = true ∧ o' = p) ∨ (K p = 3 ∧ opn K p 0 = some o') → ∀ d', opn K l d' = some o' → ¬ mtx (upd K l 4) e l d' := by
    intro p hp hpo hp3 o' e hc d' hd' z
    rw [z.1, ht] at hd'
    cases hd'
    rcases hc with ⟨_, hc⟩ | hc
    · exact hpo hc.symm
    · exact hp3 hc
  have hE : ∀ p, p < l → K p = 3 → ∃ o, opn K p 0 = some o := fun p hp z => by obtain ⟨o, ho, _⟩ := h7 p hp z; exact ⟨o, ho⟩
  have hE2 : ∀ p, p < l → K p = 3 → opn K p 0 = some o → mm K true l o = p ∧ K o = 2 := fun p hp z z2 => by
    obtain ⟨o2, a, b, c⟩ := h7 p hp z
    rw [a] at z2; cases z2
    exact ⟨c, b⟩
  refine ⟨fun d hd => ?_, ?_, by omega, fun p hp => ?_, fun p hp e2 => ?_, fun p hp => h6 p (by omega), fun p hp e3 => ?_⟩
  · obtain ⟨o', a, b⟩ := h1 (d + 1) (by omega)
    exact ⟨o', (ho d).trans a, by rw [← b]; congr 1; omega⟩
  · rw [ho, show D - 1 + 1 = D by omega]; exact h2
  · by_cases e : p = l
    · subst e
      rw [hj, gJ_4 hl, op_ag p hK 0, ht]
      show _ = nI (if upd K p 4 o = 5 then o else p + 1)
      rw [hK o hol]
    · have hp' : p < l := by omega
      have same : ¬ p = o → ¬ (K p = 3 ∧ opn K p 0 = some o) → nI (gJ (upd K l 4) (l + 1) p) = ju p := fun a b => by
        rw [gJ_s hK hp' (hE p hp') (hx p hp' a b)]; exact (h4 p hp').symm
      rcases opk_t hop with k2 | k5
      · by_cases ez : elv K l o = 0
        · have hne : ¬ (K p = 3 ∧ opn K p 0 = some o) := fun ⟨z, z2⟩ => by
            obtain ⟨a, _⟩ := hE2 p hp' z z2
            unfold elv at ez
            rw [a, if_pos ⟨hp', z⟩] at ez
            have := (mt_ge (K := K) (e := true) (l - (o + 1)) (o + 1) 0).1
            unfold mm at a; omega
          by_cases eo : p = o
          · subst eo
            rw [(hj2 k2 ez).1]
            have hm : mm K true l p = l := by
              rcases top_t hop ht with a | ⟨a, b, _⟩
              · exact a
              · exfalso
                unfold elv at ez
                rw [if_pos ⟨a, b⟩] at ez
                have := (mt_ge (K := K) (e := true) (l - (p + 1)) (p + 1) 0).1
                unfold mm at ez; omega
            have hm' : mm (upd K l 4) true (l + 1) p = l := by
              obtain ⟨_, d', a, b, _⟩ := ext_p (e := true) hK hol (op_o0 hop) (by omega)
              exact b ⟨op_inj l d' 0 a ht, Or.inl hl⟩
            rw [gJ_2 ((hK p hol).trans k2), hm', if_pos (by omega), if_neg (by rw [hl]; decide)]
          · rw [(hj2 k2 ez).2 p hp' eo, same eo hne]
        · have hm : mm K true l o < l ∧ K (mm K true l o) = 3 := Classical.byContradiction fun z => ez (by unfold elv; rw [if_neg z])
          have hv : elv K l o = mm K true l o := by unfold elv; rw [if_pos hm]
          have ht3 : opn K (mm K true l o) 0 = some o := by
            rcases top_t hop ht with a | ⟨_, _, c⟩
            · omega
            · exact c
          by_cases eo : p = o
          · subst eo
            have : ¬ p = elv K l p := by
              have := (mt_ge (K := K) (e := true) (l - (p + 1)) (p + 1) 0).1
              rw [hv]; unfold mm; omega
            rw [(hj3 k2 ez).2 p hp' this, h4 p hp']
            rw [gJ_2 ((hK p hol).trans k2), gJ_2 k2, ext_f hK hol hm.1, if_pos hm.1, if_pos (show mm K true l p < l + 1 by omega), hK _ hm.1]
          · by_cases ee : p = elv K l o
            · rw [ee, (hj3 k2 ez).1]; rw [hv] at ee ⊢; subst ee
              have k3 : K (mm K true l o) = 3 := hm.2
              have ho1 : opn K (mm K true l o + 1) 0 = some o := (op_n (by rw [k3]; decide) (by rw [k3]; decide)).trans ht3
              have hm0 := top_f hm.1 ho1 ht
              have hm' : mm (upd K l 4) false (l + 1) (mm K true l o) = l := by
                obtain ⟨_, d', a, b, _⟩ := ext_p (e := false) hK hm.1 ho1 (by omega)
                exact b ⟨op_inj l d' 0 a ht, Or.inl hl⟩
              rw [gJ_3 ((hK _ hm.1).trans k3), hm', if_pos (by omega)]
            · rw [(hj3 k2 ez).2 p hp' ee, same eo (fun ⟨z, z2⟩ => ee (by rw [hv]; exact (hE2 p hp' z z2).1.symm))]
      · have hne : ¬ (K p = 3 ∧ opn K p 0 = some o) := fun ⟨z, z2⟩ => by
          have := (hE2 p hp' z z2).2
          rw [k5] at this; exact absurd this (by decide)
        by_cases eo : p = o
        · subst eo
          rw [(hj5 k5).1]
          have hm := top_f hol (op_o0 hop) ht
          have hm' : mm (upd K l 4) false (l + 1) p = l := by
            obtain ⟨_, d', a, b, _⟩ := ext_p (e := false) hK hol (op_o0 hop) (by omega)
            exact b ⟨op_inj l d' 0 a ht, Or.inl hl⟩
          rw [gJ_5 ((hK p hol).trans k5), hm', if_pos (by omega)]
        · rw [(hj5 k5).2 p hp' eo, same eo hne]
  · by_cases e : p = l
    · subst e; rw [hl] at e2; exact absurd e2 (by decide)
    · have hp' : p < l := by omega
      rw [hK p hp'] at e2
      rw [h5 p hp' e2]
      by_cases eo : p = o
      · subst eo
        rcases top_t hop ht with a | ⟨a, b, _⟩
        · have hm' : mm (upd K l 4) true (l + 1) p = l := by
            obtain ⟨_, d', a, b, _⟩ := ext_p (e := true) hK hol (op_o0 hop) (by omega)
            exact b ⟨op_inj l d' 0 a ht, Or.inl hl⟩
          unfold elv
          rw [a, hm', if_neg (fun z => Nat.lt_irrefl _ z.1), if_neg (fun z => by have := z.2; rw [hl] at this; exact absurd this (by decide))]
        · unfold elv
          rw [ext_f hK hol a, hK _ a, if_pos ⟨a, b⟩, if_pos ⟨by omega, b⟩]
      · rw [el_s hK hp' e2 (hx p hp' eo (fun z => by rw [e2] at z; exact absurd z.1 (by decide)) p true (Or.inl ⟨by rw [e2]; decide, rfl⟩))]
  · by_cases e : p = l
    · subst e; rw [hl] at e3; exact absurd e3 (by decide)
    · rw [hK p (by omega)] at e3
      exact el_else hK (by omega) (h7 p (by omega) e3)
/-- nothing open: every scan finds -/
theorem mm_all {K : Nat → Int32} {e : Bool} {l p o : Nat} (h0 : opn K l 0 = none) (hp : p < l) (ho : opn K (p + 1) 0 = some o) : mm K e l p < l := by
  rcases mm_at (e := e) (n := l) (s := p + 1) (by omega) ho with ⟨h1, _⟩ | ⟨d', h1, _⟩
  · exact h1
  · rw [op_none h0 d'] at h1; cases h1
theorem gJ_le {K : Nat → Int32} {l p : Nat} (hp : p < l) : gJ K l p ≤ l := by
  unfold gJ
  split
  · cases e : opn K p 0 with
    | none => exact hp
    | some o =>
      have := op_lt p 0 e
      show (if K o = 5 then o else p + 1) ≤ l
      split <;> omega
  · split
    · split <;> omega
    · split
      · split <;> omega
      · split
        · split
          · split <;> omega
          · omega
        · omega
/-- the line that line p goes to, when false -/
noncomputable def gl (K : Nat → Int32) (l p : Nat) : Nat := if K p = 6 then l else gJ K l p
theorem gl_le {K : Nat → Int32} {l p : Nat} (hp : p < l) : gl K l p ≤ l := by
  unfold gl; split
  · exact Nat.le_refl l
  · exact gJ_le hp
end NT06
end
section
section NT07
variable {vc mN mL nc lc dp pd vd ph pt nw : Int32} {de nk na nb us lk lv le ju el ol ow vs vx vy ws wx wy du ou ax ay ar dn ga : Nat → Int32} {gv er sn re : Nat → Int64}
variable {p0 p1 p2 : Int32}
theorem ibc {α : Sort _} {c : Prop} [d : Decidable c] {a b : α} {P : α → Prop} {A B : Prop} (h : P (if c then a else b)) (f : c → P a → A) (g : ¬ c → P b → B) : (c → A) ∧ (¬ c → B) :=
  ⟨fun hc => f hc (by rw [if_pos hc] at h; exact h), fun hc => g hc (by rw [if_neg hc] at h; exact h)⟩
/-! small tests, the same on both sides -/
def iv (n x : Int32) : Int32 := if x < 0 then 0 else if n ≤ x then 0 else 1
def bn (k : Int32) : Int32 := if k = 4 then 1 else if k = 5 then 1 else if k = 7 then 1 else if k = 8 then 1 else if k = 9 then 1 else 0
def tk (k : Int32) : Int32 := if k = 1 then 1 else if k = 2 then 1 else if k = 5 then 1 else 0
def fr (n : Int32) (us : Nat → Int32) (x : Int32) : Int32 := if iv n x = 0 then 0 else if us x.toNatClampNeg = 0 then 1 else 0
def cl3 (v lo hi : Int32) : Int32 := if lo ≤ v then (if v ≤ hi then v else hi) else lo
theorem iv_01 (n x : Int32) : iv n x = 0 ∨ iv n x = 1 := by unfold iv; split; exact Or.inl rfl; split; exact Or.inl rfl; exact Or.inr rfl
theorem bn_01 (k : Int32) : bn k = 0 ∨ bn k = 1 := by
  unfold bn
  repeat' (first | exact Or.inl rfl | exact Or.inr rfl | split)
theorem tk_01 (k : Int32) : tk k = 0 ∨ tk k = 1 := by
  unfold tk
  repeat' (first | exact Or.inl rfl | exact Or.inr rfl | split)
theorem fr_01 (n : Int32) (us : Nat → Int32) (x : Int32) : fr n us x = 0 ∨ fr n us x = 1 := by
  unfold fr
  repeat' (first | exact Or.inl rfl | exact Or.inr rfl | split)
theorem i1_0 : ¬ (1 : Int32) = 0 := by decide
theorem iv_of {n : Nat} {x : Int32} (hn : n < 2 ^ 31) (h : ¬ iv (nI n) x = 0) : ∃ j, j < n ∧ x = nI j := by
  unfold iv at h
  split at h
  · exact absurd rfl h
  · split at h
    · exact absurd rfl h
    · rename_i h1 h2
      obtain ⟨j, hj, rfl⟩ := nI_of h1
      exact ⟨j, by rw [nI_leI hn hj] at h2; omega, rfl⟩
theorem iv_to {n j : Nat} (hn : n < 2 ^ 31) (h : j < n) : iv (nI n) (nI j) = 1 := by
  unfold iv
  rw [if_neg (nI_pos (by omega)), if_neg (nI_ge h hn)]
theorem iv_neg {n : Int32} {x : Int32} (h : x < 0) : iv n x = 0 := by unfold iv; rw [if_pos h]
theorem iv_big {n x : Int32} (h : n ≤ x) : iv n x = 0 := by unfold iv; split; exact rfl; rfl
theorem fr_of {n : Nat} {us : Nat → Int32} {x : Int32} (hn : n < 2 ^ 31) (h : ¬ fr (nI n) us x = 0) : ∃ j, j < n ∧ x = nI j ∧ us j = 0 := by
  unfold fr at h
  split at h
  · exact absurd rfl h
  · rename_i h1
    obtain ⟨j, hj, rfl⟩ := iv_of hn h1
    split at h
    · rename_i h2
      rw [nI_clamp (by omega)] at h2
      exact ⟨j, hj, rfl, h2⟩
    · exact absurd rfl h
/-! X -/
theorem x_clamp {post : Int32 → Prop} (h : post (cl3 p0 p1 p2)) : wpX_clamp post (vc, mN, mL, nc, lc, dp, pd, vd, ph, pt, de, nk, na, nb, us, lk, lv, le, ju, el, ol, gv, er, sn, re, ow, vs, vx, vy, ws, wx, wy) p0 p1 p2 := ibc h (fun _ h => ibc h (fun _ h => h) (fun _ h => h)) (fun _ h => h)
theorem x_isVar {post : Int32 → Prop} (h : post (iv vc p0)) : wpX_isVar post (vc, mN, mL, nc, lc, dp, pd, vd, ph, pt, de, nk, na, nb, us, lk, lv, le, ju, el, ol, gv, er, sn, re, ow, vs, vx, vy, ws, wx, wy) p0 := ibc h (fun _ h => h) (fun _ h => ibc h (fun _ h => h) (fun _ h => h))
theorem x_isNode {post : Int32 → Prop} (h : post (iv nc p0)) : wpX_isNode post (vc, mN, mL, nc, lc, dp, pd, vd, ph, pt, de, nk, na, nb, us, lk, lv, le, ju, el, ol, gv, er, sn, re, ow, vs, vx, vy, ws, wx, wy) p0 := ibc h (fun _ h => h) (fun _ h => ibc h (fun _ h => h) (fun _ h => h))
theorem x_isFree {post : Int32 → Prop} {n : Nat} (hn : nc = nI n) (h32 : n ≤ 32) (h : post (fr nc us p0)) : wpX_isFree post (vc, mN, mL, nc, lc, dp, pd, vd, ph, pt, de, nk, na, nb, us, lk, lv, le, ju, el, ol, gv, er, sn, re, ow, vs, vx, vy, ws, wx, wy) p0 := by
  unfold wpX_isFree
  refine x_isNode (ibc h (fun _ h => h) (fun c h => And.intro ?_ (ibc h (fun _ h => h) (fun _ h => h))))
  rw [hn] at c
  obtain ⟨j, hj, e⟩ := iv_of (by omega) c
  exact na_in e (by omega) (by omega)
theorem x_isBinary {post : Int32 → Prop} (h : post (bn p0)) : wpX_isBinary post (vc, mN, mL, nc, lc, dp, pd, vd, ph, pt, de, nk, na, nb, us, lk, lv, le, ju, el, ol, gv, er, sn, re, ow, vs, vx, vy, ws, wx, wy) p0 :=
  ibc h (fun _ h => h) (fun _ h => ibc h (fun _ h => h) (fun _ h => ibc h (fun _ h => h) (fun _ h => ibc h (fun _ h => h) (fun _ h => ibc h (fun _ h => h) (fun _ h => h)))))
theorem x_takesNode {post : Int32 → Prop} (h : post (tk p0)) : wpX_takesNode post (vc, mN, mL, nc, lc, dp, pd, vd, ph, pt, de, nk, na, nb, us, lk, lv, le, ju, el, ol, gv, er, sn, re, ow, vs, vx, vy, ws, wx, wy) p0 :=
  ibc h (fun _ h => h) (fun _ h => ibc h (fun _ h => h) (fun _ h => ibc h (fun _ h => h) (fun _ h => h)))
def fitI (vc nc : Int32) (us : Nat → Int32) (k a b : Int32) : Int32 :=
  if k < 1 then 0 else if k ≤ 14 then (if k = 1 then iv vc a else if k = 2 then 1 else if k = 3 then (if a = 0 then 1 else if a = 1 then 1 else 0) else if fr nc us a = 0 then 0 else if bn k = 0 then 1 else if a = b then 0 else if fr nc us b = 0 then 0 else 1) else 0
theorem na_nb {r : Int32} (h : r = 0 ∨ r = 1) : narrow .boolean (.int r) = .int r := by rcases h with rfl | rfl <;> rfl
theorem x_operandsFit {post : Int32 → Prop} {n : Nat} (hn : nc = nI n) (h32 : n ≤ 32) (h : post (fitI vc nc us p0 p1 p2)) : wpX_operandsFit post (vc, mN, mL, nc, lc, dp, pd, vd, ph, pt, de, nk, na, nb, us, lk, lv, le, ju, el, ol, gv, er, sn, re, ow, vs, vx, vy, ws, wx, wy) p0 p1 p2 :=
  ibc h (fun _ h => h) (fun _ h => ibc h (fun _ h => ibc h (fun _ h => x_isVar (And.intro (na_nb (iv_01 _ _)) h)) (fun _ h => ibc h (fun _ h => h) (fun _ h => ibc h (fun _ h => ibc h (fun _ h => h) (fun _ h => ibc h (fun _ h => h) (fun _ h => h)))
    (fun _ h => x_isFree hn h32 (ibc h (fun _ h => h) (fun _ h => x_isBinary (ibc h (fun _ h => h) (fun _ h => ibc h (fun _ h => h) (fun _ h => x_isFree hn h32 (ibc h (fun _ h => h) (fun _ h => h))))))))))) (fun _ h => h))
theorem x_node {post : Int32 → SX → Prop} {n : Nat} (hn : nc = nI n) (h32 : n < 32) (hph : ph = 0) (hm : ¬ mN ≤ nc) (hf : ¬ fitI vc nc us p0 p1 p2 = 0)
    (ha : ¬ p0 < 4 → vp_in p1 32) (hb : ¬ bn p0 = 0 → vp_in p2 32)
    (h : post (nI n) (vc, mN, mL, nI (n + 1), lc, dp, pd, vd, ph, pt, de, upd nk n p0, upd na n p1, upd nb n (if bn p0 = 0 then 0 else p2), if bn p0 = 0 then (if p0 < 4 then us else upd us p1.toNatClampNeg (vp_nar .boolean 1)) else upd (if p0 < 4 then us else upd us p1.toNatClampNeg (vp_nar .boolean 1)) p2.toNatClampNeg (vp_nar .boolean 1), lk, lv, le, ju, el, ol, gv, er, sn, re, ow, vs, vx, vy, ws, wx, wy)) : wpX_node post (vc, mN, mL, nc, lc, dp, pd, vd, ph, pt, de, nk, na, nb, us, lk, lv, le, ju, el, ol, gv, er, sn, re, ow, vs, vx, vy, ws, wx, wy) p0 p1 p2 := by
  subst hn
  have hc : (nI n).toNatClampNeg = n := nI_clamp (by omega)
  have hi : vp_in (nI n) 32 := vp_in_nI h32 (by omega)
  refine br_t hph (br_f hm (x_operandsFit rfl (by omega) (br_f hf (x_isBinary (And.intro hi (nm_r (by rw [hc]) (And.intro hi (nm_r (by rw [hc]) ?_))))))))
  by_cases hb0 : bn p0 = 0
  · refine br_t hb0 (And.intro hi (nm_r (by rw [hc]) ?_))
    rw [if_pos hb0, if_pos hb0] at h
    by_cases h4 : p0 < 4
    · rw [if_pos h4] at h
      exact br_t h4 (br_t hb0 (nm_r (nI_1 n) h))
    · rw [if_neg h4] at h
      exact br_f h4 (And.intro (ha h4) (nm_e (br_t hb0 (nm_r (nI_1 n) h))))
  · refine br_f hb0 (And.intro hi (nm_r (by rw [hc]) ?_))
    rw [if_neg hb0, if_neg hb0] at h
    by_cases h4 : p0 < 4
    · rw [if_pos h4] at h
      exact br_t h4 (br_f hb0 (And.intro (hb hb0) (nm_e (nm_r (nI_1 n) h))))
    · rw [if_neg h4] at h
      exact br_f h4 (And.intro (ha h4) (nm_e (br_f hb0 (And.intro (hb hb0) (nm_e (nm_r (nI_1 n) h))))))
theorem x_declare_ok {post : Int32 → SX → Prop} {v : Nat} (hph : ph = 0) (hv : ¬ iv vc (nI v) = 0) (h3 : v < 3) (h1 : ¬ p1 < 1) (h127 : p1 ≤ 127) (h : post 1 (vc, mN, mL, nc, lc, dp, pd, vd, ph, pt, upd de v p1, nk, na, nb, us, lk, lv, le, ju, el, ol, gv, er, sn, re, ow, vs, vx, vy, ws, wx, wy)) : wpX_declare post (vc, mN, mL, nc, lc, dp, pd, vd, ph, pt, de, nk, na, nb, us, lk, lv, le, ju, el, ol, gv, er, sn, re, ow, vs, vx, vy, ws, wx, wy) (nI v) p1 :=
  br_t hph (x_isVar (br_f hv (br_f h1 (br_t h127 (And.intro (vp_in_nI h3 (by decide)) (nm_r (by rw [nI_clamp (by omega)]) h))))))
theorem x_setVar {post : SX → Prop} {v : Nat} (h3 : v < 3) (h : post (vc, mN, mL, nc, lc, dp, pd, vd, ph, pt, de, nk, na, nb, us, lk, lv, le, ju, el, ol, gv, er, sn, re, ow, upd vs v p0, upd vx v p1, upd vy v p2, ws, wx, wy)) : wpX_setVar post (vc, mN, mL, nc, lc, dp, pd, vd, ph, pt, de, nk, na, nb, us, lk, lv, le, ju, el, ol, gv, er, sn, re, ow, vs, vx, vy, ws, wx, wy) (nI v) p0 p1 p2 := by
  have hi : vp_in (nI v) 3 := vp_in_nI h3 (by decide)
  have hc : (nI v).toNatClampNeg = v := nI_clamp (by omega)
  exact And.intro hi (nm_r (by rw [hc]) (And.intro hi (nm_r (by rw [hc]) (And.intro hi (nm_r (by rw [hc]) h)))))
theorem x_setWork {post : SX → Prop} {x : Nat} (hx : x < 32) (h : post (vc, mN, mL, nc, lc, dp, pd, vd, ph, pt, de, nk, na, nb, us, lk, lv, le, ju, el, ol, gv, er, sn, re, ow, vs, vx, vy, upd ws x p0, upd wx x p1, upd wy x p2)) : wpX_setWork post (vc, mN, mL, nc, lc, dp, pd, vd, ph, pt, de, nk, na, nb, us, lk, lv, le, ju, el, ol, gv, er, sn, re, ow, vs, vx, vy, ws, wx, wy) (nI x) p0 p1 p2 := by
  have hi : vp_in (nI x) 32 := vp_in_nI hx (by decide)
  have hc : (nI x).toNatClampNeg = x := nI_clamp (by omega)
  exact And.intro hi (nm_r (by rw [hc]) (And.intro hi (nm_r (by rw [hc]) (And.intro hi (nm_r (by rw [hc]) h)))))
theorem x_target {post : Int32 → Prop} {p : Nat} (hp : p < 16) (h : post (if lk p = 6 then lc else ju p)) : wpX_target post (vc, mN, mL, nc, lc, dp, pd, vd, ph, pt, de, nk, na, nb, us, lk, lv, le, ju, el, ol, gv, er, sn, re, ow, vs, vx, vy, ws, wx, wy) (nI p) := by
  have hi : vp_in (nI p) 16 := vp_in_nI hp (by decide)
  have hc : (nI p).toNatClampNeg = p := nI_clamp (by omega)
  rw [← hc] at h
  exact And.intro hi (ibc h (fun _ h => h) (fun _ h => And.intro hi h))
theorem x_leastBit {post : Int32 → Prop} {e : Nat} (he : e ≤ 16) (h : ∀ m, m ≤ e → (∀ i, i < m → bt p0 i = false) → (m < e → bt p0 m = true) → post (nI m)) : wpX_leastBit post (vc, mN, mL, nc, lc, dp, pd, vd, ph, pt, de, nk, na, nb, us, lk, lv, le, ju, el, ol, gv, er, sn, re, ow, vs, vx, vy, ws, wx, wy) p0 (nI e) := by
  refine loop_0 (fun n i (s : Unit) => wX_leastBit_2 post p0 (nI e) vc mN mL nc lc dp pd vd ph pt de nk na nb us lk lv le ju el ol gv er sn re ow vs vx vy ws wx wy n (nI i)) (fun i s => ∀ j, j < i → bt p0 j = false) e () (fun j hj => absurd hj (Nat.not_lt_zero j)) ?_ ?_
  · intro n s hs
    exact br_t (nI_le (Nat.le_refl e) (by omega)) (h e (Nat.le_refl e) hs (fun z => absurd z (Nat.lt_irrefl e)))
  · intro n i s hi hs K
    refine br_f (nI_ge hi (by omega)) ?_
    by_cases hb : bt p0 i = true
    · exact br_f (fun z => by rw [(bt_s0z (by omega)).mp z] at hb; exact Bool.false_ne_true hb) (h i (by omega) hs (fun _ => hb))
    · exact br_t ((bt_s0z (by omega)).mpr (bo_nf hb)) (nm_r (nI_1 i) (K () (lt_s hs (bo_nf hb))))
end NT07
end
section
section NT08
variable {vc mN mL nc lc dp pd vd ph pt nw : Int32} {de nk na nb us lk lv le ju el ol ow vs vx vy ws wx wy du ou ax ay ar dn ga : Nat → Int32} {gv er sn re : Nat → Int64}
/-! reading and writing what nodes give -/
theorem x_out {post : Int64 → Prop} {x s w : Nat} (hx : x < 32) (hs : s < 7) (hw : w < 7) (h : post (gv (x * 49 + s * 7 + w))) : wpX_out post (vc, mN, mL, nc, lc, dp, pd, vd, ph, pt, de, nk, na, nb, us, lk, lv, le, ju, el, ol, gv, er, sn, re, ow, vs, vx, vy, ws, wx, wy) (nI x) (nI s) (nI w) := by
  have e := na_49 x s w
  refine And.intro (na_in e (by omega) (by decide)) ?_
  rw [na_cl e (by omega)]; exact h
theorem x_put {post : SX → Prop} {x s w : Nat} {W : Int64} (hx : x < 32) (hs : s < 7) (hw : w < 7) (h : post (vc, mN, mL, nc, lc, dp, pd, vd, ph, pt, de, nk, na, nb, us, lk, lv, le, ju, el, ol, vp_updL gv (x * 49 + s * 7 + w) W, er, sn, re, ow, vs, vx, vy, ws, wx, wy)) : wpX_put post (vc, mN, mL, nc, lc, dp, pd, vd, ph, pt, de, nk, na, nb, us, lk, lv, le, ju, el, ol, gv, er, sn, re, ow, vs, vx, vy, ws, wx, wy) (nI x) (nI s) (nI w) W := by
  have e := na_49 x s w
  exact And.intro (na_in e (by omega) (by decide)) (nm_r (by rw [na_cl e (by omega)]) h)
theorem x_putEither {post : SX → Prop} {x w : Nat} {F T : Int64} (hx : x < 32) (hw : w < 7) (h : post (vc, mN, mL, nc, lc, dp, pd, vd, ph, pt, de, nk, na, nb, us, lk, lv, le, ju, el, ol, vp_updL (vp_updL gv (x * 49 + 1 * 7 + w) F) (x * 49 + 2 * 7 + w) T, er, sn, re, ow, vs, vx, vy, ws, wx, wy)) : wpX_putEither post (vc, mN, mL, nc, lc, dp, pd, vd, ph, pt, de, nk, na, nb, us, lk, lv, le, ju, el, ol, gv, er, sn, re, ow, vs, vx, vy, ws, wx, wy) (nI x) (nI w) F T := by
  unfold wpX_putEither
  exact x_put (s := 1) hx (by decide) hw (x_put (s := 2) hx (by decide) hw h)
def aw (gv : Nat → Int64) (x w l c : Nat) : Int64 := oLr (fun s => gv (x * 49 + s * 7 + w)) l c
theorem na_hi : ∀ m, m < 9 → ∀ s, s < 9 → (nI m - 1 < nI s ↔ m ≤ s) := by decide +kernel
theorem x_any {post : Int64 → Prop} {x l c w : Nat} {hi : Int32} (hx : x < 32) (hw : w < 7) (hlc : l + c ≤ 7) (hh : hi = nI (l + c) - 1) (h : post (aw gv x w l c)) : wpX_any post (vc, mN, mL, nc, lc, dp, pd, vd, ph, pt, de, nk, na, nb, us, lk, lv, le, ju, el, ol, gv, er, sn, re, ow, vs, vx, vy, ws, wx, wy) (nI x) (nI l) hi (nI w) := by
  subst hh
  refine pk_loop (fun n i (s : Int64) => wX_any_6 post (nI x) (nI (l + c) - 1) (nI w) vc mN mL nc lc dp pd vd ph pt de nk na nb us lk lv le ju el ol gv er sn re ow vs vx vy ws wx wy n s (nI i)) (fun i s => l ≤ i ∧ s = aw gv x w l (i - l)) (l + c) l 0 (by omega) ⟨Nat.le_refl l, by rw [Nat.sub_self]; rfl⟩ ?_ ?_
  · rintro n s ⟨_, rfl⟩
    rw [show l + c - l = c by omega]
    exact br_t ((na_hi _ (by omega) _ (by omega)).mpr (Nat.le_refl _)) h
  · rintro n i s hi ⟨hl, rfl⟩ K
    refine br_f (fun z => by have := (na_hi _ (by omega) _ (by omega)).mp z; omega) (x_out hx (by omega) hw (nm_e (nm_r (nI_1 i) (K _ ⟨by omega, ?_⟩))))
    rw [show i + 1 - l = (i - l) + 1 by omega]
    show _ = aw gv x w l (i - l) ||| gv (x * 49 + (l + (i - l)) * 7 + w)
    rw [show l + (i - l) = i by omega]
theorem x_notBool {post : Int64 → Prop} {x w : Nat} (hx : x < 32) (hw : w < 7) (h : post (gv (x * 49 + 0 * 7 + w) ||| aw gv x w 3 4)) : wpX_notBool post (vc, mN, mL, nc, lc, dp, pd, vd, ph, pt, de, nk, na, nb, us, lk, lv, le, ju, el, ol, gv, er, sn, re, ow, vs, vx, vy, ws, wx, wy) (nI x) (nI w) := by
  unfold wpX_notBool
  exact x_out (s := 0) hx (by decide) hw (x_any (l := 3) (c := 4) hx hw (by decide) (by decide) h)
theorem x_strict {post : SX → Prop} {x a b w l c : Nat} (hx : x < 32) (hw : w < 7) (ha : na x = nI a) (hb : nb x = nI b) (ha' : a < 32) (hb' : b < 32) (hl : l + c = 7)
    (h : post (vc, mN, mL, nc, lc, dp, pd, vd, ph, pt, de, nk, na, nb, us, lk, lv, le, ju, el, ol, gv, vp_updL er (x * 7 + w) ((er (a * 7 + w) ||| (aw gv a w 0 7 &&& (er (b * 7 + w) ||| aw gv b w l c))) ||| (aw gv a w l c &&& aw gv b w 0 7)), sn, re, ow, vs, vx, vy, ws, wx, wy)) : wpX_strictErrors post (vc, mN, mL, nc, lc, dp, pd, vd, ph, pt, de, nk, na, nb, us, lk, lv, le, ju, el, ol, gv, er, sn, re, ow, vs, vx, vy, ws, wx, wy) (nI x) (nI l) (nI w) := by
  have hi : vp_in (nI x) 32 := vp_in_nI hx (by decide)
  have hc : (nI x).toNatClampNeg = x := nI_clamp (by omega)
  have hh : (6 : Int32) = nI (l + c) - 1 := by rw [hl]; decide
  have eb := na_7 b w
  have ea := na_7 a w
  have ex := na_7 x w
  refine And.intro hi (nm_r (e' := nI a) (by rw [hc]; exact ha) (And.intro hi (nm_r (e' := nI b) (by rw [hc]; exact hb) ?_)))
  refine And.intro (na_in eb (by omega) (by decide)) (x_any (l := l) (c := c) hb' hw (by omega) hh ?_)
  refine nm_r (e' := er (b * 7 + w) ||| aw gv b w l c) (by rw [na_cl eb (by omega)]) ?_
  refine x_any (l := l) (c := c) ha' hw (by omega) hh (x_any (l := 0) (c := 7) hb' hw (by omega) (by decide) (nm_e ?_))
  refine And.intro (na_in ea (by omega) (by decide)) (x_any (l := 0) (c := 7) ha' hw (by omega) (by decide) ?_)
  exact And.intro (na_in ex (by omega) (by decide)) (nm_r (by rw [na_cl ea (by omega), na_cl ex (by omega)]) h)
end NT08
end
section
section NT09
variable {vc mN mL nc lc dp pd vd ph pt nw : Int32} {de nk na nb us lk lv le ju el ol ow vs vx vy ws wx wy du ou ax ay ar dn ga : Nat → Int32} {gv er sn re : Nat → Int64}
def AX (gv er : Nat → Int64) (x w j s : Nat) : Bool := if s = 7 then wd (er (x * 7 + w)) j else wd (gv (x * 49 + s * 7 + w)) j
theorem AX_7 {gv er : Nat → Int64} {x w j : Nat} : AX gv er x w j 7 = wd (er (x * 7 + w)) j := rfl
theorem AX_s {gv er : Nat → Int64} {x w j s : Nat} (h : s < 7) : AX gv er x w j s = wd (gv (x * 49 + s * 7 + w)) j := if_neg (by omega)
theorem orr_ag {f g : Nat → Bool} {l : Nat} : ∀ {c : Nat}, (∀ s, l ≤ s → s < l + c → f s = g s) → orr f l c = orr g l c := by
  intro c
  induction c with
  | zero => intro _; rfl
  | succ c ih =>
    intro h
    show (orr f l c || f (l + c)) = (orr g l c || g (l + c))
    rw [ih (fun s h1 h2 => h s h1 (by omega)), h (l + c) (by omega) (by omega)]
theorem wd_aw {gv er : Nat → Int64} {x w j l c : Nat} (h : l + c ≤ 7) : wd (aw gv x w l c) j = orr (AX gv er x w j) l c := by
  unfold aw
  rw [wd_oLr]
  exact orr_ag (fun s h1 h2 => (AX_s (by omega)).symm)
theorem aw_ag {g g' : Nat → Int64} {x w l c : Nat} (h : ∀ s, s < 7 → g' (x * 49 + s * 7 + w) = g (x * 49 + s * 7 + w)) (hl : l + c ≤ 7) : aw g' x w l c = aw g x w l c := by
  apply wd_ext
  intro j _
  rw [wd_aw (er := g) hl, wd_aw (er := g) hl]
  exact orr_ag (fun s h1 h2 => by rw [AX_s (by omega), AX_s (by omega), h s (by omega)])
/-- one node, one word: nothing else changes -/
def Gok (gv er g' e' : Nat → Int64) (x w : Nat) : Prop := (∀ i, (∀ s, s < 7 → i ≠ x * 49 + s * 7 + w) → g' i = gv i) ∧ (∀ i, i ≠ x * 7 + w → e' i = er i)
def Gp (gv : Nat → Int64) (x w : Nat) (f : Nat → Int64) (i : Nat) (g' : Nat → Int64) : Prop := (∀ s, s < i → g' (x * 49 + s * 7 + w) = f s) ∧ (∀ m, (∀ s, s < i → m ≠ x * 49 + s * 7 + w) → g' m = gv m)
theorem Gp_0 {gv : Nat → Int64} {x w : Nat} {f : Nat → Int64} : Gp gv x w f 0 gv := ⟨fun s h => absurd h (Nat.not_lt_zero s), fun m _ => rfl⟩
theorem Gp_s {gv g' : Nat → Int64} {x w i : Nat} {f : Nat → Int64} {W : Int64} (h : Gp gv x w f i g') (hW : W = f i) : Gp gv x w f (i + 1) (vp_updL g' (x * 49 + i * 7 + w) W) := by
  subst hW
  refine ⟨fun s hs => ?_, fun m hm => ?_⟩
  · by_cases e : s = i
    · subst e; exact pk_uLs
    · rw [pk_uLn (by omega)]; exact h.1 s (by omega)
  · rw [pk_uLn (hm i (by omega))]; exact h.2 m (fun s hs => hm s (by omega))
theorem Gp_o {gv g' : Nat → Int64} {x a w i s : Nat} {f : Nat → Int64} (h : Gp gv x w f i g') (hi : i ≤ 7) (hw : w < 7) (ha : a < x) (hs : s < 7) : g' (a * 49 + s * 7 + w) = gv (a * 49 + s * 7 + w) := h.2 _ (fun s' _ => by omega)
theorem sm (s : Nat) (h : s < 7) : s = 0 ∨ s = 1 ∨ s = 2 ∨ s = 3 ∨ s = 4 ∨ s = 5 ∨ s = 6 := by omega
theorem x_shapeMask {post : Int64 → Prop} {v s w : Nat} (hs : s < 7) (hw : w < 7) (hv : v < 3) (h : ∀ m : Int64, (∀ j, j < 64 → vj j → wd m j = decide (s = shj w j v)) → post m) : wpX_shapeMask post (vc, mN, mL, nc, lc, dp, pd, vd, ph, pt, de, nk, na, nb, us, lk, lv, le, ju, el, ol, gv, er, sn, re, ow, vs, vx, vy, ws, wx, wy) (nI v) (nI s) (nI w) := by
  rcases (by omega : v = 0 ∨ v = 1 ∨ v = 2) with rfl | rfl | rfl
  · refine br_t rfl (h _ fun j hj hv => ?_)
    rw [wd_shl s (by omega) _ hj, (by decide +kernel : ∀ i, i < 64 → wd 72340172838076673 i = decide (i % 8 = 0)) (j - s) (by omega)]
    unfold vj at hv
    show _ = decide (s = j % 8)
    by_cases e : s = j % 8
    · rw [decide_eq_true e, decide_eq_true (by omega), decide_eq_true (by omega)]; rfl
    · rw [decide_eq_false e]
      by_cases e2 : s ≤ j
      · rw [decide_eq_false (by omega : ¬ (j - s) % 8 = 0), Bool.and_false]
      · rw [decide_eq_false e2, Bool.false_and]
  · refine br_f (by decide) (br_t rfl (h _ fun j hj hv => ?_))
    rw [na_8, wd_shl (8 * s) (by omega) _ hj, (by decide +kernel : ∀ i, i < 64 → wd 255 i = decide (i < 8)) (j - 8 * s) (by omega)]
    show _ = decide (s = j / 8)
    by_cases e : s = j / 8
    · rw [decide_eq_true e, decide_eq_true (by omega), decide_eq_true (by omega)]; rfl
    · rw [decide_eq_false e]
      by_cases e2 : 8 * s ≤ j
      · rw [decide_eq_false (by omega : ¬ (j - 8 * s) < 8), Bool.and_false]
      · rw [decide_eq_false e2, Bool.false_and]
  · refine br_f (by decide) (br_f (by decide) ?_)
    by_cases e : s = w
    · subst e
      exact br_t rfl (h _ fun j hj hv => by rw [wd_m1 j hj]; exact (decide_eq_true rfl).symm)
    · exact br_f (nI_ne e (by omega) (by omega)) (h _ fun j hj hv => by rw [wd_0]; exact (decide_eq_false e).symm)
/-! leaves -/
theorem x_leaf {post : SX → Prop} {V x w k : Nat} (hx : x < 32) (hw : w < 7) (hk : nk x = nI k) (h13 : 1 ≤ k ∧ k ≤ 3) (h1 : k = 1 → ∃ v, v < V ∧ na x = nI v) (hV : V ≤ 3) (h3 : k = 3 → na x = 0 ∨ na x = 1)
    (h : ∀ g', (∀ i, (∀ s, s < 7 → i ≠ x * 49 + s * 7 + w) → g' i = gv i) → (∀ j, j < 64 → vj j → ∀ s, s < 7 → wd (g' (x * 49 + s * 7 + w)) j = OO nk na nb (shj w j) x s) → post (vc, mN, mL, nc, lc, dp, pd, vd, ph, pt, de, nk, na, nb, us, lk, lv, le, ju, el, ol, g', er, sn, re, ow, vs, vx, vy, ws, wx, wy)) : wpX_leafOutcome post (vc, mN, mL, nc, lc, dp, pd, vd, ph, pt, de, nk, na, nb, us, lk, lv, le, ju, el, ol, gv, er, sn, re, ow, vs, vx, vy, ws, wx, wy) (nI x) (nI w) := by
  have hi : vp_in (nI x) 32 := vp_in_nI hx (by decide)
  have hc : (nI x).toNatClampNeg = x := nI_clamp (by omega)
  refine And.intro hi (nm_r (e' := nI k) (by rw [hc]; exact hk) ?_)
  refine loop_0 (fun n i (g : Nat → Int64) => wX_leafOutcome_10 post (nI x) (nI w) (nI k) n (nI i) vc mN mL nc lc dp pd vd ph pt de nk na nb us lk lv le ju el ol g er sn re ow vs vx vy ws wx wy) (fun i g => (∀ m, (∀ s, s < i → m ≠ x * 49 + s * 7 + w) → g m = gv m) ∧ (∀ j, j < 64 → vj j → ∀ s, s < i → wd (g (x * 49 + s * 7 + w)) j = OO nk na nb (shj w j) x s)) 7 gv ⟨fun m _ => rfl, fun j _ _ s hs => absurd hs (Nat.not_lt_zero s)⟩ ?_ ?_
  · intro n g ⟨a, b⟩
    exact br_t (nI_le (Nat.le_refl 7) (by decide)) (h g a b)
  · intro n i g hi7 ⟨a, b⟩ K
    have fin : ∀ W : Int64, (∀ j, j < 64 → vj j → wd W j = OO nk na nb (shj w j) x i) → wX_leafOutcome_68 post (wX_leafOutcome_10 post (nI x) (nI w) (nI k) n) (nI x) (nI w) (nI k) (nI i) W vc mN mL nc lc dp pd vd ph pt de nk na nb us lk lv le ju el ol g er sn re ow vs vx vy ws wx wy := by
      intro W hW
      unfold wX_leafOutcome_68
      refine x_put hx hi7 hw (nm_r (nI_1 i) (K _ ⟨fun m hm => ?_, fun j hj hv s hs => ?_⟩))
      · rw [pk_uLn (hm i (by omega))]; exact a m (fun s hs => hm s (by omega))
      · by_cases e : s = i
        · subst e; rw [pk_uLs]; exact hW j hj hv
        · rw [pk_uLn (by omega)]; exact b j hj hv s (by omega)
    refine br_f (nI_ge (b := 7) hi7 (by decide)) ?_
    have hm1 : ∀ j, j < 64 → wd (-1) j = true := wd_m1
    rcases (by omega : k = 1 ∨ k = 2 ∨ k = 3) with rfl | rfl | rfl
    · obtain ⟨v, hv, ev⟩ := h1 rfl
      have fv : ∀ W0 : Int64, wX_leafOutcome_46 post (wX_leafOutcome_10 post (nI x) (nI w) (nI 1) n) (nI x) (nI w) (nI 1) (nI i) W0 vc mN mL nc lc dp pd vd ph pt de nk na nb us lk lv le ju el ol g er sn re ow vs vx vy ws wx wy := fun W0 => by
        refine br_t rfl (And.intro hi ?_)
        rw [hc, ev]
        refine x_shapeMask hi7 hw (by omega) (fun m hm => fin m fun j hj hvj => ?_)
        rw [hm j hj hvj, OO_1 hk, ev, nI_clamp (by omega)]
      exact br_f (by decide) (And.intro hi (br_c (fun _ => fv _) (fun _ => fv _)))
    · refine br_t rfl ?_
      by_cases e : i = 0
      · subst e
        exact br_t rfl (br_f (by decide) (fin _ fun j hj _ => by rw [hm1 j hj, OO_2 hk]; rfl))
      · exact br_f (nI_ne (b := 0) e (by omega) (by omega)) (br_f (by decide) (fin _ fun j hj _ => by rw [wd_0, OO_2 hk, decide_eq_false e]))
    · refine br_f (by decide) (And.intro hi ?_)
      rw [hc]
      obtain ⟨v, hv2, ev⟩ : ∃ v, v < 2 ∧ na x = nI v := by
        rcases h3 rfl with e | e
        · exact ⟨0, by omega, e⟩
        · exact ⟨1, by omega, e⟩
      rw [ev, show (1 : Int32) + nI v = nI (1 + v) from nI_add 1 v]
      by_cases e : i = 1 + v
      · exact br_t (congrArg nI e) (br_f (by decide) (fin _ fun j hj _ => by rw [hm1 j hj, OO_3 hk, ev, nI_clamp (by omega), decide_eq_true e]))
      · exact br_f (nI_ne e (by omega) (by omega)) (br_f (by decide) (fin _ fun j hj _ => by rw [wd_0, OO_3 hk, ev, nI_clamp (by omega), decide_eq_false e]))
end NT09
end
section
section NT10
variable {vc mN mL nc lc dp pd vd ph pt nw : Int32} {de nk na nb us lk lv le ju el ol ow vs vx vy ws wx wy du ou ax ay ar dn ga : Nat → Int32} {gv er sn re : Nat → Int64}
theorem x_outE {post : Int64 → Prop} {A S W : Int32} {x s w : Nat} (eA : A = nI x) (eS : S = nI s) (eW : W = nI w) (hx : x < 32) (hs : s < 7) (hw : w < 7) (h : post (gv (x * 49 + s * 7 + w))) : wpX_out post (vc, mN, mL, nc, lc, dp, pd, vd, ph, pt, de, nk, na, nb, us, lk, lv, le, ju, el, ol, gv, er, sn, re, ow, vs, vx, vy, ws, wx, wy) A S W := by
  subst eA; subst eS; subst eW; exact x_out hx hs hw h
theorem x_anyE {post : Int64 → Prop} {A L W hi : Int32} {x l c w : Nat} (eA : A = nI x) (eL : L = nI l) (eW : W = nI w) (hx : x < 32) (hw : w < 7) (hlc : l + c ≤ 7) (hh : hi = nI (l + c) - 1) (h : post (aw gv x w l c)) : wpX_any post (vc, mN, mL, nc, lc, dp, pd, vd, ph, pt, de, nk, na, nb, us, lk, lv, le, ju, el, ol, gv, er, sn, re, ow, vs, vx, vy, ws, wx, wy) A L hi W := by
  subst eA; subst eL; subst eW; exact x_any hx hw hlc hh h
theorem wd_strict {gv er g1 : Nat → Int64} {a b w j l c : Nat} (hl : l + c = 7) (ha : ∀ s, s < 7 → g1 (a * 49 + s * 7 + w) = gv (a * 49 + s * 7 + w)) (hb : ∀ s, s < 7 → g1 (b * 49 + s * 7 + w) = gv (b * 49 + s * 7 + w)) :
    wd ((er (a * 7 + w) ||| (aw g1 a w 0 7 &&& (er (b * 7 + w) ||| aw g1 b w l c))) ||| (aw g1 a w l c &&& aw g1 b w 0 7)) j = fs (AX gv er a w j) (AX gv er b w j) l c := by
  rw [aw_ag ha (by omega), aw_ag ha (by omega), aw_ag hb (by omega), aw_ag hb (by omega), wd_or, wd_or, wd_and, wd_and, wd_or, wd_aw (er := er) (by omega), wd_aw (er := er) (by omega), wd_aw (er := er) (by omega), wd_aw (er := er) (by omega)]
  rfl
theorem wd_nb {gv er g1 : Nat → Int64} {a w j : Nat} (ha : ∀ s, s < 7 → g1 (a * 49 + s * 7 + w) = gv (a * 49 + s * 7 + w)) :
    wd (er (a * 7 + w) ||| (g1 (a * 49 + 0 * 7 + w) ||| aw g1 a w 3 4)) j = (AX gv er a w j 7 || (AX gv er a w j 0 || orr (AX gv er a w j) 3 4)) := by
  rw [aw_ag ha (by omega), ha 0 (by omega), wd_or, wd_or, wd_aw (er := er) (by omega)]
  rfl
variable {post : SX → Prop} {x a b w k : Nat}
def Hk (post : SX → Prop) (x a b w k : Nat) (f : (Nat → Int64) → (Nat → Int64) → SX) (gv er : Nat → Int64) : Prop :=
  ∀ g' e', Gok gv er g' e' x w → (∀ j s, s < 8 → AX g' e' x w j s = fx k (AX gv er a w j) (AX gv er b w j) s) → post (f g' e')
theorem x_add (hx : x < 32) (hw : w < 7) (hk : nk x = nI k) (ha : na x = nI a) (hb : nb x = nI b) (hax : a < x) (hbx : b < x) (hz : ∀ s, s < 7 → gv (x * 49 + s * 7 + w) = 0) (k4 : k = 4)
    (h : Hk post x a b w k (fun g' e' => (vc, mN, mL, nc, lc, dp, pd, vd, ph, pt, de, nk, na, nb, us, lk, lv, le, ju, el, ol, g', e', sn, re, ow, vs, vx, vy, ws, wx, wy)) gv er) : wpX_sumOutcome post (vc, mN, mL, nc, lc, dp, pd, vd, ph, pt, de, nk, na, nb, us, lk, lv, le, ju, el, ol, gv, er, sn, re, ow, vs, vx, vy, ws, wx, wy) (nI x) (nI w) := by
  have hi : vp_in (nI x) 32 := vp_in_nI hx (by decide)
  have hc : (nI x).toNatClampNeg = x := nI_clamp (by omega)
  have eA : na (nI x).toNatClampNeg = nI a := by rw [hc]; exact ha
  have eB : nb (nI x).toNatClampNeg = nI b := by rw [hc]; exact hb
  have eK : nk (nI x).toNatClampNeg = nI k := by rw [hc]; exact hk
  have ea := na_7 a w
  have eb := na_7 b w
  have ex := na_7 x w
  subst k4
  refine And.intro hi (x_outE (x := a) (s := 0) (w := w) eA rfl rfl (by omega) (by decide) hw (And.intro hi (x_outE (x := b) (s := 0) (w := w) eB rfl rfl (by omega) (by decide) hw (nm_e (And.intro hi (br_t eK (x_put (s := 0) hx (by decide) hw ?_)))))))
  unfold wX_sumOutcome_55
  refine x_strict (l := 1) (c := 6) hx hw ha hb (by omega) (by omega) rfl (h _ _ ⟨fun i hi => ?_, fun i hi => ?_⟩ fun j s hs => ?_)
  · exact pk_uLn (hi 0 (by omega))
  · exact pk_uLn hi
  · rcases Nat.lt_or_ge s 7 with h7 | h7
    · rw [AX_s h7]
      by_cases e0 : s = 0
      · subst e0; rw [pk_uLs, wd_and]; rfl
      · rw [pk_uLn (by omega), hz s h7, wd_0]
        show _ = (if s = 0 then _ else if s = 7 then _ else false)
        rw [if_neg e0, if_neg (by omega)]
    · obtain rfl : s = 7 := by omega
      rw [AX_7, pk_uLs]
      exact wd_strict rfl (fun s hs => pk_uLn (by omega)) (fun s hs => pk_uLn (by omega))
theorem x_less (hx : x < 32) (hw : w < 7) (hk : nk x = nI k) (ha : na x = nI a) (hb : nb x = nI b) (hax : a < x) (hbx : b < x) (hz : ∀ s, s < 7 → gv (x * 49 + s * 7 + w) = 0) (k5 : k = 5)
    (h : Hk post x a b w k (fun g' e' => (vc, mN, mL, nc, lc, dp, pd, vd, ph, pt, de, nk, na, nb, us, lk, lv, le, ju, el, ol, g', e', sn, re, ow, vs, vx, vy, ws, wx, wy)) gv er) : wpX_sumOutcome post (vc, mN, mL, nc, lc, dp, pd, vd, ph, pt, de, nk, na, nb, us, lk, lv, le, ju, el, ol, gv, er, sn, re, ow, vs, vx, vy, ws, wx, wy) (nI x) (nI w) := by
  have hi : vp_in (nI x) 32 := vp_in_nI hx (by decide)
  have hc : (nI x).toNatClampNeg = x := nI_clamp (by omega)
  have eA : na (nI x).toNatClampNeg = nI a := by rw [hc]; exact ha
  have eB : nb (nI x).toNatClampNeg = nI b := by rw [hc]; exact hb
  have eK : nk (nI x).toNatClampNeg = nI k := by rw [hc]; exact hk
  have ea := na_7 a w
  have eb := na_7 b w
  have ex := na_7 x w
  subst k5
  refine And.intro hi (x_outE (x := a) (s := 0) (w := w) eA rfl rfl (by omega) (by decide) hw (And.intro hi (x_outE (x := b) (s := 0) (w := w) eB rfl rfl (by omega) (by decide) hw (nm_e (And.intro hi (br_f (by rw [eK]; decide) (x_putEither hx hw ?_)))))))
  unfold wX_sumOutcome_55
  refine x_strict (l := 1) (c := 6) hx hw ha hb (by omega) (by omega) rfl (h _ _ ⟨fun i hi => ?_, fun i hi => ?_⟩ fun j s hs => ?_)
  · rw [pk_uLn (hi 2 (by omega)), pk_uLn (hi 1 (by omega))]
  · exact pk_uLn hi
  · rcases Nat.lt_or_ge s 7 with h7 | h7
    · rw [AX_s h7]
      by_cases e2 : s = 2
      · subst e2; rw [pk_uLs, wd_and]; rfl
      · rw [pk_uLn (by omega)]
        by_cases e1 : s = 1
        · subst e1; rw [pk_uLs, wd_and]; rfl
        · rw [pk_uLn (by omega), hz s h7, wd_0]
          show _ = (if s = 1 then _ else if s = 2 then _ else if s = 7 then _ else false)
          rw [if_neg e1, if_neg e2, if_neg (by omega)]
    · obtain rfl : s = 7 := by omega
      rw [AX_7, pk_uLs]
      exact wd_strict rfl (fun s hs => by rw [pk_uLn (by omega), pk_uLn (by omega)]) (fun s hs => by rw [pk_uLn (by omega), pk_uLn (by omega)])
theorem x_not (hx : x < 32) (hw : w < 7) (hk : nk x = nI k) (ha : na x = nI a) (hb : nb x = nI b) (hax : a < x) (hbx : b < x) (hz : ∀ s, s < 7 → gv (x * 49 + s * 7 + w) = 0) (k6 : k = 6)
    (h : Hk post x a b w k (fun g' e' => (vc, mN, mL, nc, lc, dp, pd, vd, ph, pt, de, nk, na, nb, us, lk, lv, le, ju, el, ol, g', e', sn, re, ow, vs, vx, vy, ws, wx, wy)) gv er) : wpX_notOutcome post (vc, mN, mL, nc, lc, dp, pd, vd, ph, pt, de, nk, na, nb, us, lk, lv, le, ju, el, ol, gv, er, sn, re, ow, vs, vx, vy, ws, wx, wy) (nI x) (nI w) := by
  have hi : vp_in (nI x) 32 := vp_in_nI hx (by decide)
  have hc : (nI x).toNatClampNeg = x := nI_clamp (by omega)
  have eA : na (nI x).toNatClampNeg = nI a := by rw [hc]; exact ha
  have eB : nb (nI x).toNatClampNeg = nI b := by rw [hc]; exact hb
  have eK : nk (nI x).toNatClampNeg = nI k := by rw [hc]; exact hk
  have ea := na_7 a w
  have eb := na_7 b w
  have ex := na_7 x w
  subst k6
  refine And.intro hi (nm_r eA (x_out (s := 2) (by omega) (by decide) hw (x_out (s := 1) (by omega) (by decide) hw (x_putEither hx hw (And.intro (na_in ea (by omega) (by decide)) (x_notBool (by omega) hw (And.intro (na_in ex (by omega) (by decide)) (nm_r (by rw [na_cl ea (by omega), na_cl ex (by omega)]) (h _ _ ⟨fun i hi => ?_, fun i hi => ?_⟩ fun j s hs => ?_)))))))))
  · rw [pk_uLn (hi 2 (by omega)), pk_uLn (hi 1 (by omega))]
  · exact pk_uLn hi
  · rcases Nat.lt_or_ge s 7 with h7 | h7
    · rw [AX_s h7]
      by_cases e2 : s = 2
      · subst e2; rw [pk_uLs]; rfl
      · rw [pk_uLn (by omega)]
        by_cases e1 : s = 1
        · subst e1; rw [pk_uLs]; rfl
        · rw [pk_uLn (by omega), hz s h7, wd_0]
          show _ = (if s = 1 then _ else if s = 2 then _ else if s = 7 then _ else false)
          rw [if_neg e1, if_neg e2, if_neg (by omega)]
    · obtain rfl : s = 7 := by omega
      rw [AX_7, pk_uLs]
      exact wd_nb (fun s hs => by rw [pk_uLn (by omega), pk_uLn (by omega)])
theorem x_pair (hx : x < 32) (hw : w < 7) (hk : nk x = nI k) (ha : na x = nI a) (hb : nb x = nI b) (hax : a < x) (hbx : b < x) (hz : ∀ s, s < 7 → gv (x * 49 + s * 7 + w) = 0) (k9 : k = 9)
    (h : Hk post x a b w k (fun g' e' => (vc, mN, mL, nc, lc, dp, pd, vd, ph, pt, de, nk, na, nb, us, lk, lv, le, ju, el, ol, g', e', sn, re, ow, vs, vx, vy, ws, wx, wy)) gv er) : wpX_pairOutcome post (vc, mN, mL, nc, lc, dp, pd, vd, ph, pt, de, nk, na, nb, us, lk, lv, le, ju, el, ol, gv, er, sn, re, ow, vs, vx, vy, ws, wx, wy) (nI x) (nI w) := by
  have hi : vp_in (nI x) 32 := vp_in_nI hx (by decide)
  have hc : (nI x).toNatClampNeg = x := nI_clamp (by omega)
  have eA : na (nI x).toNatClampNeg = nI a := by rw [hc]; exact ha
  have eB : nb (nI x).toNatClampNeg = nI b := by rw [hc]; exact hb
  have eK : nk (nI x).toNatClampNeg = nI k := by rw [hc]; exact hk
  have ea := na_7 a w
  have eb := na_7 b w
  have ex := na_7 x w
  subst k9
  refine And.intro hi (x_outE (x := a) (s := 0) (w := w) eA rfl rfl (by omega) (by decide) hw (And.intro hi (x_outE (x := b) (s := 0) (w := w) eB rfl rfl (by omega) (by decide) hw (And.intro hi (x_anyE (x := a) (l := 1) (c := 2) eA rfl rfl (by omega) hw (by decide) (by decide) (And.intro hi (x_anyE (x := b) (l := 1) (c := 2) eB rfl rfl (by omega) hw (by decide) (by decide) ?_)))))))
  refine x_put (s := 3) hx (by decide) hw (x_put (s := 4) hx (by decide) hw (x_put (s := 5) hx (by decide) hw (x_put (s := 6) hx (by decide) hw (x_strict (l := 3) (c := 4) hx hw ha hb (by omega) (by omega) rfl (h _ _ ⟨fun i hi => ?_, fun i hi => ?_⟩ fun j s hs => ?_)))))
  · rw [pk_uLn (hi 6 (by omega)), pk_uLn (hi 5 (by omega)), pk_uLn (hi 4 (by omega)), pk_uLn (hi 3 (by omega))]
  · exact pk_uLn hi
  · rcases Nat.lt_or_ge s 7 with h7 | h7
    · rw [AX_s h7]
      by_cases e6 : s = 6
      · subst e6; rw [pk_uLs, wd_and, wd_aw (er := er) (by omega), wd_aw (er := er) (by omega)]; rfl
      · rw [pk_uLn (by omega)]
        by_cases e5 : s = 5
        · subst e5; rw [pk_uLs, wd_and, wd_aw (er := er) (by omega)]; rfl
        · rw [pk_uLn (by omega)]
          by_cases e4 : s = 4
          · subst e4; rw [pk_uLs, wd_and, wd_aw (er := er) (by omega)]; rfl
          · rw [pk_uLn (by omega)]
            by_cases e3 : s = 3
            · subst e3; rw [pk_uLs, wd_and]; rfl
            · rw [pk_uLn (by omega), hz s h7, wd_0]
              show _ = (if s = 3 then _ else if s = 4 then _ else if s = 5 then _ else if s = 6 then _ else if s = 7 then _ else false)
              rw [if_neg e3, if_neg e4, if_neg e5, if_neg e6, if_neg (by omega)]
    · obtain rfl : s = 7 := by omega
      rw [AX_7, pk_uLs]
      exact wd_strict rfl (fun s hs => by rw [pk_uLn (by omega), pk_uLn (by omega), pk_uLn (by omega), pk_uLn (by omega)]) (fun s hs => by rw [pk_uLn (by omega), pk_uLn (by omega), pk_uLn (by omega), pk_uLn (by omega)])
theorem x_part23 {m1 m2 : Nat} {Z : Int32} (hx : x < 32) (hw : w < 7) (hax : a < x) (hz : ∀ s, s < 7 → gv (x * 49 + s * 7 + w) = 0) (e1 : Z = nI m1) (e2 : 9 - Z = nI m2) (h1 : m1 < 7) (h2 : m2 < 7)
    (hf : ∀ A B : Nat → Bool, ∀ s, s < 8 → fx k A B s = if s = 0 then A 3 || A m1 else if s = 1 then A m2 || A 6 else if s = 2 then A m2 || A 6 else if s = 7 then A 7 || orr A 0 3 else false)
    (h : Hk post x a b w k (fun g' e' => (vc, mN, mL, nc, lc, dp, pd, vd, ph, pt, de, nk, na, nb, us, lk, lv, le, ju, el, ol, g', e', sn, re, ow, vs, vx, vy, ws, wx, wy)) gv er) : wX_partOutcome_23 post (nI x) (nI w) (nI a) Z vc mN mL nc lc dp pd vd ph pt de nk na nb us lk lv le ju el ol gv er sn re ow vs vx vy ws wx wy := by
  have ea := na_7 a w
  have ex := na_7 x w
  unfold wX_partOutcome_23
  refine x_out (s := 3) (by omega) (by decide) hw (x_outE (s := m1) rfl e1 rfl (by omega) h1 hw (nm_e (x_outE (s := m2) rfl e2 rfl (by omega) h2 hw (x_out (s := 6) (by omega) (by decide) hw (nm_e (x_put (s := 0) hx (by decide) hw (x_putEither hx hw (And.intro (na_in ea (by omega) (by decide)) (x_any (l := 0) (c := 3) (by omega) hw (by decide) (by decide) (And.intro (na_in ex (by omega) (by decide)) (nm_r (by rw [na_cl ea (by omega), na_cl ex (by omega)]) (h _ _ ⟨fun i hi => ?_, fun i hi => ?_⟩ fun j s hs => ?_))))))))))))
  · rw [pk_uLn (hi 2 (by omega)), pk_uLn (hi 1 (by omega)), pk_uLn (hi 0 (by omega))]
  · exact pk_uLn hi
  · rw [hf _ _ s hs]
    rcases Nat.lt_or_ge s 7 with h7 | h7
    · rw [AX_s h7]
      by_cases e2 : s = 2
      · subst e2; rw [pk_uLs, wd_or, if_neg (by decide), if_neg (by decide), if_pos rfl, AX_s h2]; rfl
      · rw [pk_uLn (by omega)]
        by_cases e1 : s = 1
        · subst e1; rw [pk_uLs, wd_or, if_neg (by decide), if_pos rfl, AX_s h2]; rfl
        · rw [pk_uLn (by omega)]
          by_cases e0 : s = 0
          · subst e0; rw [pk_uLs, wd_or, if_pos rfl, AX_s h1]; rfl
          · rw [pk_uLn (by omega), hz s h7, wd_0, if_neg e0, if_neg e1, if_neg e2, if_neg (by omega)]
    · obtain rfl : s = 7 := by omega
      rw [AX_7, pk_uLs, if_neg (by decide), if_neg (by decide), if_neg (by decide), if_pos rfl, wd_or, aw_ag (g := gv) (fun s hs => by rw [pk_uLn (by omega), pk_uLn (by omega), pk_uLn (by omega)]) (by omega), wd_aw (er := er) (by omega)]
      rfl
theorem x_part (hx : x < 32) (hw : w < 7) (hk : nk x = nI k) (ha : na x = nI a) (hb : nb x = nI b) (hax : a < x) (hbx : b < x) (hz : ∀ s, s < 7 → gv (x * 49 + s * 7 + w) = 0) (kk : k = 10 ∨ k = 11)
    (h : Hk post x a b w k (fun g' e' => (vc, mN, mL, nc, lc, dp, pd, vd, ph, pt, de, nk, na, nb, us, lk, lv, le, ju, el, ol, g', e', sn, re, ow, vs, vx, vy, ws, wx, wy)) gv er) : wpX_partOutcome post (vc, mN, mL, nc, lc, dp, pd, vd, ph, pt, de, nk, na, nb, us, lk, lv, le, ju, el, ol, gv, er, sn, re, ow, vs, vx, vy, ws, wx, wy) (nI x) (nI w) := by
  have hi : vp_in (nI x) 32 := vp_in_nI hx (by decide)
  have hc : (nI x).toNatClampNeg = x := nI_clamp (by omega)
  have eA : na (nI x).toNatClampNeg = nI a := by rw [hc]; exact ha
  have eB : nb (nI x).toNatClampNeg = nI b := by rw [hc]; exact hb
  have eK : nk (nI x).toNatClampNeg = nI k := by rw [hc]; exact hk
  have ea := na_7 a w
  have eb := na_7 b w
  have ex := na_7 x w
  refine And.intro hi (nm_r eA (And.intro hi ?_))
  rcases kk with rfl | rfl
  · exact br_t eK (x_part23 (m1 := 4) (m2 := 5) hx hw hax hz rfl (by decide) (by decide) (by decide) (fun A B s _ => rfl) h)
  · exact br_f (by rw [eK]; decide) (x_part23 (m1 := 5) (m2 := 4) hx hw hax hz rfl (by decide) (by decide) (by decide) (fun A B s _ => rfl) h)
theorem x_query64 {l c l2 c2 : Nat} {LO HI : Int32} (hx : x < 32) (hw : w < 7) (hax : a < x) (hz : ∀ s, s < 7 → gv (x * 49 + s * 7 + w) = 0)
    (e1 : LO = nI l) (e2 : HI = nI (l + c) - 1) (e3 : LO - 1 = nI (0 + l) - 1) (e4 : HI + 1 = nI l2) (h1 : l + c ≤ 7) (h2 : l2 + c2 = 7)
    (hf : ∀ A B : Nat → Bool, ∀ s, s < 8 → fx k A B s = if s = 1 then orr A 0 l || orr A l2 c2 else if s = 2 then orr A l c else if s = 7 then A 7 else false)
    (h : Hk post x a b w k (fun g' e' => (vc, mN, mL, nc, lc, dp, pd, vd, ph, pt, de, nk, na, nb, us, lk, lv, le, ju, el, ol, g', e', sn, re, ow, vs, vx, vy, ws, wx, wy)) gv er) : wX_queryOutcome_64 post (nI x) (nI w) (nI a) LO HI vc mN mL nc lc dp pd vd ph pt de nk na nb us lk lv le ju el ol gv er sn re ow vs vx vy ws wx wy := by
  have ea := na_7 a w
  have ex := na_7 x w
  unfold wX_queryOutcome_64
  refine x_anyE (l := l) (c := c) rfl e1 rfl (by omega) hw h1 e2 (x_anyE (l := 0) (c := l) rfl rfl rfl (by omega) hw (by omega) e3 (x_anyE (l := l2) (c := c2) rfl e4 rfl (by omega) hw (by omega) (by rw [h2]; decide) (nm_e (x_putEither hx hw (And.intro (na_in ea (by omega) (by decide)) (And.intro (na_in ex (by omega) (by decide)) (nm_r (by rw [na_cl ea (by omega), na_cl ex (by omega)]) (h _ _ ⟨fun i hi => ?_, fun i hi => ?_⟩ fun j s hs => ?_))))))))
  · rw [pk_uLn (hi 2 (by omega)), pk_uLn (hi 1 (by omega))]
  · exact pk_uLn hi
  · rw [hf _ _ s hs]
    rcases Nat.lt_or_ge s 7 with h7 | h7
    · rw [AX_s h7]
      by_cases e2 : s = 2
      · subst e2; rw [pk_uLs, if_neg (by decide), if_pos rfl, wd_aw (er := er) h1]
      · rw [pk_uLn (by omega)]
        by_cases e1 : s = 1
        · subst e1; rw [pk_uLs, wd_or, if_pos rfl, wd_aw (er := er) (by omega), wd_aw (er := er) (by omega)]
        · rw [pk_uLn (by omega), hz s h7, wd_0, if_neg e1, if_neg e2, if_neg (by omega)]
    · obtain rfl : s = 7 := by omega
      rw [AX_7, pk_uLs, if_neg (by decide), if_neg (by decide), if_pos rfl]
      rfl
theorem x_query (hx : x < 32) (hw : w < 7) (hk : nk x = nI k) (ha : na x = nI a) (hb : nb x = nI b) (hax : a < x) (hbx : b < x) (hz : ∀ s, s < 7 → gv (x * 49 + s * 7 + w) = 0) (kk : k = 12 ∨ k = 13 ∨ k = 14)
    (h : Hk post x a b w k (fun g' e' => (vc, mN, mL, nc, lc, dp, pd, vd, ph, pt, de, nk, na, nb, us, lk, lv, le, ju, el, ol, g', e', sn, re, ow, vs, vx, vy, ws, wx, wy)) gv er) : wpX_queryOutcome post (vc, mN, mL, nc, lc, dp, pd, vd, ph, pt, de, nk, na, nb, us, lk, lv, le, ju, el, ol, gv, er, sn, re, ow, vs, vx, vy, ws, wx, wy) (nI x) (nI w) := by
  have hi : vp_in (nI x) 32 := vp_in_nI hx (by decide)
  have hc : (nI x).toNatClampNeg = x := nI_clamp (by omega)
  have eA : na (nI x).toNatClampNeg = nI a := by rw [hc]; exact ha
  have eB : nb (nI x).toNatClampNeg = nI b := by rw [hc]; exact hb
  have eK : nk (nI x).toNatClampNeg = nI k := by rw [hc]; exact hk
  have ea := na_7 a w
  have eb := na_7 b w
  have ex := na_7 x w
  refine And.intro hi (nm_r eA (And.intro hi (nm_r eK ?_)))
  rcases kk with rfl | rfl | rfl
  · exact br_t rfl (br_t rfl (x_query64 (l := 0) (c := 1) (l2 := 1) (c2 := 6) hx hw hax hz rfl (by decide) (by decide) (by decide) (by decide) rfl (fun A B s _ => rfl) h))
  · exact br_f (by decide) (br_t rfl (br_f (by decide) (br_t rfl (x_query64 (l := 1) (c := 2) (l2 := 3) (c2 := 4) hx hw hax hz rfl (by decide) (by decide) (by decide) (by decide) rfl (fun A B s _ => rfl) h))))
  · exact br_f (by decide) (br_f (by decide) (br_f (by decide) (br_f (by decide) (x_query64 (l := 3) (c := 4) (l2 := 7) (c2 := 0) hx hw hax hz rfl (by decide) (by decide) (by decide) (by decide) rfl (fun A B s _ => rfl) h))))
theorem x_chain31 {st th : Nat} {Z : Int32} (hx : x < 32) (hw : w < 7) (hax : a < x) (hbx : b < x) (e1 : Z = nI st) (e2 : 3 - Z = nI th) (h1 : st < 7) (h2 : th < 7)
    (hf : ∀ A B : Nat → Bool, ∀ s, s < 8 → fx k A B s = if s = 7 then (A 7 || (A 0 || orr A 3 4)) || (A th && B 7) else if s = st then (A th && B s) || A st else A th && B s)
    (h : Hk post x a b w k (fun g' e' => (vc, mN, mL, nc, lc, dp, pd, vd, ph, pt, de, nk, na, nb, us, lk, lv, le, ju, el, ol, g', e', sn, re, ow, vs, vx, vy, ws, wx, wy)) gv er) : wX_chainOutcome_31 post (nI x) (nI w) (nI a) (nI b) Z vc mN mL nc lc dp pd vd ph pt de nk na nb us lk lv le ju el ol gv er sn re ow vs vx vy ws wx wy := by
  have ea := na_7 a w
  have eb := na_7 b w
  have ex := na_7 x w
  subst e1
  unfold wX_chainOutcome_31
  refine x_outE (s := th) rfl e2 rfl (by omega) h2 hw ?_
  let F : Nat → Int64 := fun s => if s = st then (gv (a * 49 + th * 7 + w) &&& gv (b * 49 + s * 7 + w)) ||| gv (a * 49 + st * 7 + w) else gv (a * 49 + th * 7 + w) &&& gv (b * 49 + s * 7 + w)
  refine loop_0 (fun n i (g : Nat → Int64) => wX_chainOutcome_48 post (nI x) (nI w) (nI a) (nI b) (nI st) (gv (a * 49 + th * 7 + w)) n (nI i) vc mN mL nc lc dp pd vd ph pt de nk na nb us lk lv le ju el ol g er sn re ow vs vx vy ws wx wy) (fun i g => Gp gv x w F i g) 7 gv Gp_0 ?_ ?_
  · intro n g hg
    have ga : ∀ s, s < 7 → g (a * 49 + s * 7 + w) = gv (a * 49 + s * 7 + w) := fun s hs => Gp_o hg (by omega) hw hax hs
    refine br_t (nI_le (Nat.le_refl 7) (by decide)) (And.intro (na_in ea (by omega) (by decide)) (x_notBool (by omega) hw (And.intro (na_in eb (by omega) (by decide)) (And.intro (na_in ex (by omega) (by decide)) (nm_r (by rw [na_cl ea (by omega), na_cl eb (by omega), na_cl ex (by omega)]) (h _ _ ⟨fun i hi => hg.2 i hi, fun i hi => ?_⟩ fun j s hs => ?_))))))
    · exact pk_uLn hi
    · rw [hf _ _ s hs]
      rcases Nat.lt_or_ge s 7 with h7 | h7
      · rw [AX_s h7, if_neg (by omega), hg.1 s h7]
        show wd (if s = st then _ else _) j = _
        by_cases e : s = st
        · rw [if_pos e, if_pos e, wd_or, wd_and, AX_s h2, AX_s h7, AX_s h1]
        · rw [if_neg e, if_neg e, wd_and, AX_s h2, AX_s h7]
      · obtain rfl : s = 7 := by omega
        rw [AX_7, pk_uLs, if_pos rfl, wd_or, wd_nb ga, wd_and, AX_s h2]
        rfl
  · intro n i g hi hg K
    have ga : ∀ s, s < 7 → g (a * 49 + s * 7 + w) = gv (a * 49 + s * 7 + w) := fun s hs => Gp_o hg (by omega) hw hax hs
    have gb : ∀ s, s < 7 → g (b * 49 + s * 7 + w) = gv (b * 49 + s * 7 + w) := fun s hs => Gp_o hg (by omega) hw hbx hs
    refine br_f (nI_ge (b := 7) hi (by decide)) (x_out (s := i) (by omega) hi hw (nm_r (by rw [gb i hi]) ?_))
    by_cases e : i = st
    · refine br_t (congrArg nI e) (x_out (s := st) (by omega) h1 hw (nm_r (by rw [ga st h1]) ?_))
      unfold wX_chainOutcome_89
      refine x_put hx hi hw (nm_r (nI_1 i) (K _ (Gp_s hg ?_)))
      show _ = (if i = st then _ else _)
      rw [if_pos e]
    · refine br_f (nI_ne e (by omega) (by omega)) ?_
      unfold wX_chainOutcome_89
      refine x_put hx hi hw (nm_r (nI_1 i) (K _ (Gp_s hg ?_)))
      show _ = (if i = st then _ else _)
      rw [if_neg e]
theorem x_chain (hx : x < 32) (hw : w < 7) (hk : nk x = nI k) (ha : na x = nI a) (hb : nb x = nI b) (hax : a < x) (hbx : b < x) (kk : k = 7 ∨ k = 8)
    (h : Hk post x a b w k (fun g' e' => (vc, mN, mL, nc, lc, dp, pd, vd, ph, pt, de, nk, na, nb, us, lk, lv, le, ju, el, ol, g', e', sn, re, ow, vs, vx, vy, ws, wx, wy)) gv er) : wpX_chainOutcome post (vc, mN, mL, nc, lc, dp, pd, vd, ph, pt, de, nk, na, nb, us, lk, lv, le, ju, el, ol, gv, er, sn, re, ow, vs, vx, vy, ws, wx, wy) (nI x) (nI w) := by
  have hi : vp_in (nI x) 32 := vp_in_nI hx (by decide)
  have hc : (nI x).toNatClampNeg = x := nI_clamp (by omega)
  have eA : na (nI x).toNatClampNeg = nI a := by rw [hc]; exact ha
  have eB : nb (nI x).toNatClampNeg = nI b := by rw [hc]; exact hb
  have eK : nk (nI x).toNatClampNeg = nI k := by rw [hc]; exact hk
  have ea := na_7 a w
  have eb := na_7 b w
  have ex := na_7 x w
  refine And.intro hi (nm_r eA (And.intro hi (nm_r eB (And.intro hi ?_))))
  rcases kk with rfl | rfl
  · exact br_t eK (x_chain31 (st := 1) (th := 2) hx hw hax hbx rfl (by decide) (by decide) (by decide) (fun A B s _ => rfl) h)
  · exact br_f (by rw [eK]; decide) (x_chain31 (st := 2) (th := 1) hx hw hax hbx rfl (by decide) (by decide) (by decide) (fun A B s _ => rfl) h)
end NT10
end
section
section NT11
variable {vc mN mL nc lc dp pd vd ph pt nw : Int32} {de nk na nb us lk lv le ju el ol ow vs vx vy ws wx wy du ou ax ay ar dn ga : Nat → Int32} {gv er sn re : Nat → Int64}
def bN (k : Nat) : Prop := k = 4 ∨ k = 5 ∨ k = 7 ∨ k = 8 ∨ k = 9
def NW (V : Nat) (nk na nb : Nat → Int32) (x : Nat) : Prop := ∃ k, 1 ≤ k ∧ k ≤ 14 ∧ nk x = nI k ∧ (k = 1 → ∃ v, v < V ∧ na x = nI v) ∧ (k = 3 → na x = 0 ∨ na x = 1) ∧ (4 ≤ k → ∃ a b, a < x ∧ b < x ∧ na x = nI a ∧ nb x = nI b ∧ (¬ bN k → b = 0))
theorem fy_ag {k r : Nat} {A A' B B' : Nat → Bool} (hA : ∀ s, s < 8 → A s = A' s) (hB : ∀ s, s < 8 → B s = B' s) : fy k A B r = fy k A' B' r := by
  unfold fy
  refine orr_ag (fun s _ hs => ?_)
  rw [hA s (by omega)]
  congr 1
  exact orr_ag (fun t _ ht => by rw [hB t (by omega)])
theorem OO_ne {V n : Nat} {nk na nb : Nat → Int32} {σ : Nat → Nat} (h : ∀ x, x < n → NW V nk na nb x) (hn : n ≤ 32) (hσ : ∀ v, σ v < 8) : ∀ x, x < n → ∃ s, s < 8 ∧ OO nk na nb σ x s = true := by
  intro x
  induction x using Nat.strongRecOn with
  | _ x ih =>
    intro hx
    obtain ⟨k, h1, h14, hk, c1, c3, c4⟩ := h x hx
    rcases (by omega : k = 1 ∨ k = 2 ∨ k = 3 ∨ 4 ≤ k) with rfl | rfl | rfl | h4
    · exact ⟨_, hσ _, by rw [OO_1 hk]; exact decide_eq_true rfl⟩
    · exact ⟨0, by omega, by rw [OO_2 hk]; exact decide_eq_true rfl⟩
    · refine ⟨1 + (na x).toNatClampNeg, ?_, by rw [OO_3 hk]; exact decide_eq_true rfl⟩
      rcases c3 rfl with e | e <;> rw [e] <;> decide
    · obtain ⟨a, b, ha, hb, ea, eb, _⟩ := c4 h4
      obtain ⟨r, hr, e⟩ := fy_ne h4 h14 (ih a ha (by omega)) (ih b hb (by omega))
      exact ⟨r, hr, by rw [OO_4 hk h4 h14 ea eb ha hb (by omega)]; exact e⟩
theorem sj_lt {w j : Nat} (hw : w < 7) (hj : vj j) : ∀ v, shj w j v < 7 := by
  intro v
  unfold shj; unfold vj at hj
  split
  · exact hj.1
  · split
    · exact hj.2
    · exact hw
def AO (nk na nb : Nat → Int32) (gv er : Nat → Int64) (y w : Nat) : Prop := ∀ j, j < 64 → vj j → ∀ s, s < 8 → AX gv er y w j s = OO nk na nb (shj w j) y s
theorem x_outcome {post : SX → Prop} {V n x w : Nat} (h32 : n ≤ 32) (hV : V ≤ 3) (hN : ∀ y, y < n → NW V nk na nb y) (hx : x < n) (hw : w < 7) (hd : ∀ y, y < x → AO nk na nb gv er y w)
    (hz : ∀ s, s < 7 → gv (x * 49 + s * 7 + w) = 0) (hze : er (x * 7 + w) = 0)
    (h : ∀ g' e', Gok gv er g' e' x w → AO nk na nb g' e' x w → post (vc, mN, mL, nc, lc, dp, pd, vd, ph, pt, de, nk, na, nb, us, lk, lv, le, ju, el, ol, g', e', sn, re, ow, vs, vx, vy, ws, wx, wy)) : wpX_outcome post (vc, mN, mL, nc, lc, dp, pd, vd, ph, pt, de, nk, na, nb, us, lk, lv, le, ju, el, ol, gv, er, sn, re, ow, vs, vx, vy, ws, wx, wy) (nI x) (nI w) := by
  have hi : vp_in (nI x) 32 := vp_in_nI (by omega) (by decide)
  have hc : (nI x).toNatClampNeg = x := nI_clamp (by omega)
  obtain ⟨k, h1, h14, hk, c1, c3, c4⟩ := hN x hx
  have eK : nk (nI x).toNatClampNeg = nI k := by rw [hc]; exact hk
  refine And.intro hi (nm_r eK ?_)
  rcases Nat.lt_or_ge k 4 with h4 | h4
  · refine br_f (nI_nlt (b := k) (a := 3) (by omega) (by decide)) ?_
    refine x_leaf (V := V) (by omega) hw hk ⟨h1, by omega⟩ c1 hV c3 (fun g' a b => h g' er ⟨a, fun i _ => rfl⟩ fun j hj hv s hs => ?_)
    rcases Nat.lt_or_ge s 7 with h7 | h7
    · rw [AX_s h7]; exact b j hj hv s h7
    · obtain rfl : s = 7 := by omega
      rw [AX_7, hze, wd_0]
      rcases (by omega : k = 1 ∨ k = 2 ∨ k = 3) with rfl | rfl | rfl
      · rw [OO_1 hk, decide_eq_false (fun z => by have := sj_lt hw hv (na x).toNatClampNeg; omega)]
      · rw [OO_2 hk]; rfl
      · rw [OO_3 hk]
        rcases c3 rfl with e | e <;> rw [e] <;> rfl
  · obtain ⟨a, b, ha, hb, ea, eb, _⟩ := c4 h4
    have H : Hk post x a b w k (fun g' e' => (vc, mN, mL, nc, lc, dp, pd, vd, ph, pt, de, nk, na, nb, us, lk, lv, le, ju, el, ol, g', e', sn, re, ow, vs, vx, vy, ws, wx, wy)) gv er := by
      intro g' e' hg hf
      refine h g' e' hg fun j hj hv s hs => ?_
      have hA := hd a ha j hj hv
      have hB := hd b hb j hj hv
      have nA := OO_ne hN h32 (fun v => Nat.lt_succ_of_lt (sj_lt hw hv v)) a (by omega)
      have nB := OO_ne hN h32 (fun v => Nat.lt_succ_of_lt (sj_lt hw hv v)) b (by omega)
      rw [hf j s hs, fx_fy h4 h14 hs (by obtain ⟨s, a1, a2⟩ := nA; exact ⟨s, a1, (hA s a1).trans a2⟩) (by obtain ⟨s, a1, a2⟩ := nB; exact ⟨s, a1, (hB s a1).trans a2⟩), OO_4 hk h4 h14 ea eb ha hb (by omega)]
      exact fy_ag hA hB
    refine br_t (nI_lt (a := 3) (by omega) (by omega)) ?_
    rcases (by omega : k = 4 ∨ k = 5 ∨ k = 6 ∨ k = 7 ∨ k = 8 ∨ k = 9 ∨ k = 10 ∨ k = 11 ∨ k = 12 ∨ k = 13 ∨ k = 14) with rfl | rfl | rfl | rfl | rfl | rfl | rfl | rfl | rfl | rfl | rfl
    · exact br_f (by decide) (x_add (by omega) hw hk ea eb ha hb hz rfl H)
    · exact br_f (by decide) (x_less (by omega) hw hk ea eb ha hb hz rfl H)
    · exact br_t (by decide) (br_t rfl (x_not (by omega) hw hk ea eb ha hb hz rfl H))
    · exact br_t (by decide) (br_f (by decide) (br_f (by decide) (x_chain (by omega) hw hk ea eb ha hb (Or.inl rfl) H)))
    · exact br_t (by decide) (br_f (by decide) (br_f (by decide) (x_chain (by omega) hw hk ea eb ha hb (Or.inr rfl) H)))
    · exact br_t (by decide) (br_f (by decide) (br_t (by decide) (br_t rfl (x_pair (by omega) hw hk ea eb ha hb hz rfl H))))
    · exact br_t (by decide) (br_f (by decide) (br_t (by decide) (br_f (by decide) (br_f (by decide) (x_part (by omega) hw hk ea eb ha hb hz (Or.inl rfl) H)))))
    · exact br_t (by decide) (br_f (by decide) (br_t (by decide) (br_f (by decide) (br_f (by decide) (x_part (by omega) hw hk ea eb ha hb hz (Or.inr rfl) H)))))
    · exact br_t (by decide) (br_f (by decide) (br_t (by decide) (br_f (by decide) (br_t (by decide) (x_query (by omega) hw hk ea eb ha hb hz (Or.inl rfl) H)))))
    · exact br_t (by decide) (br_f (by decide) (br_t (by decide) (br_f (by decide) (br_t (by decide) (x_query (by omega) hw hk ea eb ha hb hz (Or.inr (Or.inl rfl)) H)))))
    · exact br_t (by decide) (br_f (by decide) (br_t (by decide) (br_f (by decide) (br_t (by decide) (x_query (by omega) hw hk ea eb ha hb hz (Or.inr (Or.inr rfl)) H)))))
def dn2 (x w y w' : Nat) : Prop := y < x ∨ (y = x ∧ w' < w)
def FI (nk na nb : Nat → Int32) (x w : Nat) (g e : Nat → Int64) : Prop :=
  (∀ y w', w' < 7 → dn2 x w y w' → AO nk na nb g e y w') ∧ (∀ y w', w' < 7 → ¬ dn2 x w y w' → (∀ s, s < 7 → g (y * 49 + s * 7 + w') = 0) ∧ e (y * 7 + w') = 0)
theorem FI_s {nk na nb : Nat → Int32} {x w : Nat} {g e g' e' : Nat → Int64} (hw : w < 7) (h : FI nk na nb x w g e) (hg : Gok g e g' e' x w) (ha : AO nk na nb g' e' x w) : FI nk na nb x (w + 1) g' e' := by
  have same : ∀ y w', w' < 7 → ¬ (y = x ∧ w' = w) → (∀ s, s < 7 → g' (y * 49 + s * 7 + w') = g (y * 49 + s * 7 + w')) ∧ e' (y * 7 + w') = e (y * 7 + w') := fun y w' hw' hne =>
    ⟨fun s hs => hg.1 _ (fun s' hs' => by omega), hg.2 _ (by omega)⟩
  refine ⟨fun y w' hw' hd => ?_, fun y w' hw' hd => ?_⟩
  · by_cases c : y = x ∧ w' = w
    · rw [c.1, c.2]; exact ha
    · obtain ⟨s1, s2⟩ := same y w' hw' c
      have := h.1 y w' hw' (by unfold dn2 at hd ⊢; omega)
      intro j hj hv s hs
      rw [← this j hj hv s hs]
      rcases Nat.lt_or_ge s 7 with h7 | h7
      · rw [AX_s h7, AX_s h7, s1 s h7]
      · obtain rfl : s = 7 := by omega
        rw [AX_7, AX_7, s2]
  · obtain ⟨s1, s2⟩ := same y w' hw' (by unfold dn2 at hd; omega)
    have := h.2 y w' hw' (by unfold dn2 at hd ⊢; omega)
    exact ⟨fun s hs => (s1 s hs).trans (this.1 s hs), s2.trans this.2⟩
theorem FI_n {nk na nb : Nat → Int32} {x : Nat} {g e : Nat → Int64} (h : FI nk na nb x 7 g e) : FI nk na nb (x + 1) 0 g e :=
  ⟨fun y w' hw' hd => h.1 y w' hw' (by unfold dn2 at hd ⊢; omega), fun y w' hw' hd => h.2 y w' hw' (by unfold dn2 at hd ⊢; omega)⟩
theorem x_findOutcomes {post : SX → Prop} {V n : Nat} (hn : nc = nI n) (h32 : n ≤ 32) (hV : V ≤ 3) (hN : ∀ y, y < n → NW V nk na nb y) (hg0 : ∀ i, gv i = 0) (he0 : ∀ i, er i = 0)
    (h : ∀ g e, (∀ y, y < n → ∀ w, w < 7 → AO nk na nb g e y w) → post (vc, mN, mL, nc, lc, dp, pd, vd, ph, pt, de, nk, na, nb, us, lk, lv, le, ju, el, ol, g, e, sn, re, ow, vs, vx, vy, ws, wx, wy)) : wpX_findOutcomes post (vc, mN, mL, nc, lc, dp, pd, vd, ph, pt, de, nk, na, nb, us, lk, lv, le, ju, el, ol, gv, er, sn, re, ow, vs, vx, vy, ws, wx, wy) := by
  refine loop_0 (fun m i (s : (Nat → Int64) × (Nat → Int64)) => wX_findOutcomes_2 post m (nI i) vc mN mL nc lc dp pd vd ph pt de nk na nb us lk lv le ju el ol s.1 s.2 sn re ow vs vx vy ws wx wy) (fun i s => FI nk na nb i 0 s.1 s.2) n (gv, er) ⟨fun y w' _ hd => by unfold dn2 at hd; omega, fun y w' _ _ => ⟨fun s _ => hg0 _, he0 _⟩⟩ ?_ ?_
  · intro m s hs
    exact br_t (by rw [hn]; exact nI_le (Nat.le_refl n) (by omega)) (h s.1 s.2 (fun y hy w hw => hs.1 y w hw (Or.inl hy)))
  · intro m i s hi hs K
    refine br_f (by rw [hn]; exact nI_ge hi (by omega)) ?_
    refine loop_0 (fun m' w (s : (Nat → Int64) × (Nat → Int64)) => wX_findOutcomes_12 post (wX_findOutcomes_2 post m) (nI i) m' (nI w) vc mN mL nc lc dp pd vd ph pt de nk na nb us lk lv le ju el ol s.1 s.2 sn re ow vs vx vy ws wx wy) (fun w s => FI nk na nb i w s.1 s.2) 7 s hs ?_ ?_
    · intro m' s hs
      exact br_t (nI_le (Nat.le_refl 7) (by decide)) (nm_r (nI_1 i) (K s (FI_n hs)))
    · intro m' w s hw hs K2
      have hz := hs.2 i w hw (by unfold dn2; omega)
      exact br_f (nI_ge (b := 7) hw (by decide)) (x_outcome h32 hV hN hi hw (fun y hy => hs.1 y w hw (Or.inl hy)) hz.1 hz.2 (fun g' e' a b => nm_r (nI_1 w) (K2 (g', e') (FI_s hw hs a b))))
end NT11
end
section
section NT12
/-! counting -/
def cn (f : Nat → Bool) : Nat → Nat
  | 0 => 0
  | n + 1 => cn f n + (if f n = true then 1 else 0)
theorem cn_le {f : Nat → Bool} : ∀ n, cn f n ≤ n := by
  intro n
  induction n with
  | zero => exact Nat.le_refl 0
  | succ n ih => show cn f n + (if f n = true then 1 else 0) ≤ n + 1; split <;> omega
theorem cn_mono {f g : Nat → Bool} : ∀ n, (∀ i, i < n → f i = true → g i = true) → cn f n ≤ cn g n := by
  intro n
  induction n with
  | zero => intro _; exact Nat.le_refl 0
  | succ n ih =>
    intro h
    have := ih (fun i hi => h i (by omega))
    show cn f n + (if f n = true then 1 else 0) ≤ cn g n + (if g n = true then 1 else 0)
    by_cases e : f n = true
    · rw [if_pos e, if_pos (h n (by omega) e)]; omega
    · rw [if_neg e]; split <;> omega
theorem cn_lt {f g : Nat → Bool} : ∀ n, (∀ i, i < n → f i = true → g i = true) → (∃ i, i < n ∧ g i = true ∧ f i = false) → cn f n + 1 ≤ cn g n := by
  intro n
  induction n with
  | zero => intro _ ⟨i, hi, _⟩; omega
  | succ n ih =>
    intro h ⟨i, hi, hg, hf⟩
    show cn f n + (if f n = true then 1 else 0) + 1 ≤ cn g n + (if g n = true then 1 else 0)
    by_cases e : i = n
    · subst e
      have := cn_mono (f := f) (g := g) i (fun j hj => h j (by omega))
      rw [if_pos hg, if_neg (by rw [hf]; exact Bool.false_ne_true)]; omega
    · have := ih (fun j hj => h j (by omega)) ⟨i, by omega, hg, hf⟩
      by_cases e2 : f n = true
      · rw [if_pos e2, if_pos (h n (by omega) e2)]; omega
      · rw [if_neg e2]; split <;> omega
theorem cn_add1 {f g : Nat → Bool} {p : Nat} : ∀ n, (∀ i, i < n → f i = true → g i = true ∨ i = p) → cn f n ≤ cn g n + (if p < n then 1 else 0) := by
  intro n
  induction n with
  | zero => intro _; exact Nat.zero_le _
  | succ n ih =>
    intro h
    have := ih (fun i hi => h i (by omega))
    show cn f n + (if f n = true then 1 else 0) ≤ cn g n + (if g n = true then 1 else 0) + (if p < n + 1 then 1 else 0)
    by_cases e : f n = true
    · rw [if_pos e]
      rcases h n (by omega) e with e2 | e2
      · rw [if_pos e2]
        by_cases e3 : p < n
        · rw [if_pos e3] at this; rw [if_pos (by omega)]; omega
        · rw [if_neg e3] at this; split <;> omega
      · subst e2
        rw [if_neg (Nat.lt_irrefl _)] at this
        rw [if_pos (Nat.lt_succ_self n)]; omega
    · rw [if_neg e]
      by_cases e3 : p < n
      · rw [if_pos e3] at this; rw [if_pos (show p < n + 1 by omega)]; split <;> omega
      · rw [if_neg e3] at this; split <;> split <;> omega
theorem cn_pos {f : Nat → Bool} : ∀ n, (∃ i, i < n ∧ f i = true) → 1 ≤ cn f n := by
  intro n h
  have h0 : cn (fun _ => false) n = 0 := by
    clear h
    induction n with
    | zero => rfl
    | succ n ih => show cn (fun _ => false) n + (if false = true then 1 else 0) = 0; rw [ih, if_neg Bool.false_ne_true]
  obtain ⟨i, hi, e⟩ := h
  have := cn_lt (f := fun _ => false) (g := f) n (fun _ _ h => absurd h Bool.false_ne_true) ⟨i, hi, e, rfl⟩
  omega
/-! the least bit put out -/
theorem bt_nI {n i : Nat} (h : n < 2 ^ 32) : bt (nI n) i = n.testBit i := by
  show (BitVec.ofNat 32 n).getLsbD i = n.testBit i
  rw [BitVec.getLsbD_ofNat]
  rcases Nat.lt_or_ge i 32 with hi | hi
  · rw [decide_eq_true hi, Bool.true_and]
  · rw [decide_eq_false (by omega), Bool.false_and]
    exact (Nat.testBit_lt_two_pow (Nat.lt_of_lt_of_le h (Nat.pow_le_pow_right (by decide) hi))).symm
theorem pop_nat {N m : Nat} (h0 : ∀ i, i < m → N.testBit i = false) (hm : N.testBit m = true) (i : Nat) : (N &&& (N - 1)).testBit i = (N.testBit i && decide (¬ i = m)) := by
  have hmod : N % 2 ^ (m + 1) = 2 ^ m := by
    apply Nat.eq_of_testBit_eq
    intro i
    rw [Nat.testBit_mod_two_pow, Nat.testBit_two_pow]
    rcases Nat.lt_trichotomy i m with h | h | h
    · rw [h0 i h, Bool.and_false, decide_eq_false (by omega)]
    · subst h; rw [hm, decide_eq_true (by omega), decide_eq_true rfl]; rfl
    · rw [decide_eq_false (by omega), Bool.false_and, decide_eq_false (by omega)]
  have hN : N = 2 ^ (m + 1) * (N / 2 ^ (m + 1)) + 2 ^ m := by
    have := Nat.div_add_mod N (2 ^ (m + 1))
    rw [hmod] at this; exact this.symm
  have hp : 0 < 2 ^ m := Nat.two_pow_pos m
  have h2 : 2 ^ m < 2 ^ (m + 1) := by rw [Nat.pow_succ]; omega
  generalize N / 2 ^ (m + 1) = y at hN
  have hN1 : N - 1 = 2 ^ (m + 1) * y + (2 ^ m - 1) := by omega
  rw [Nat.testBit_and, hN1, Nat.testBit_two_pow_mul_add y (by omega : 2 ^ m - 1 < 2 ^ (m + 1)) i]
  rcases Nat.lt_trichotomy i m with h | h | h
  · rw [h0 i h, Bool.false_and, Bool.false_and]
  · subst h
    rw [if_pos (by omega), Nat.testBit_two_pow_sub_one, decide_eq_false (Nat.lt_irrefl i), Bool.and_false, decide_eq_false (fun z => z rfl), Bool.and_false]
  · rw [if_neg (by omega), decide_eq_true (show ¬ i = m by omega), Bool.and_true]
    rw [hN, Nat.testBit_two_pow_mul_add y h2 i, if_neg (by omega), Bool.and_self]
theorem pop_bit {x : Int32} {m : Nat} (hm : m < 32) (h0 : ∀ i, i < m → bt x i = false) (h1 : bt x m = true) (i : Nat) : bt (x &&& (x - 1)) i = (bt x i && decide (¬ i = m)) := by
  obtain ⟨N, hN, rfl⟩ := wb_of32 x
  have hb : ∀ i, bt (nI N) i = N.testBit i := fun i => bt_nI hN
  have hpos : 0 < N := by
    rcases Nat.eq_zero_or_pos N with h | h
    · rw [hb, h, Nat.zero_testBit] at h1; exact absurd h1 Bool.false_ne_true
    · exact h
  have e1 : nI N - 1 = nI (N - 1) := by
    obtain ⟨M, rfl⟩ : ∃ M, N = M + 1 := ⟨N - 1, by omega⟩
    exact nI_pred M
  rw [e1, nx_and, bt_nI (Nat.lt_of_le_of_lt Nat.and_le_left hN), hb, pop_nat (fun i hi => by rw [← hb]; exact h0 i hi) (by rw [← hb]; exact h1)]
end NT12
end
section
section NT13
/-! lines and states: who follows whom -/
def LW (V n : Nat) (lk lv le : Nat → Int32) (p : Nat) : Prop := ∃ k, 1 ≤ k ∧ k ≤ 6 ∧ lk p = nI k ∧ (k = 1 → ∃ v, v < V ∧ lv p = nI v) ∧ (∃ e, e < 32 ∧ le p = nI e ∧ (k = 1 ∨ k = 2 ∨ k = 5 → e < n))
def pq (q v s : Nat) : Nat := if v = 0 then q / 7 * 7 + s else if v = 1 then q / 49 * 49 + s * 7 + q % 7 else s * 49 + q % 49
theorem pq_lt {q v s : Nat} (hq : q < 343) (hs : s < 7) : pq q v s < 343 := by
  unfold pq; split
  · omega
  · split <;> omega
theorem pq_0 {q s : Nat} (hs : s < 7) : pq q 0 s / 49 = q / 49 ∧ qj (pq q 0 s) = qj q / 8 * 8 + s := by
  show (q / 7 * 7 + s) / 49 = q / 49 ∧ (q / 7 * 7 + s) / 7 % 7 * 8 + (q / 7 * 7 + s) % 7 = (q / 7 % 7 * 8 + q % 7) / 8 * 8 + s
  omega
theorem pq_1 {q s : Nat} (hs : s < 7) : pq q 1 s / 49 = q / 49 ∧ qj (pq q 1 s) = s * 8 + qj q % 8 := by
  show (q / 49 * 49 + s * 7 + q % 7) / 49 = q / 49 ∧ (q / 49 * 49 + s * 7 + q % 7) / 7 % 7 * 8 + (q / 49 * 49 + s * 7 + q % 7) % 7 = s * 8 + (q / 7 % 7 * 8 + q % 7) % 8
  omega
theorem pq_2 {q s : Nat} : pq q 2 s / 49 = s ∧ qj (pq q 2 s) = qj q := by
  show (s * 49 + q % 49) / 49 = s ∧ (s * 49 + q % 49) / 7 % 7 * 8 + (s * 49 + q % 49) % 7 = q / 7 % 7 * 8 + q % 7
  omega
def Sc (nk na nb lk lv le : Nat → Int32) (l p q p' q' : Nat) : Prop :=
  p < l ∧ ((lk p = 1 ∧ ∃ s, s < 7 ∧ OO nk na nb (shq q) (le p).toNatClampNeg s = true ∧ p' = p + 1 ∧ q' = pq q (lv p).toNatClampNeg s) ∨
    (opk (lk p) = true ∧ q' = q ∧ ((OO nk na nb (shq q) (le p).toNatClampNeg 2 = true ∧ p' = p + 1) ∨ (OO nk na nb (shq q) (le p).toNatClampNeg 1 = true ∧ p' = gl lk l p))) ∨
    (tk (lk p) = 0 ∧ q' = q ∧ p' = gl lk l p))
def Ini (de : Nat → Int32) (q : Nat) : Prop := q < 343 ∧ bt (de 0) (q % 7) = true ∧ bt (de 1) (q / 7 % 7) = true ∧ bt (de 2) (q / 49) = true
def RS (de nk na nb lk lv le : Nat → Int32) (l p q : Nat) : Prop :=
  ∀ S : Nat → Nat → Prop, (∀ q, Ini de q → S 0 q) → (∀ p q p' q', S p q → Sc nk na nb lk lv le l p q p' q' → S p' q') → S p q
theorem RS_i {de nk na nb lk lv le : Nat → Int32} {l q : Nat} (h : Ini de q) : RS de nk na nb lk lv le l 0 q := fun _ a _ => a q h
theorem RS_s {de nk na nb lk lv le : Nat → Int32} {l p q p' q' : Nat} (h : RS de nk na nb lk lv le l p q) (hs : Sc nk na nb lk lv le l p q p' q') : RS de nk na nb lk lv le l p' q' := fun S a b => b p q p' q' (h S a b) hs
theorem Sc_lt {nk na nb lk lv le : Nat → Int32} {l p q p' q' : Nat} (h : Sc nk na nb lk lv le l p q p' q') (hq : q < 343) : q' < 343 ∧ p' ≤ l := by
  obtain ⟨hp, ⟨_, s, hs, _, rfl, rfl⟩ | ⟨_, rfl, ⟨_, rfl⟩ | ⟨_, rfl⟩⟩ | ⟨_, rfl, rfl⟩⟩ := h
  · exact ⟨pq_lt hq hs, hp⟩
  · exact ⟨hq, hp⟩
  · exact ⟨hq, gl_le hp⟩
  · exact ⟨hq, gl_le hp⟩
theorem RS_lt {de nk na nb lk lv le : Nat → Int32} {l p q : Nat} (h : RS de nk na nb lk lv le l p q) : q < 343 ∧ p ≤ l :=
  h (fun p q => q < 343 ∧ p ≤ l) (fun q hq => ⟨hq.1, Nat.zero_le l⟩) (fun _ _ _ _ a b => Sc_lt b a.1)
/-! the component's sets of states -/
def Rc (re : Nat → Int64) (p q : Nat) : Prop := wd (re (p * 7 + q / 49)) (qj q) = true
def VS (S : Nat → Nat → Prop) (re : Nat → Int64) : Prop := ∀ p, p < 17 → ∀ w, w < 7 → ∀ j, j < 64 → wd (re (p * 7 + w)) j = true → vj j ∧ S p (qi w j)
def mu (re : Nat → Int64) (pd : Int32) : Nat := cn (fun k => !wd (re (k / 343 * 7 + k % 343 / 49)) (qj (k % 343))) 5831 + cn (fun p => bt pd p) 17
def Gr (re : Nat → Int64) (pd : Int32) (re' : Nat → Int64) (pd' : Int32) : Prop :=
  (∀ i j, wd (re i) j = true → wd (re' i) j = true) ∧ (∀ p, p < 32 → bt pd p = true → bt pd' p = true) ∧
  (∀ p, p < 17 → bt pd' p = false → ∀ w, w < 7 → re' (p * 7 + w) = re (p * 7 + w)) ∧ mu re' pd' ≤ mu re pd ∧ (∀ i, 17 ≤ i → i < 32 → bt pd i = false → bt pd' i = false)
theorem Gr_rf {re : Nat → Int64} {pd : Int32} : Gr re pd re pd := ⟨fun _ _ h => h, fun _ _ h => h, fun _ _ _ _ _ => rfl, Nat.le_refl _, fun _ _ _ h => h⟩
theorem Gr_tr {a b c : Nat → Int64} {x y z : Int32} (h : Gr a x b y) (g : Gr b y c z) : Gr a x c z := by
  obtain ⟨h1, h2, h3, h4, h5⟩ := h
  obtain ⟨g1, g2, g3, g4, g5⟩ := g
  refine ⟨fun i j e => g1 i j (h1 i j e), fun p hp e => g2 p hp (h2 p hp e), fun p hp e w hw => ?_, Nat.le_trans g4 h4, fun i a b e => g5 i a b (h5 i a b e)⟩
  rw [g3 p hp e w hw]
  exact h3 p hp (bo_nf fun z => by rw [g2 p (by omega) z] at e; exact Bool.false_ne_true e.symm) w hw
/-- an arrival with something new -/
theorem Gr_new {re re' : Nat → Int64} {pd : Int32} {p w : Nat} {W : Int64} (hp : p < 17) (hw : w < 7) (hv : ∀ j, j < 64 → wd W j = true → vj j)
    (h1 : ∀ i, i ≠ p * 7 + w → re' i = re i) (h2 : ∀ j, wd (re' (p * 7 + w)) j = (wd (re (p * 7 + w)) j || wd W j)) (hn : ∃ j, j < 64 ∧ wd W j = true ∧ wd (re (p * 7 + w)) j = false) :
    Gr re pd re' (pd ||| ((1 : Int32) <<< (nI p &&& 31))) := by
  have hb : ∀ i, i < 32 → bt (pd ||| ((1 : Int32) <<< (nI p &&& 31))) i = (bt pd i || decide (i = p)) := fun i hi => by rw [b_or, bt_p p (by omega) hi]
  have mono : ∀ i j, wd (re i) j = true → wd (re' i) j = true := fun i j e => by
    by_cases c : i = p * 7 + w
    · subst c; rw [h2, e]; rfl
    · rw [h1 i c]; exact e
  refine ⟨mono, fun i hi e => by rw [hb i hi, e]; rfl, fun i hi e w' hw' => ?_, ?_, fun i h17 hi e => by rw [hb i hi, e, decide_eq_false (by omega)]; rfl⟩
  · rw [hb i (by omega)] at e
    have : ¬ i = p := fun z => by rw [decide_eq_true z, Bool.or_true] at e; exact Bool.false_ne_true e.symm
    exact h1 _ (by omega)
  · unfold mu
    have c1 : cn (fun k => !wd (re' (k / 343 * 7 + k % 343 / 49)) (qj (k % 343))) 5831 + 1 ≤ cn (fun k => !wd (re (k / 343 * 7 + k % 343 / 49)) (qj (k % 343))) 5831 := by
      refine cn_lt 5831 (fun i _ e => ?_) ?_
      · rw [Bool.not_eq_true'] at e ⊢
        exact bo_nf fun z => by rw [mono _ _ z] at e; exact Bool.false_ne_true e.symm
      · obtain ⟨j, hj, e1, e2⟩ := hn
        have v := hv j hj e1
        have l1 := qi_lt hw v
        have a1 : (p * 343 + qi w j) / 343 = p := by omega
        have a2 : (p * 343 + qi w j) % 343 = qi w j := by omega
        refine ⟨p * 343 + qi w j, by omega, ?_, ?_⟩
        · show (!wd (re ((p * 343 + qi w j) / 343 * 7 + (p * 343 + qi w j) % 343 / 49)) (qj ((p * 343 + qi w j) % 343))) = true
          rw [a1, a2, qi_w v, qi_j v, e2]; rfl
        · show (!wd (re' ((p * 343 + qi w j) / 343 * 7 + (p * 343 + qi w j) % 343 / 49)) (qj ((p * 343 + qi w j) % 343))) = false
          rw [a1, a2, qi_w v, qi_j v, h2, e1, Bool.or_true]; rfl
    have c2 : cn (fun i => bt (pd ||| ((1 : Int32) <<< (nI p &&& 31))) i) 17 ≤ cn (fun i => bt pd i) 17 + (if p < 17 then 1 else 0) :=
      cn_add1 17 (fun i hi e => by
        rw [hb i (by omega)] at e
        rcases bo_or.mp e with e | e
        · exact Or.inl e
        · exact Or.inr (of_decide_eq_true e))
    rw [if_pos hp] at c2
    omega
/-- the lowest pending point put out -/
theorem mu_pop {re : Nat → Int64} {pd : Int32} {m : Nat} (hm : m < 17) (h0 : ∀ i, i < m → bt pd i = false) (h1 : bt pd m = true) : mu re (pd &&& (pd - 1)) + 1 ≤ mu re pd := by
  unfold mu
  have : cn (fun i => bt (pd &&& (pd - 1)) i) 17 + 1 ≤ cn (fun i => bt pd i) 17 := by
    refine cn_lt 17 (fun i _ e => ?_) ⟨m, hm, h1, ?_⟩
    · rw [pop_bit (by omega) h0 h1] at e; exact (bo_and.mp e).1
    · show bt (pd &&& (pd - 1)) m = false
      rw [pop_bit (by omega) h0 h1, decide_eq_false (fun z => z rfl), Bool.and_false]
  omega
theorem mu_le {re : Nat → Int64} (pd : Int32) : mu re pd ≤ 5848 := by
  unfold mu
  have := cn_le (f := fun k => !wd (re (k / 343 * 7 + k % 343 / 49)) (qj (k % 343))) 5831
  have := cn_le (f := fun p => bt pd p) 17
  omega
end NT13
end
section
section NT14
variable {vc mN mL nc lc dp pd vd ph pt nw : Int32} {de nk na nb us lk lv le ju el ol ow vs vx vy ws wx wy du ou ax ay ar dn ga : Nat → Int32} {gv er sn re : Nat → Int64}
theorem x_arrive {post : SX → Prop} {S : Nat → Nat → Prop} {p w : Nat} {W : Int64} (hp : p < 17) (hw : w < 7) (hV : VS S re) (hW : ∀ j, j < 64 → wd W j = true → vj j ∧ S p (qi w j))
    (h : ∀ re' pd', Gr re pd re' pd' → VS S re' → (∀ j, j < 64 → wd W j = true → wd (re' (p * 7 + w)) j = true) → post (vc, mN, mL, nc, lc, dp, pd', vd, ph, pt, de, nk, na, nb, us, lk, lv, le, ju, el, ol, gv, er, sn, re', ow, vs, vx, vy, ws, wx, wy)) : wpX_arrive post (vc, mN, mL, nc, lc, dp, pd, vd, ph, pt, de, nk, na, nb, us, lk, lv, le, ju, el, ol, gv, er, sn, re, ow, vs, vx, vy, ws, wx, wy) (nI p) (nI w) W := by
  have e := na_7 p w
  have hi : vp_in (nI (p * 7 + w)) 119 := vp_in_nI (by omega) (by decide)
  have hc : (nI (p * 7 + w)).toNatClampNeg = p * 7 + w := nI_clamp (by omega)
  refine nm_r e (And.intro hi ?_)
  rw [hc]
  by_cases z : (W &&& (re (p * 7 + w) ^^^ (-1))) = 0
  · refine br_t z (h re pd Gr_rf hV fun j hj hb => ?_)
    have := wd_z.mp z j hj
    rw [wd_and, hb, wd_not _ hj, Bool.true_and] at this
    cases c : wd (re (p * 7 + w)) j
    · rw [c] at this; exact absurd this (by decide)
    · rfl
  · have h2 : ∀ j, wd (vp_updL re (p * 7 + w) (re (p * 7 + w) ||| W) (p * 7 + w)) j = (wd (re (p * 7 + w)) j || wd W j) := fun j => by rw [pk_uLs, wd_or]
    refine br_f z (And.intro hi (And.intro hi (nm_e (nm_e (h _ _ (Gr_new (W := W) hp hw (fun j hj hb => (hW j hj hb).1) (fun i hi => pk_uLn hi) h2 ?_) ?_ fun j hj hb => ?_)))))
    · obtain ⟨j, hj, hb⟩ := wd_nz.mp z
      rw [wd_and, wd_not _ hj] at hb
      obtain ⟨b1, b2⟩ := bo_and.mp hb
      exact ⟨j, hj, b1, by rw [Bool.not_eq_true'] at b2; exact b2⟩
    · intro p' hp' w' hw' j hj hb
      by_cases c : p' * 7 + w' = p * 7 + w
      · rw [c, h2] at hb
        obtain ⟨rfl, rfl⟩ : p' = p ∧ w' = w := by omega
        rcases bo_or.mp hb with hb | hb
        · exact hV p' hp' w' hw' j hj hb
        · exact hW j hj hb
      · rw [pk_uLn c] at hb; exact hV p' hp' w' hw' j hj hb
    · rw [h2, hb, Bool.or_true]
theorem x_moveBits {post : Int64 → Prop} {s : Nat} {W : Int64} (hs : s < 7) (h : ∀ M : Int64, (∀ j, j < 64 → (wd M j = true ↔ j % 8 = s ∧ ∃ i, i < 8 ∧ wd W (j / 8 * 8 + i) = true)) → post M) : wpX_moveBits post (vc, mN, mL, nc, lc, dp, pd, vd, ph, pt, de, nk, na, nb, us, lk, lv, le, ju, el, ol, gv, er, sn, re, ow, vs, vx, vy, ws, wx, wy) W (nI s) := by
  refine nm_e (nm_e (nm_e (h _ fun j hj => ?_)))
  have f : ∀ i, wd (((W ||| ((W.toUInt64 >>> ((4 : Int32).toInt64.toUInt64 &&& Int64.toUInt64 63)).toInt64)) ||| (((W ||| ((W.toUInt64 >>> ((4 : Int32).toInt64.toUInt64 &&& Int64.toUInt64 63)).toInt64)).toUInt64 >>> ((2 : Int32).toInt64.toUInt64 &&& Int64.toUInt64 63)).toInt64)) ||| (((((W ||| ((W.toUInt64 >>> ((4 : Int32).toInt64.toUInt64 &&& Int64.toUInt64 63)).toInt64)) ||| (((W ||| ((W.toUInt64 >>> ((4 : Int32).toInt64.toUInt64 &&& Int64.toUInt64 63)).toInt64)).toUInt64 >>> ((2 : Int32).toInt64.toUInt64 &&& Int64.toUInt64 63)).toInt64))).toUInt64 >>> ((1 : Int32).toInt64.toUInt64 &&& Int64.toUInt64 63)).toInt64)) i = true ↔ ∃ k, k < 8 ∧ wd W (i + k) = true := by
    intro i
    have w4 : ∀ (x : Int64) i, wd ((x.toUInt64 >>> ((4 : Int32).toInt64.toUInt64 &&& Int64.toUInt64 63)).toInt64) i = wd x (4 + i) := wd_ushr 4 (by decide)
    have w2 : ∀ (x : Int64) i, wd ((x.toUInt64 >>> ((2 : Int32).toInt64.toUInt64 &&& Int64.toUInt64 63)).toInt64) i = wd x (2 + i) := wd_ushr 2 (by decide)
    have w1 : ∀ (x : Int64) i, wd ((x.toUInt64 >>> ((1 : Int32).toInt64.toUInt64 &&& Int64.toUInt64 63)).toInt64) i = wd x (1 + i) := wd_ushr 1 (by decide)
    simp only [wd_or, w4, w2, w1, bo_or]
    constructor
    · rintro (((h | h) | (h | h)) | ((h | h) | (h | h)))
      · exact ⟨0, by decide, h⟩
      · exact ⟨4, by decide, by rw [Nat.add_comm]; exact h⟩
      · exact ⟨2, by decide, by rw [Nat.add_comm]; exact h⟩
      · exact ⟨6, by decide, by rw [show i + 6 = 4 + (2 + i) by omega]; exact h⟩
      · exact ⟨1, by decide, by rw [Nat.add_comm]; exact h⟩
      · exact ⟨5, by decide, by rw [show i + 5 = 4 + (1 + i) by omega]; exact h⟩
      · exact ⟨3, by decide, by rw [show i + 3 = 2 + (1 + i) by omega]; exact h⟩
      · exact ⟨7, by decide, by rw [show i + 7 = 4 + (2 + (1 + i)) by omega]; exact h⟩
    · rintro ⟨k, hk, h⟩
      rcases (by omega : k = 0 ∨ k = 1 ∨ k = 2 ∨ k = 3 ∨ k = 4 ∨ k = 5 ∨ k = 6 ∨ k = 7) with rfl | rfl | rfl | rfl | rfl | rfl | rfl | rfl
      · exact Or.inl (Or.inl (Or.inl h))
      · exact Or.inr (Or.inl (Or.inl (by rw [Nat.add_comm]; exact h)))
      · exact Or.inl (Or.inr (Or.inl (by rw [Nat.add_comm]; exact h)))
      · exact Or.inr (Or.inr (Or.inl (by rw [show 2 + (1 + i) = i + 3 by omega]; exact h)))
      · exact Or.inl (Or.inl (Or.inr (by rw [Nat.add_comm]; exact h)))
      · exact Or.inr (Or.inl (Or.inr (by rw [show 4 + (1 + i) = i + 5 by omega]; exact h)))
      · exact Or.inl (Or.inr (Or.inr (by rw [show 4 + (2 + i) = i + 6 by omega]; exact h)))
      · exact Or.inr (Or.inr (Or.inr (by rw [show 4 + (2 + (1 + i)) = i + 7 by omega]; exact h)))
  rw [wd_shl s (by omega) _ hj, wd_and, (by decide +kernel : ∀ i, i < 64 → wd 72340172838076673 i = decide (i % 8 = 0)) (j - s) (by omega), bo_and, bo_and, f (j - s), decide_eq_true_iff, decide_eq_true_iff]
  constructor
  · rintro ⟨a, ⟨k, hk, b⟩, c⟩
    exact ⟨by omega, k, hk, by rw [show j / 8 * 8 + k = j - s + k by omega]; exact b⟩
  · rintro ⟨a, k, hk, b⟩
    exact ⟨by omega, ⟨k, hk, by rw [show j - s + k = j / 8 * 8 + k by omega]; exact b⟩, by omega⟩
theorem x_moveBytes {post : Int64 → Prop} {s : Nat} {W : Int64} (hs : s < 7) (h : ∀ M : Int64, (∀ j, j < 64 → (wd M j = true ↔ j / 8 = s ∧ ∃ i, i < 8 ∧ wd W (i * 8 + j % 8) = true)) → post M) : wpX_moveBytes post (vc, mN, mL, nc, lc, dp, pd, vd, ph, pt, de, nk, na, nb, us, lk, lv, le, ju, el, ol, gv, er, sn, re, ow, vs, vx, vy, ws, wx, wy) W (nI s) := by
  refine nm_e (nm_e (nm_e (h _ fun j hj => ?_)))
  have f : ∀ i, wd (((W ||| ((W.toUInt64 >>> ((32 : Int32).toInt64.toUInt64 &&& Int64.toUInt64 63)).toInt64)) ||| (((W ||| ((W.toUInt64 >>> ((32 : Int32).toInt64.toUInt64 &&& Int64.toUInt64 63)).toInt64)).toUInt64 >>> ((16 : Int32).toInt64.toUInt64 &&& Int64.toUInt64 63)).toInt64)) ||| (((((W ||| ((W.toUInt64 >>> ((32 : Int32).toInt64.toUInt64 &&& Int64.toUInt64 63)).toInt64)) ||| (((W ||| ((W.toUInt64 >>> ((32 : Int32).toInt64.toUInt64 &&& Int64.toUInt64 63)).toInt64)).toUInt64 >>> ((16 : Int32).toInt64.toUInt64 &&& Int64.toUInt64 63)).toInt64))).toUInt64 >>> ((8 : Int32).toInt64.toUInt64 &&& Int64.toUInt64 63)).toInt64)) i = true ↔ ∃ k, k < 8 ∧ wd W (k * 8 + i) = true := by
    intro i
    have w4 : ∀ (x : Int64) i, wd ((x.toUInt64 >>> ((32 : Int32).toInt64.toUInt64 &&& Int64.toUInt64 63)).toInt64) i = wd x (32 + i) := wd_ushr 32 (by decide)
    have w2 : ∀ (x : Int64) i, wd ((x.toUInt64 >>> ((16 : Int32).toInt64.toUInt64 &&& Int64.toUInt64 63)).toInt64) i = wd x (16 + i) := wd_ushr 16 (by decide)
    have w1 : ∀ (x : Int64) i, wd ((x.toUInt64 >>> ((8 : Int32).toInt64.toUInt64 &&& Int64.toUInt64 63)).toInt64) i = wd x (8 + i) := wd_ushr 8 (by decide)
    simp only [wd_or, w4, w2, w1, bo_or]
    constructor
    · rintro (((h | h) | (h | h)) | ((h | h) | (h | h)))
      · exact ⟨0, by decide, by rw [show 0 * 8 + i = i by omega]; exact h⟩
      · exact ⟨4, by decide, h⟩
      · exact ⟨2, by decide, h⟩
      · exact ⟨6, by decide, by rw [show 6 * 8 + i = 32 + (16 + i) by omega]; exact h⟩
      · exact ⟨1, by decide, h⟩
      · exact ⟨5, by decide, by rw [show 5 * 8 + i = 32 + (8 + i) by omega]; exact h⟩
      · exact ⟨3, by decide, by rw [show 3 * 8 + i = 16 + (8 + i) by omega]; exact h⟩
      · exact ⟨7, by decide, by rw [show 7 * 8 + i = 32 + (16 + (8 + i)) by omega]; exact h⟩
    · rintro ⟨k, hk, h⟩
      rcases (by omega : k = 0 ∨ k = 1 ∨ k = 2 ∨ k = 3 ∨ k = 4 ∨ k = 5 ∨ k = 6 ∨ k = 7) with rfl | rfl | rfl | rfl | rfl | rfl | rfl | rfl
      · exact Or.inl (Or.inl (Or.inl (by rw [show 0 * 8 + i = i by omega] at h; exact h)))
      · exact Or.inr (Or.inl (Or.inl h))
      · exact Or.inl (Or.inr (Or.inl h))
      · exact Or.inr (Or.inr (Or.inl (by rw [show 16 + (8 + i) = 3 * 8 + i by omega]; exact h)))
      · exact Or.inl (Or.inl (Or.inr h))
      · exact Or.inr (Or.inl (Or.inr (by rw [show 32 + (8 + i) = 5 * 8 + i by omega]; exact h)))
      · exact Or.inl (Or.inr (Or.inr (by rw [show 32 + (16 + i) = 6 * 8 + i by omega]; exact h)))
      · exact Or.inr (Or.inr (Or.inr (by rw [show 32 + (16 + (8 + i)) = 7 * 8 + i by omega]; exact h)))
  rw [na_8, wd_shl (8 * s) (by omega) _ hj, wd_and, (by decide +kernel : ∀ i, i < 64 → wd 255 i = decide (i < 8)) (j - 8 * s) (by omega), bo_and, bo_and, f (j - 8 * s), decide_eq_true_iff, decide_eq_true_iff]
  constructor
  · rintro ⟨a, ⟨k, hk, b⟩, c⟩
    exact ⟨by omega, k, hk, by rw [show k * 8 + j % 8 = k * 8 + (j - 8 * s) by omega]; exact b⟩
  · rintro ⟨a, k, hk, b⟩
    exact ⟨by omega, ⟨k, hk, by rw [show k * 8 + (j - 8 * s) = k * 8 + j % 8 by omega]; exact b⟩, by omega⟩
end NT14
end
section
section NT15
variable {vc mN mL nc lc dp pd vd ph pt nw : Int32} {de nk na nb us lk lv le ju el ol ow vs vx vy ws wx wy du ou ax ay ar dn ga : Nat → Int32} {gv er sn re : Nat → Int64}
variable {post : SX → Prop} {S : Nat → Nat → Prop} {n l : Nat}
theorem x_arriveE {p w : Nat} {P W : Int32} {D : Int64} (eP : P = nI p) (eW : W = nI w) (hp : p < 17) (hw : w < 7) (hV : VS S re) (hW : ∀ j, j < 64 → wd D j = true → vj j ∧ S p (qi w j))
    (h : ∀ re' pd', Gr re pd re' pd' → VS S re' → (∀ j, j < 64 → wd D j = true → wd (re' (p * 7 + w)) j = true) → post (vc, mN, mL, nc, lc, dp, pd', vd, ph, pt, de, nk, na, nb, us, lk, lv, le, ju, el, ol, gv, er, sn, re', ow, vs, vx, vy, ws, wx, wy)) : wpX_arrive post (vc, mN, mL, nc, lc, dp, pd, vd, ph, pt, de, nk, na, nb, us, lk, lv, le, ju, el, ol, gv, er, sn, re, ow, vs, vx, vy, ws, wx, wy) P W D := by
  subst eP; subst eW; exact x_arrive hp hw hV hW h
theorem gvb {gv er : Nat → Int64} {nk na nb : Nat → Int32} {e w j s : Nat} (hA : ∀ y, y < n → ∀ w, w < 7 → AO nk na nb gv er y w) (he : e < n) (hw : w < 7) (hj : j < 64) (hv : vj j) (hs : s < 7) : wd (gv (e * 49 + s * 7 + w)) j = OO nk na nb (shj w j) e s := by
  have := hA e he w hw j hj hv s (by omega)
  rw [AX_s hs] at this; exact this
theorem gvq {gv er : Nat → Int64} {nk na nb : Nat → Int32} {e q s : Nat} (hA : ∀ y, y < n → ∀ w, w < 7 → AO nk na nb gv er y w) (he : e < n) (hq : q < 343) (hs : s < 7) : wd (gv (e * 49 + s * 7 + q / 49)) (qj q) = OO nk na nb (shq q) e s := by
  rw [gvb hA he (by omega) (qj_64 q) (qj_v q) hs, sh_eq]
theorem pq0_qi {i j s : Nat} (hv : vj j) (hs : s < 7) : pq (qi i j) 0 s = qi i (j / 8 * 8 + s) := by
  unfold vj at hv
  show (i * 49 + j / 8 * 7 + j % 8) / 7 * 7 + s = i * 49 + (j / 8 * 8 + s) / 8 * 7 + (j / 8 * 8 + s) % 8
  omega
theorem pq1_qi {i j s : Nat} (hv : vj j) (hs : s < 7) : pq (qi i j) 1 s = qi i (s * 8 + j % 8) := by
  unfold vj at hv
  show (i * 49 + j / 8 * 7 + j % 8) / 49 * 49 + s * 7 + (i * 49 + j / 8 * 7 + j % 8) % 7 = i * 49 + (s * 8 + j % 8) / 8 * 7 + (s * 8 + j % 8) % 8
  omega
theorem pq2_qi {i j s : Nat} (hv : vj j) : pq (qi i j) 2 s = qi s j := by
  unfold vj at hv
  show s * 49 + (i * 49 + j / 8 * 7 + j % 8) % 49 = s * 49 + j / 8 * 7 + j % 8
  omega
def Cl (S : Nat → Nat → Prop) (nk na nb lk lv le : Nat → Int32) (l : Nat) : Prop := ∀ p q p' q', S p q → Sc nk na nb lk lv le l p q p' q' → S p' q'
theorem x_flowSet {p s v e : Nat} (hp : p < l) (hl : l ≤ 16) (hs : s < 7) (hk : lk p = 1) (hlv : lv p = nI v) (v3 : v < 3) (hle : le p = nI e) (hen : e < n) (hn : n ≤ 32)
    (hA : ∀ y, y < n → ∀ w, w < 7 → AO nk na nb gv er y w) (hS : Cl S nk na nb lk lv le l) (hV : VS S re)
    (h : ∀ re' pd', Gr re pd re' pd' → VS S re' → (∀ q, q < 343 → Rc re p q → OO nk na nb (shq q) e s = true → Rc re' (p + 1) (pq q v s)) → post (vc, mN, mL, nc, lc, dp, pd', vd, ph, pt, de, nk, na, nb, us, lk, lv, le, ju, el, ol, gv, er, sn, re', ow, vs, vx, vy, ws, wx, wy)) : wpX_flowSet post (vc, mN, mL, nc, lc, dp, pd, vd, ph, pt, de, nk, na, nb, us, lk, lv, le, ju, el, ol, gv, er, sn, re, ow, vs, vx, vy, ws, wx, wy) (nI p) (nI s) := by
  have hi : vp_in (nI p) 16 := vp_in_nI (by omega) (by decide)
  have hc : (nI p).toNatClampNeg = p := nI_clamp (by omega)
  have eE : le (nI p).toNatClampNeg = nI e := by rw [hc]; exact hle
  have sound : ∀ i j, i < 7 → j < 64 → S p (qi i j) → vj j → wd (gv (e * 49 + s * 7 + i)) j = true → S (p + 1) (pq (qi i j) v s) := by
    intro i j hi hj a b c
    rw [gvb hA hen hi hj b hs, ← qi_sh b] at c
    exact hS _ _ _ _ a ⟨hp, Or.inl ⟨hk, s, hs, by rw [hle, nI_clamp (by omega)]; exact c, rfl, by rw [hlv, nI_clamp (by omega)]⟩⟩
  refine And.intro hi (nm_r (e' := nI v) (by rw [hc]; exact hlv) ?_)
  refine loop_0 (fun m i (t : Int64 × Int32 × (Nat → Int64)) => wX_flowSet_13 post (nI p) (nI s) (nI v) m t.1 (nI i) vc mN mL nc lc dp t.2.1 vd ph pt de nk na nb us lk lv le ju el ol gv er sn t.2.2 ow vs vx vy ws wx wy)
    (fun i t => Gr re pd t.2.2 t.2.1 ∧ VS S t.2.2 ∧ (v < 2 → ∀ q, q < 343 → q / 49 < i → Rc re p q → OO nk na nb (shq q) e s = true → Rc t.2.2 (p + 1) (pq q v s)) ∧
      (v = 2 → t.2.2 = re ∧ t.2.1 = pd ∧ ∀ j, j < 64 → (wd t.1 j = true ↔ ∃ w, w < i ∧ wd (re (p * 7 + w)) j = true ∧ wd (gv (e * 49 + s * 7 + w)) j = true)))
    7 (0, pd, re) ⟨Gr_rf, hV, fun _ q _ hq => by omega, fun _ => ⟨rfl, rfl, fun j _ => ⟨fun z => by rw [wd_0] at z; exact absurd z Bool.false_ne_true, fun ⟨w, hw, _⟩ => by omega⟩⟩⟩ ?_ ?_
  · rintro m ⟨al, pd1, re1⟩ ⟨g1, g2, g3, g4⟩
    refine br_t (nI_le (Nat.le_refl 7) (by decide)) ?_
    by_cases e2 : v = 2
    · obtain ⟨c1, c2, c3⟩ := g4 e2
      dsimp only at c1 c2 c3 g1 g2
      subst c1; subst c2
      refine br_t (congrArg nI e2) (x_arriveE (nI_1 p) rfl (by omega) hs hV (fun j hj hb => ?_) fun re' pd' a b c => h re' pd' a b fun q hq hr ho => ?_)
      · obtain ⟨w, hw, b1, b2⟩ := (c3 j hj).mp hb
        obtain ⟨d1, d2⟩ := hV p (by omega) w hw j hj b1
        refine ⟨d1, ?_⟩
        have := sound w j hw hj d2 d1 b2
        rw [e2, pq2_qi d1] at this; exact this
      · rw [e2]; unfold Rc
        rw [(pq_2 (q := q) (s := s)).1, (pq_2 (q := q) (s := s)).2]
        exact c _ (qj_64 q) ((c3 _ (qj_64 q)).mpr ⟨q / 49, by omega, hr, by rw [gvq hA hen hq hs]; exact ho⟩)
    · exact br_f (nI_ne (b := 2) e2 (by omega) (by decide)) (h re1 pd1 g1 g2 (fun q hq hr ho => g3 (by omega) q hq (by omega) hr ho))
  · rintro m i ⟨al, pd1, re1⟩ hi7 ⟨g1, g2, g3, g4⟩ K
    dsimp only at g1 g2 g3 g4
    have ep := na_7 p i
    refine br_f (nI_ge (b := 7) hi7 (by decide)) (And.intro (na_in ep (by omega) (by decide)) (And.intro hi (x_outE (x := e) (s := s) (w := i) eE rfl rfl (by omega) hs hi7 (nm_r (e' := re1 (p * 7 + i) &&& gv (e * 49 + s * 7 + i)) (by dsimp only; rw [na_cl ep (by omega)]) ?_))))
    have cov : ∀ q, q < 343 → q / 49 = i → Rc re p q → OO nk na nb (shq q) e s = true → wd (re1 (p * 7 + i) &&& gv (e * 49 + s * 7 + i)) (qj q) = true := fun q hq e1 hr ho => by
      rw [wd_and, bo_and, ← e1]
      exact ⟨g1.1 _ _ hr, by rw [gvq hA hen hq hs]; exact ho⟩
    have snd : ∀ j, j < 64 → wd (re1 (p * 7 + i) &&& gv (e * 49 + s * 7 + i)) j = true → vj j ∧ S (p + 1) (pq (qi i j) v s) := fun j hj hb => by
      rw [wd_and, bo_and] at hb
      obtain ⟨d1, d2⟩ := g2 p (by omega) i hi7 j hj hb.1
      exact ⟨d1, sound i j hi7 hj d2 d1 hb.2⟩
    rcases (by omega : v = 0 ∨ v = 1 ∨ v = 2) with rfl | rfl | rfl
    · refine br_t rfl (x_moveBits hs fun M hM => nm_e (br_f (by decide) (x_arriveE (nI_1 p) rfl (by omega) hi7 g2 (fun j hj hb => ?_) fun re' pd' a b c => nm_r (nI_1 i) (K (_, pd', re') ⟨Gr_tr g1 a, b, fun _ q hq hqi hr ho => ?_, fun z => absurd z (by decide)⟩))))
      · obtain ⟨b1, k, hk8, b2⟩ := (hM j hj).mp hb
        obtain ⟨d1, d2⟩ := snd _ (by omega) b2
        rw [pq0_qi d1 hs, show (j / 8 * 8 + k) / 8 * 8 + s = j by omega] at d2
        refine ⟨?_, d2⟩
        unfold vj at d1 ⊢; omega
      · by_cases e1 : q / 49 = i
        · unfold Rc
          dsimp only
          rw [(pq_0 (q := q) hs).1, (pq_0 (q := q) hs).2, e1]
          have := qj_64 q
          have v1 := qj_v q
          unfold vj at v1
          refine c _ (by omega) ((hM _ (by omega)).mpr ⟨by omega, qj q % 8, by omega, ?_⟩)
          rw [show (qj q / 8 * 8 + s) / 8 * 8 + qj q % 8 = qj q by omega]
          exact cov q hq e1 hr ho
        · exact a.1 _ _ (g3 (by decide) q hq (by omega) hr ho)
    · refine br_f (by decide) (x_moveBytes hs fun M hM => nm_e (br_f (by decide) (x_arriveE (nI_1 p) rfl (by omega) hi7 g2 (fun j hj hb => ?_) fun re' pd' a b c => nm_r (nI_1 i) (K (_, pd', re') ⟨Gr_tr g1 a, b, fun _ q hq hqi hr ho => ?_, fun z => absurd z (by decide)⟩))))
      · obtain ⟨b1, k, hk8, b2⟩ := (hM j hj).mp hb
        obtain ⟨d1, d2⟩ := snd _ (by omega) b2
        rw [pq1_qi d1 hs, show s * 8 + (k * 8 + j % 8) % 8 = j by omega] at d2
        refine ⟨?_, d2⟩
        unfold vj at d1 ⊢; omega
      · by_cases e1 : q / 49 = i
        · unfold Rc
          dsimp only
          rw [(pq_1 (q := q) hs).1, (pq_1 (q := q) hs).2, e1]
          have := qj_64 q
          have v1 := qj_v q
          unfold vj at v1
          refine c _ (by omega) ((hM _ (by omega)).mpr ⟨by omega, qj q / 8, by omega, ?_⟩)
          rw [show qj q / 8 * 8 + (s * 8 + qj q % 8) % 8 = qj q by omega]
          exact cov q hq e1 hr ho
        · exact a.1 _ _ (g3 (by decide) q hq (by omega) hr ho)
    · obtain ⟨c1, c2, c3⟩ := g4 rfl
      subst c1; subst c2
      refine br_f (by decide) (x_moveBytes hs fun M hM => nm_e (br_t (by decide) (nm_r (nI_1 i) (K (_, pd1, re1) ⟨g1, g2, fun z => absurd z (by decide), fun _ => ⟨rfl, rfl, fun j hj => ?_⟩⟩))))
      dsimp only
      rw [wd_or, bo_or, c3 j hj, wd_and, bo_and]
      constructor
      · rintro (⟨w, hw, z⟩ | z)
        · exact ⟨w, by omega, z⟩
        · exact ⟨i, by omega, z⟩
      · rintro ⟨w, hw, z⟩
        by_cases e1 : w = i
        · subst e1; exact Or.inr z
        · exact Or.inl ⟨w, by omega, z⟩
end NT15
end
section
section NT16
variable {vc mN mL nc lc dp pd vd ph pt nw : Int32} {de nk na nb us lk lv le ju el ol ow vs vx vy ws wx wy du ou ax ay ar dn ga : Nat → Int32} {gv er sn re : Nat → Int64}
variable {post : SX → Prop} {S : Nat → Nat → Prop} {V n l : Nat}
theorem tk_1 {k : Nat} (h6 : k ≤ 6) (h : k = 1 ∨ k = 2 ∨ k = 5) : tk (nI k) = 1 := by
  rcases h with rfl | rfl | rfl <;> decide
theorem tk_0 {k : Nat} (h1 : 1 ≤ k) (h6 : k ≤ 6) (h : ¬ (k = 1 ∨ k = 2 ∨ k = 5)) : tk (nI k) = 0 := by
  rcases (by omega : k = 3 ∨ k = 4 ∨ k = 6) with rfl | rfl | rfl <;> decide
theorem opk_25 {k : Nat} (h : k = 2 ∨ k = 5) : opk (nI k) = true := by
  rcases h with rfl | rfl <;> decide
theorem opk_of {k : Nat} (h1 : 1 ≤ k) (h6 : k ≤ 6) (h : opk (nI k) = true) : k = 2 ∨ k = 5 := by
  rcases (by omega : k = 1 ∨ k = 2 ∨ k = 3 ∨ k = 4 ∨ k = 5 ∨ k = 6) with rfl | rfl | rfl | rfl | rfl | rfl
  · exact absurd h (by decide)
  · exact Or.inl rfl
  · exact absurd h (by decide)
  · exact absurd h (by decide)
  · exact Or.inr rfl
  · exact absurd h (by decide)
theorem gl_I {lc : Int32} {lk ju : Nat → Int32} {p : Nat} (hlc : lc = nI l) (hj : ju p = nI (gJ lk l p)) : (if lk p = 6 then lc else ju p) = nI (gl lk l p) := by
  unfold gl; split
  · exact hlc
  · exact hj
theorem x_flowLine {p : Nat} (hp : p < l) (hl : l ≤ 16) (hn : n ≤ 32) (hV3 : V ≤ 3) (hlc : lc = nI l) (hj : ju p = nI (gJ lk l p)) (hL : LW V n lk lv le p)
    (hA : ∀ y, y < n → ∀ w, w < 7 → AO nk na nb gv er y w) (hS : Cl S nk na nb lk lv le l) (hV : VS S re)
    (h : ∀ re' pd', Gr re pd re' pd' → VS S re' → (∀ q, q < 343 → Rc re p q → ∀ p' q', Sc nk na nb lk lv le l p q p' q' → Rc re' p' q') → post (vc, mN, mL, nc, lc, dp, pd', vd, ph, pt, de, nk, na, nb, us, lk, lv, le, ju, el, ol, gv, er, sn, re', ow, vs, vx, vy, ws, wx, wy)) : wpX_flowLine post (vc, mN, mL, nc, lc, dp, pd, vd, ph, pt, de, nk, na, nb, us, lk, lv, le, ju, el, ol, gv, er, sn, re, ow, vs, vx, vy, ws, wx, wy) (nI p) := by
  have hi : vp_in (nI p) 16 := vp_in_nI (by omega) (by decide)
  have hc : (nI p).toNatClampNeg = p := nI_clamp (by omega)
  obtain ⟨k, k1, k6, hk, hv, e, e32, he, hen⟩ := hL
  have eK : lk (nI p).toNatClampNeg = nI k := by rw [hc]; exact hk
  have eE : le (nI p).toNatClampNeg = nI e := by rw [hc]; exact he
  have hcl : (le p).toNatClampNeg = e := by rw [he, nI_clamp (by omega)]
  have gle := gl_le (K := lk) hp
  unfold wpX_flowLine
  refine x_target (by omega) ?_
  rw [gl_I hlc hj]
  refine And.intro hi ?_
  by_cases k1' : k = 1
  · subst k1'
    obtain ⟨v, hvV, hlv⟩ := hv rfl
    have hcv : (lv p).toNatClampNeg = v := by rw [hlv, nI_clamp (by omega)]
    refine br_t eK ?_
    refine loop_0 (fun m i (t : Int32 × (Nat → Int64)) => wX_flowLine_18 post (nI p) m (nI i) vc mN mL nc lc dp t.1 vd ph pt de nk na nb us lk lv le ju el ol gv er sn t.2 ow vs vx vy ws wx wy)
      (fun i t => Gr re pd t.2 t.1 ∧ VS S t.2 ∧ ∀ s, s < i → ∀ q, q < 343 → Rc re p q → OO nk na nb (shq q) e s = true → Rc t.2 (p + 1) (pq q v s)) 7 (pd, re) ⟨Gr_rf, hV, fun s hs => absurd hs (Nat.not_lt_zero s)⟩ ?_ ?_
    · rintro m ⟨pd1, re1⟩ ⟨g1, g2, g3⟩
      refine br_t (nI_le (Nat.le_refl 7) (by decide)) (h re1 pd1 g1 g2 fun q hq hr p' q' hs => ?_)
      obtain ⟨_, ⟨_, s, hs, ho, rfl, rfl⟩ | ⟨a, _⟩ | ⟨a, _⟩⟩ := hs
      · rw [hcl] at ho; rw [hcv]; exact g3 s hs q hq hr ho
      · rw [hk] at a; exact absurd a (by decide)
      · rw [hk] at a; exact absurd a (by decide)
    · rintro m i ⟨pd1, re1⟩ hi7 ⟨g1, g2, g3⟩ K
      refine br_f (nI_ge (b := 7) hi7 (by decide)) (x_flowSet hp hl hi7 hk hlv (by omega) he (hen (Or.inl rfl)) hn hA hS g2 fun re' pd' a b c => nm_r (nI_1 i) (K (pd', re') ⟨Gr_tr g1 a, b, fun s hs q hq hr ho => ?_⟩))
      by_cases e1 : s = i
      · subst e1; exact c q hq (g1.1 _ _ hr) ho
      · exact a.1 _ _ (g3 s (by omega) q hq hr ho)
  · refine br_f (by rw [eK]; exact nI_ne (b := 1) k1' (by omega) (by decide)) (And.intro hi (x_takesNode ?_))
    rw [eK]
    by_cases kt : k = 2 ∨ k = 5
    · have hen' := hen (by omega)
      have hop : opk (lk p) = true := by rw [hk]; exact opk_25 kt
      rw [tk_1 k6 (by omega)]
      refine loop_0 (fun m i (t : Int32 × (Nat → Int64)) => wX_flowLine_51 post (nI p) (nI (gl lk l p)) 1 m (nI i) vc mN mL nc lc dp t.1 vd ph pt de nk na nb us lk lv le ju el ol gv er sn t.2 ow vs vx vy ws wx wy)
        (fun i t => Gr re pd t.2 t.1 ∧ VS S t.2 ∧ ∀ q, q < 343 → q / 49 < i → Rc re p q → (OO nk na nb (shq q) e 2 = true → Rc t.2 (p + 1) q) ∧ (OO nk na nb (shq q) e 1 = true → Rc t.2 (gl lk l p) q)) 7 (pd, re) ⟨Gr_rf, hV, fun q _ hq => absurd hq (Nat.not_lt_zero _)⟩ ?_ ?_
      · rintro m ⟨pd1, re1⟩ ⟨g1, g2, g3⟩
        refine br_t (nI_le (Nat.le_refl 7) (by decide)) (h re1 pd1 g1 g2 fun q hq hr p' q' hs => ?_)
        obtain ⟨_, ⟨a, _⟩ | ⟨_, rfl, ⟨ho, rfl⟩ | ⟨ho, rfl⟩⟩ | ⟨a, _⟩⟩ := hs
        · rw [hk] at a; exact absurd a (nI_ne (b := 1) k1' (by omega) (by decide))
        · rw [hcl] at ho; exact (g3 _ hq (by omega) hr).1 ho
        · rw [hcl] at ho; exact (g3 _ hq (by omega) hr).2 ho
        · rw [hk, tk_1 k6 (by omega)] at a; exact absurd a (by decide)
      · rintro m i ⟨pd1, re1⟩ hi7 ⟨g1, g2, g3⟩ K
        dsimp only at g1 g2 g3
        have ep := na_7 p i
        have snd : ∀ s p', s < 7 → (∀ q, OO nk na nb (shq q) e s = true → Sc nk na nb lk lv le l p q p' q) → ∀ j, j < 64 → wd (re1 (p * 7 + i) &&& gv (e * 49 + s * 7 + i)) j = true → vj j ∧ S p' (qi i j) := by
          intro s p' hs hsc j hj hb
          rw [wd_and, bo_and] at hb
          obtain ⟨d1, d2⟩ := g2 p (by omega) i hi7 j hj hb.1
          refine ⟨d1, hS _ _ _ _ d2 (hsc _ ?_)⟩
          rw [qi_sh d1, ← gvb hA hen' hi7 hj d1 hs]; exact hb.2
        refine br_f (nI_ge (b := 7) hi7 (by decide)) (And.intro (na_in ep (by omega) (by decide)) (nm_r (e' := re1 (p * 7 + i)) (by dsimp only; rw [na_cl ep (by omega)]) (And.intro hi (x_outE (x := e) (s := 2) (w := i) eE rfl rfl (by omega) (by decide) hi7 (nm_e (And.intro hi (x_outE (x := e) (s := 1) (w := i) eE rfl rfl (by omega) (by decide) hi7 (nm_e (br_f (by decide) ?_)))))))))
        refine x_arriveE (nI_1 p) rfl (by omega) hi7 g2 (snd 2 (p + 1) (by decide) (fun q ho => ⟨hp, Or.inr (Or.inl ⟨hop, rfl, Or.inl ⟨by rw [hcl]; exact ho, rfl⟩⟩)⟩)) fun re2 pd2 a2 b2 c2 => br_f (by decide) ?_
        unfold wX_flowLine_138
        refine x_arriveE rfl rfl (by omega) hi7 b2 (snd 1 _ (by decide) (fun q ho => ⟨hp, Or.inr (Or.inl ⟨hop, rfl, Or.inr ⟨by rw [hcl]; exact ho, rfl⟩⟩)⟩)) fun re3 pd3 a3 b3 c3 => nm_r (nI_1 i) (K (pd3, re3) ⟨Gr_tr g1 (Gr_tr a2 a3), b3, fun q hq hqi hr => ?_⟩)
        by_cases e1 : q / 49 = i
        · have hb : ∀ s, s < 7 → OO nk na nb (shq q) e s = true → wd (re1 (p * 7 + i) &&& gv (e * 49 + s * 7 + i)) (qj q) = true := fun s hs ho => by
            rw [wd_and, bo_and, ← e1]
            exact ⟨g1.1 _ _ hr, by rw [gvq hA hen' hq hs]; exact ho⟩
          refine ⟨fun ho => a3.1 _ _ ?_, fun ho => ?_⟩
          · rw [e1]; exact c2 _ (qj_64 q) (hb 2 (by decide) ho)
          · unfold Rc; dsimp only; rw [e1]; exact c3 _ (qj_64 q) (hb 1 (by decide) ho)
        · obtain ⟨x1, x2⟩ := g3 q hq (by omega) hr
          exact ⟨fun ho => a3.1 _ _ (a2.1 _ _ (x1 ho)), fun ho => a3.1 _ _ (a2.1 _ _ (x2 ho))⟩
    · rw [tk_0 k1 k6 (by omega)]
      have htk : tk (lk p) = 0 := by rw [hk]; exact tk_0 k1 k6 (by omega)
      refine loop_0 (fun m i (t : Int32 × (Nat → Int64)) => wX_flowLine_51 post (nI p) (nI (gl lk l p)) 0 m (nI i) vc mN mL nc lc dp t.1 vd ph pt de nk na nb us lk lv le ju el ol gv er sn t.2 ow vs vx vy ws wx wy)
        (fun i t => Gr re pd t.2 t.1 ∧ VS S t.2 ∧ ∀ q, q < 343 → q / 49 < i → Rc re p q → Rc t.2 (gl lk l p) q) 7 (pd, re) ⟨Gr_rf, hV, fun q _ hq => absurd hq (Nat.not_lt_zero _)⟩ ?_ ?_
      · rintro m ⟨pd1, re1⟩ ⟨g1, g2, g3⟩
        refine br_t (nI_le (Nat.le_refl 7) (by decide)) (h re1 pd1 g1 g2 fun q hq hr p' q' hs => ?_)
        obtain ⟨_, ⟨a, _⟩ | ⟨a, _⟩ | ⟨_, rfl, rfl⟩⟩ := hs
        · rw [hk] at a; exact absurd a (nI_ne (b := 1) k1' (by omega) (by decide))
        · rw [hk] at a; exact absurd (opk_of k1 k6 a) kt
        · exact g3 _ hq (by omega) hr
      · rintro m i ⟨pd1, re1⟩ hi7 ⟨g1, g2, g3⟩ K
        dsimp only at g1 g2 g3
        have ep := na_7 p i
        refine br_f (nI_ge (b := 7) hi7 (by decide)) (And.intro (na_in ep (by omega) (by decide)) (nm_r (e' := re1 (p * 7 + i)) (by dsimp only; rw [na_cl ep (by omega)]) (And.intro hi (x_outE (x := e) (s := 2) (w := i) eE rfl rfl e32 (by decide) hi7 (nm_e (And.intro hi (x_outE (x := e) (s := 1) (w := i) eE rfl rfl e32 (by decide) hi7 (nm_e (br_t rfl (br_t rfl ?_))))))))))
        unfold wX_flowLine_138
        refine x_arriveE rfl rfl (by omega) hi7 g2 (fun j hj hb => ?_) fun re3 pd3 a3 b3 c3 => nm_r (nI_1 i) (K (pd3, re3) ⟨Gr_tr g1 a3, b3, fun q hq hqi hr => ?_⟩)
        · obtain ⟨d1, d2⟩ := g2 p (by omega) i hi7 j hj hb
          exact ⟨d1, hS _ _ _ _ d2 ⟨hp, Or.inr (Or.inr ⟨htk, rfl, rfl⟩)⟩⟩
        · by_cases e1 : q / 49 = i
          · unfold Rc; dsimp only; rw [e1]
            exact c3 _ (qj_64 q) (by have := g1.1 _ _ hr; rw [e1] at this; exact this)
          · exact a3.1 _ _ (g3 q hq (by omega) hr)
def DC (de : Nat → Int32) : Prop := ∀ v, v < 3 → ∃ m, 1 ≤ m ∧ m < 128 ∧ de v = nI m
theorem DC_b {de : Nat → Int32} {v i : Nat} (h : DC de) (hv : v < 3) (hi : i < 32) (hb : bt (de v) i = true) : i < 7 := by
  obtain ⟨m, _, hm, e⟩ := h v hv
  rw [e] at hb
  rcases Nat.lt_or_ge i 7 with h | h
  · exact h
  · rw [bt_dec m hm i hi h] at hb; exact absurd hb Bool.false_ne_true
theorem x_seedStart (hd : DC de) (hS : ∀ q, Ini de q → S 0 q) (hV : VS S re)
    (h : ∀ re' pd', Gr re pd re' pd' → VS S re' → (∀ q, Ini de q → Rc re' 0 q) → post (vc, mN, mL, nc, lc, dp, pd', vd, ph, pt, de, nk, na, nb, us, lk, lv, le, ju, el, ol, gv, er, sn, re', ow, vs, vx, vy, ws, wx, wy)) : wpX_seedStart post (vc, mN, mL, nc, lc, dp, pd, vd, ph, pt, de, nk, na, nb, us, lk, lv, le, ju, el, ol, gv, er, sn, re, ow, vs, vx, vy, ws, wx, wy) := by
  refine loop_0 (fun m i (W : Int64) => wX_seedStart_4 post vc mN mL nc lc dp pd vd ph pt de nk na nb us lk lv le ju el ol gv er sn re ow vs vx vy ws wx wy m W (nI i)) (fun i W => ∀ j, j < 64 → (wd W j = true ↔ j / 8 < i ∧ bt (de 1) (j / 8) = true ∧ bt (de 0) (j % 8) = true)) 7 0 (fun j _ => ⟨fun z => by rw [wd_0] at z; exact absurd z Bool.false_ne_true, fun z => absurd z.1 (Nat.not_lt_zero _)⟩) ?_ ?_
  · intro m W hW
    refine br_t (nI_le (Nat.le_refl 7) (by decide)) ?_
    have ok : ∀ w, w < 7 → bt (de 2) w = true → ∀ j, j < 64 → wd W j = true → vj j ∧ S 0 (qi w j) := fun w hw h2 j hj hb => by
      obtain ⟨a, b, c⟩ := (hW j hj).mp hb
      have d := DC_b hd (by decide) (by omega) c
      have v : vj j := ⟨d, a⟩
      refine ⟨v, hS _ ⟨qi_lt hw v, ?_, ?_, ?_⟩⟩
      · have : qi w j % 7 = j % 8 := by unfold qi; omega
        rw [this]; exact c
      · have : qi w j / 7 % 7 = j / 8 := by unfold qi; omega
        rw [this]; exact b
      · rw [qi_w v]; exact h2
    refine loop_0 (fun m i (t : Int32 × (Nat → Int64)) => wX_seedStart_46 post W m (nI i) vc mN mL nc lc dp t.1 vd ph pt de nk na nb us lk lv le ju el ol gv er sn t.2 ow vs vx vy ws wx wy) (fun i t => Gr re pd t.2 t.1 ∧ VS S t.2 ∧ ∀ q, q / 49 < i → Ini de q → Rc t.2 0 q) 7 (pd, re) ⟨Gr_rf, hV, fun q hq => absurd hq (Nat.not_lt_zero _)⟩ ?_ ?_
    · rintro m ⟨pd1, re1⟩ ⟨g1, g2, g3⟩
      exact br_t (nI_le (Nat.le_refl 7) (by decide)) (h re1 pd1 g1 g2 (fun q hq => g3 q (by have := hq.1; omega) hq))
    · rintro m i ⟨pd1, re1⟩ hi7 ⟨g1, g2, g3⟩ K
      dsimp only at g1 g2 g3
      refine br_f (nI_ge (b := 7) hi7 (by decide)) ?_
      by_cases hb : bt (de 2) i = true
      · refine br_f (fun z => by rw [(bt_s0z (by omega)).mp z] at hb; exact Bool.false_ne_true hb) (x_arriveE (p := 0) rfl rfl (by decide) hi7 g2 (ok i hi7 hb) fun re' pd' a b c => nm_r (nI_1 i) (K (pd', re') ⟨Gr_tr g1 a, b, fun q hqi hq => ?_⟩))
        by_cases e1 : q / 49 = i
        · unfold Rc; dsimp only; rw [e1]
          have v1 := qj_v q
          unfold vj at v1
          refine c _ (qj_64 q) ((hW _ (qj_64 q)).mpr ⟨v1.2, ?_, ?_⟩)
          · have : qj q / 8 = q / 7 % 7 := by unfold qj; omega
            rw [this]; exact hq.2.2.1
          · have : qj q % 8 = q % 7 := by unfold qj; omega
            rw [this]; exact hq.2.1
        · exact a.1 _ _ (g3 q (by omega) hq)
      · refine br_t ((bt_s0z (by omega)).mpr (bo_nf hb)) (nm_r (nI_1 i) (K (pd1, re1) ⟨g1, g2, fun q hqi hq => ?_⟩))
        by_cases e1 : q / 49 = i
        · rw [← e1] at hb; exact absurd hq.2.2.2 hb
        · exact g3 q (by omega) hq
  · intro m i W hi7 hW K
    refine br_f (nI_ge (b := 7) hi7 (by decide)) ?_
    by_cases hb : bt (de 1) i = true
    · refine br_f (fun z => by rw [(bt_s0z (by omega)).mp z] at hb; exact Bool.false_ne_true hb) (nm_e (nm_r (nI_1 i) (K _ fun j hj => ?_)))
      obtain ⟨d, _, hd128, ed⟩ := hd 0 (by decide)
      rw [wd_or, bo_or, hW j hj, na_8, wd_shl (8 * i) (by omega) _ hj, ed, wd_dec d hd128 _ (by omega), bo_and, decide_eq_true_iff]
      constructor
      · rintro (⟨a, b, c⟩ | ⟨a, b⟩)
        · exact ⟨by omega, b, c⟩
        · have : j - 8 * i < 7 := by
            rcases Nat.lt_or_ge (j - 8 * i) 7 with z | z
            · exact z
            · rcases Nat.lt_or_ge (j - 8 * i) 32 with z2 | z2
              · rw [bt_dec d hd128 _ z2 z] at b; exact absurd b Bool.false_ne_true
              · rw [b_big z2] at b; exact absurd b Bool.false_ne_true
          have e1 : j / 8 = i := by omega
          have e2 : j % 8 = j - 8 * i := by omega
          exact ⟨by omega, by rw [e1]; exact hb, by rw [e2]; exact b⟩
      · rintro ⟨a, b, c⟩
        by_cases e1 : j / 8 = i
        · have e2 : j % 8 = j - 8 * i := by omega
          exact Or.inr ⟨by omega, by rw [← e2]; exact c⟩
        · exact Or.inl ⟨by omega, b, c⟩
    · refine br_t ((bt_s0z (by omega)).mpr (bo_nf hb)) (nm_r (nI_1 i) (K W fun j hj => ?_))
      rw [hW j hj]
      constructor
      · rintro ⟨a, b, c⟩; exact ⟨by omega, b, c⟩
      · rintro ⟨a, b, c⟩
        by_cases e1 : j / 8 = i
        · rw [e1] at b; exact absurd b hb
        · exact ⟨by omega, b, c⟩
end NT16
end
section
section NT17
variable {vc mN mL nc lc dp pd vd ph pt nw : Int32} {de nk na nb us lk lv le ju el ol ow vs vx vy ws wx wy du ou ax ay ar dn ga : Nat → Int32} {gv er sn re : Nat → Int64}
variable {post : SX → Prop} {V n l : Nat}
theorem bt_any {x : Int32} {m : Nat} (h : ¬ x = 0) (h0 : ∀ i, i < m → bt x i = false) (h17 : ∀ i, m < i → i < 32 → bt x i = false) : bt x m = true := by
  obtain ⟨i, hi, e⟩ := b_nz.mp h
  rcases Nat.lt_trichotomy i m with z | z | z
  · rw [h0 i z] at e; exact absurd e Bool.false_ne_true
  · subst z; exact e
  · rw [h17 i z hi] at e; exact absurd e Bool.false_ne_true
theorem x_flow (hd : DC de) (hl : l ≤ 16) (hn : n ≤ 32) (hV3 : V ≤ 3) (hlc : lc = nI l) (hj : ∀ p, p < l → ju p = nI (gJ lk l p)) (hL : ∀ p, p < l → LW V n lk lv le p)
    (hA : ∀ y, y < n → ∀ w, w < 7 → AO nk na nb gv er y w) (hr0 : ∀ i, re i = 0) (hp0 : pd = 0)
    (h : ∀ re', (∀ p, p < 17 → ∀ w, w < 7 → ∀ j, j < 64 → (wd (re' (p * 7 + w)) j = true ↔ vj j ∧ RS de nk na nb lk lv le l p (qi w j))) → post (vc, mN, mL, nc, lc, dp, 0, vd, ph, pt, de, nk, na, nb, us, lk, lv, le, ju, el, ol, gv, er, sn, re', ow, vs, vx, vy, ws, wx, wy)) : wpX_flow post (vc, mN, mL, nc, lc, dp, pd, vd, ph, pt, de, nk, na, nb, us, lk, lv, le, ju, el, ol, gv, er, sn, re, ow, vs, vx, vy, ws, wx, wy) := by
  have hS : Cl (RS de nk na nb lk lv le l) nk na nb lk lv le l := fun _ _ _ _ a b => RS_s a b
  have hV0 : VS (RS de nk na nb lk lv le l) re := fun p _ w _ j _ e => by rw [hr0, wd_0] at e; exact absurd e Bool.false_ne_true
  unfold wpX_flow
  refine x_seedStart hd (fun q hq => RS_i hq) hV0 fun re0 pd0 a0 b0 c0 => ?_
  refine loop_m (fun m (t : Nat × Int32 × (Nat → Int64)) => wX_flow_6 post m (nI t.1) vc mN mL nc lc dp t.2.1 vd ph pt de nk na nb us lk lv le ju el ol gv er sn t.2.2 ow vs vx vy ws wx wy)
    (fun t => t.1 + mu t.2.2 t.2.1 ≤ 5848 ∧ VS (RS de nk na nb lk lv le l) t.2.2 ∧ (∀ q, Ini de q → Rc t.2.2 0 q) ∧ (∀ i, 17 ≤ i → i < 32 → bt t.2.1 i = false) ∧
      (∀ p, p < l → bt t.2.1 p = false → ∀ q, q < 343 → Rc t.2.2 p q → ∀ p' q', Sc nk na nb lk lv le l p q p' q' → Rc t.2.2 p' q'))
    (fun t => mu t.2.2 t.2.1) ?_ (0, pd0, re0) ⟨by have := mu_le (re := re0) pd0; dsimp only; omega, b0, c0, fun i h1 h2 => a0.2.2.2.2 i h1 h2 (by rw [hp0, b_0]), fun p hp hb q hq hr => ?_⟩
  · rintro m ⟨i, pd1, re1⟩ ⟨g1, g2, g3, g4, g5⟩ K
    dsimp only at g1 g2 g3 g4 g5 K ⊢
    refine br_f (nI_ge (b := 6000) (by omega) (by decide)) ?_
    by_cases z : pd1 = 0
    · refine br_t z ?_
      rw [z]
      refine h re1 fun p hp w hw j hj => ⟨g2 p hp w hw j hj, fun ⟨v, hr⟩ => ?_⟩
      have := hr (fun p q => Rc re1 p q ∧ q < 343) (fun q hq => ⟨g3 q hq, hq.1⟩) (fun p q p' q' a b => ⟨g5 p b.1 (by rw [z, b_0]) q a.2 a.1 p' q' b, (Sc_lt b a.2).1⟩)
      have := this.1
      unfold Rc at this
      rw [qi_w v, qi_j v] at this; exact this
    · refine br_f z (x_leastBit (e := 16) (by decide) fun k hk hk0 hk1 => nm_e ?_)
      have hkb : bt pd1 k = true := by
        by_cases e : k = 16
        · subst e; exact bt_any z hk0 (fun i a b => g4 i (by omega) b)
        · exact hk1 (by omega)
      have hpop := fun i => pop_bit (i := i) (by omega) hk0 hkb
      have hmu := mu_pop (re := re1) (by omega) hk0 hkb
      have g4' : ∀ i, 17 ≤ i → i < 32 → bt (pd1 &&& (pd1 - 1)) i = false := fun i a b => by rw [hpop, g4 i a b, Bool.false_and]
      by_cases hkl : k < l
      · refine br_f (by rw [hlc]; exact nI_ge hkl (by omega)) (x_flowLine hkl hl hn hV3 hlc (hj k hkl) (hL k hkl) hA hS g2 fun re' pd' a b c => nm_r (nI_1 i) (K (i + 1, pd', re') ⟨?_, b, fun q hq => a.1 _ _ (g3 q hq), fun j c1 c2 => a.2.2.2.2 j c1 c2 (g4' j c1 c2), fun p hp hb q hq hr p' q' hs => ?_⟩ ?_))
        · have := a.2.2.2.1; dsimp only; omega
        · dsimp only at hb hr ⊢
          have hb1 : bt (pd1 &&& (pd1 - 1)) p = false := bo_nf fun z => by rw [a.2.1 p (by omega) z] at hb; exact Bool.false_ne_true hb.symm
          have hr1 : Rc re1 p q := by unfold Rc at hr ⊢; rw [a.2.2.1 p (by omega) hb (q / 49) (by omega)] at hr; exact hr
          by_cases e : p = k
          · subst e; exact c q hq hr1 p' q' hs
          · rw [hpop, decide_eq_true e, Bool.and_true] at hb1
            exact a.1 _ _ (g5 p hp hb1 q hq hr1 p' q' hs)
        · have := a.2.2.2.1; dsimp only; omega
      · refine br_t (by rw [hlc]; exact nI_le (by omega) (by omega)) (nm_r (nI_1 i) (K (i + 1, pd1 &&& (pd1 - 1), re1) ⟨by dsimp only; omega, g2, g3, g4', fun p hp hb q hq hr p' q' hs => ?_⟩ (by dsimp only; omega)))
        dsimp only at hb hr ⊢
        rw [hpop, decide_eq_true (by omega), Bool.and_true] at hb
        exact g5 p hp hb q hq hr p' q' hs
  · dsimp only at hb hr
    unfold Rc at hr
    rw [a0.2.2.1 p (by omega) hb (q / 49) (by omega), hr0, wd_0] at hr
    exact absurd hr Bool.false_ne_true
end NT17
end
section
section NT18
variable {vc mN mL nc lc dp pd vd ph pt nw : Int32} {de nk na nb us lk lv le ju el ol ow vs vx vy ws wx wy du ou ax ay ar dn ga : Nat → Int32} {gv er sn re : Nat → Int64}
variable {post : SX → Prop} {V n l : Nat}
/-- every node has one user at most -/
def PU (n l : Nat) (nk na nb us lk le : Nat → Int32) (par : Nat → Nat) : Prop :=
  (∀ x k, x < n → nk x = nI k → 4 ≤ k → k ≤ 14 → par (na x).toNatClampNeg = 2 * x ∧ ¬ us (na x).toNatClampNeg = 0 ∧ (bN k → par (nb x).toNatClampNeg = 2 * x + 1 ∧ ¬ us (nb x).toNatClampNeg = 0)) ∧
  (∀ p, p < l → tk (lk p) = 1 → par (le p).toNatClampNeg = 64 + p ∧ ¬ us (le p).toNatClampNeg = 0)
def slo (k : Nat) : Nat := if k = 7 then 2 else if k = 8 then 1 else 0
def scn (k : Nat) : Nat := if k = 7 then 1 else if k = 8 then 1 else 7
theorem bn_b {k : Nat} (h : bN k) : bn (nI k) = 1 := by rcases h with rfl | rfl | rfl | rfl | rfl <;> decide
theorem bn_nb {k : Nat} (h14 : k ≤ 14) (h : ¬ bN k) : bn (nI k) = 0 := by
  unfold bN at h
  rcases (by omega : k = 0 ∨ k = 1 ∨ k = 2 ∨ k = 3 ∨ k = 6 ∨ k = 10 ∨ k = 11 ∨ k = 12 ∨ k = 13 ∨ k = 14) with rfl | rfl | rfl | rfl | rfl | rfl | rfl | rfl | rfl | rfl <;> decide
theorem x_seeRoot {p e : Nat} (hp : p < 16) (he : e < 32) (h : ∀ sn', (∀ w, w < 7 → sn' (e * 7 + w) = re (p * 7 + w)) → (∀ z w, z ≠ e → w < 7 → sn' (z * 7 + w) = sn (z * 7 + w)) → post (vc, mN, mL, nc, lc, dp, pd, vd, ph, pt, de, nk, na, nb, us, lk, lv, le, ju, el, ol, gv, er, sn', re, upd ow e (nI p), vs, vx, vy, ws, wx, wy)) : wpX_seeRoot post (vc, mN, mL, nc, lc, dp, pd, vd, ph, pt, de, nk, na, nb, us, lk, lv, le, ju, el, ol, gv, er, sn, re, ow, vs, vx, vy, ws, wx, wy) (nI p) (nI e) := by
  refine And.intro (vp_in_nI he (by decide)) (nm_r (e' := upd ow e (nI p)) (by rw [nI_clamp (by omega)]) ?_)
  refine loop_0 (fun m i (s : Nat → Int64) => wX_seeRoot_9 post (nI p) (nI e) vc mN mL nc lc dp pd vd ph pt m (nI i) de nk na nb us lk lv le ju el ol gv er s re (upd ow e (nI p)) vs vx vy ws wx wy) (fun i s => (∀ w, w < i → s (e * 7 + w) = re (p * 7 + w)) ∧ (∀ z w, z ≠ e → w < 7 → s (z * 7 + w) = sn (z * 7 + w))) 7 sn ⟨fun w hw => absurd hw (Nat.not_lt_zero w), fun z w _ _ => rfl⟩ ?_ ?_
  · rintro m s ⟨a, b⟩
    exact br_t (nI_le (Nat.le_refl 7) (by decide)) (h s a b)
  · rintro m i s hi ⟨a, b⟩ K
    have e1 := na_7 p i
    have e2 := na_7 e i
    refine br_f (nI_ge (b := 7) hi (by decide)) (And.intro (na_in e1 (by omega) (by decide)) (And.intro (na_in e2 (by omega) (by decide)) (nm_r (e' := vp_updL s (e * 7 + i) (re (p * 7 + i))) (by rw [na_cl e1 (by omega), na_cl e2 (by omega)]) (nm_r (nI_1 i) (K _ ⟨fun w hw => ?_, fun z w hz hw => ?_⟩)))))
    · by_cases c : w = i
      · subst c; exact pk_uLs
      · rw [pk_uLn (by omega)]; exact a w (by omega)
    · rw [pk_uLn (by omega)]; exact b z w hz hw
def SO (gv : Nat → Int64) (k x a b : Nat) (ow : Nat → Int32) (sn : Nat → Int64) (ow' : Nat → Int32) (sn' : Nat → Int64) : Prop :=
  ow' a = ow x ∧ (bN k → ow' b = ow x) ∧ (∀ z, z ≠ a → (bN k → z ≠ b) → ow' z = ow z) ∧
  (∀ w, w < 7 → sn' (a * 7 + w) = sn (x * 7 + w)) ∧ (bN k → ∀ w, w < 7 → sn' (b * 7 + w) = (sn (x * 7 + w) &&& aw gv a w (slo k) (scn k))) ∧
  (∀ z w, w < 7 → z ≠ a → (bN k → z ≠ b) → sn' (z * 7 + w) = sn (z * 7 + w))
theorem x_see88 {x a b k : Nat} {R L Hh : Int32} (hx : x < 32) (hax : a < x) (hbx : b < x) (hab : bN k → a ≠ b) (hR : bN k → R = 1) (hR0 : ¬ bN k → R = 0) (eL : L = nI (slo k)) (eH : Hh = nI (slo k + scn k) - 1) (h7 : slo k + scn k ≤ 7)
    (h : ∀ ow' sn', SO gv k x a b ow sn ow' sn' → post (vc, mN, mL, nc, lc, dp, pd, vd, ph, pt, de, nk, na, nb, us, lk, lv, le, ju, el, ol, gv, er, sn', re, ow', vs, vx, vy, ws, wx, wy)) : wX_seeOperands_88 post (nI x) (nI a) (nI b) R L Hh vc mN mL nc lc dp pd vd ph pt de nk na nb us lk lv le ju el ol gv er sn re ow vs vx vy ws wx wy := by
  have hcx : (nI x).toNatClampNeg = x := nI_clamp (by omega)
  have hca : (nI a).toNatClampNeg = a := nI_clamp (by omega)
  have hcb : (nI b).toNatClampNeg = b := nI_clamp (by omega)
  refine And.intro (vp_in_nI hx (by decide)) (And.intro (vp_in_nI (by omega) (by decide)) (nm_r (e' := upd ow a (ow x)) (by rw [hcx, hca]) ?_))
  by_cases hb : bN k
  · obtain rfl := hR hb
    have hab' := hab hb
    refine br_f (by decide) (And.intro (vp_in_nI hx (by decide)) (And.intro (vp_in_nI (by omega) (by decide)) (nm_r (e' := upd (upd ow a (ow x)) b (ow x)) (by rw [hcx, hcb, pk_un (show x ≠ a by omega)]) ?_)))
    refine loop_0 (fun m i (s : Nat → Int64) => wX_seeOperands_122 post (nI x) (nI a) (nI b) 1 L Hh vc mN mL nc lc dp pd vd ph pt m (nI i) de nk na nb us lk lv le ju el ol gv er s re (upd (upd ow a (ow x)) b (ow x)) vs vx vy ws wx wy)
      (fun i s => (∀ w, w < i → s (a * 7 + w) = sn (x * 7 + w) ∧ s (b * 7 + w) = (sn (x * 7 + w) &&& aw gv a w (slo k) (scn k))) ∧ (∀ z w, w < 7 → z ≠ a → z ≠ b → s (z * 7 + w) = sn (z * 7 + w))) 7 sn ⟨fun w hw => absurd hw (Nat.not_lt_zero w), fun z w _ _ _ => rfl⟩ ?_ ?_
    · rintro m s ⟨c, d⟩
      refine br_t (nI_le (Nat.le_refl 7) (by decide)) (h _ s ⟨?_, fun _ => pk_us, fun z z1 z2 => ?_, fun w hw => (c w hw).1, fun _ w hw => (c w hw).2, fun z w hw z1 z2 => d z w hw z1 (z2 hb)⟩)
      · rw [pk_un hab', pk_us]
      · rw [pk_un (z2 hb), pk_un z1]
    · rintro m i s hi ⟨c, d⟩ K
      have ex := na_7 x i
      have ea := na_7 a i
      have eb := na_7 b i
      refine br_f (nI_ge (b := 7) hi (by decide)) (And.intro (na_in ex (by omega) (by decide)) (And.intro (na_in ea (by omega) (by decide)) (nm_r (e' := vp_updL s (a * 7 + i) (s (x * 7 + i))) (by rw [na_cl ex (by omega), na_cl ea (by omega)]) (br_f (by decide) (And.intro (na_in ex (by omega) (by decide)) (x_anyE (x := a) (l := slo k) (c := scn k) (w := i) rfl eL rfl (by omega) hi h7 eH (And.intro (na_in eb (by omega) (by decide)) (nm_r (e' := vp_updL (vp_updL s (a * 7 + i) (s (x * 7 + i))) (b * 7 + i) (s (x * 7 + i) &&& aw gv a i (slo k) (scn k))) (by rw [na_cl ex (by omega), na_cl eb (by omega), pk_uLn (show x * 7 + i ≠ a * 7 + i by omega)]) (nm_r (nI_1 i) (K _ ⟨fun w hw => ?_, fun z w hw z1 z2 => ?_⟩))))))))))
      · have hs : s (x * 7 + i) = sn (x * 7 + i) := d x i hi (by omega) (by omega)
        by_cases cw : w = i
        · subst cw
          exact ⟨by rw [pk_uLn (by omega), pk_uLs, hs], by rw [pk_uLs, hs]⟩
        · rw [pk_uLn (by omega), pk_uLn (by omega), pk_uLn (by omega), pk_uLn (by omega)]
          exact c w (by omega)
      · rw [pk_uLn (by omega), pk_uLn (by omega)]; exact d z w hw z1 z2
  · obtain rfl := hR0 hb
    refine br_t rfl ?_
    refine loop_0 (fun m i (s : Nat → Int64) => wX_seeOperands_122 post (nI x) (nI a) (nI b) 0 L Hh vc mN mL nc lc dp pd vd ph pt m (nI i) de nk na nb us lk lv le ju el ol gv er s re (upd ow a (ow x)) vs vx vy ws wx wy)
      (fun i s => (∀ w, w < i → s (a * 7 + w) = sn (x * 7 + w)) ∧ (∀ z w, w < 7 → z ≠ a → s (z * 7 + w) = sn (z * 7 + w))) 7 sn ⟨fun w hw => absurd hw (Nat.not_lt_zero w), fun z w _ _ => rfl⟩ ?_ ?_
    · rintro m s ⟨c, d⟩
      exact br_t (nI_le (Nat.le_refl 7) (by decide)) (h _ s ⟨pk_us, fun z => absurd z hb, fun z z1 _ => pk_un z1, c, fun z => absurd z hb, fun z w hw z1 _ => d z w hw z1⟩)
    · rintro m i s hi ⟨c, d⟩ K
      have ex := na_7 x i
      have ea := na_7 a i
      refine br_f (nI_ge (b := 7) hi (by decide)) (And.intro (na_in ex (by omega) (by decide)) (And.intro (na_in ea (by omega) (by decide)) (nm_r (e' := vp_updL s (a * 7 + i) (s (x * 7 + i))) (by rw [na_cl ex (by omega), na_cl ea (by omega)]) (br_t rfl (nm_r (nI_1 i) (K _ ⟨fun w hw => ?_, fun z w hw z1 => ?_⟩))))))
      · by_cases cw : w = i
        · subst cw; rw [pk_uLs]; exact d x w hi (by omega)
        · rw [pk_uLn (by omega)]; exact c w (by omega)
      · rw [pk_uLn (by omega)]; exact d z w hw z1
theorem x_seeOperands {x a b k : Nat} (hx : x < 32) (hk : nk x = nI k) (h4 : 4 ≤ k) (h14 : k ≤ 14) (ha : na x = nI a) (hb : nb x = nI b) (hax : a < x) (hbx : b < x) (hab : bN k → a ≠ b)
    (h : ∀ ow' sn', SO gv k x a b ow sn ow' sn' → post (vc, mN, mL, nc, lc, dp, pd, vd, ph, pt, de, nk, na, nb, us, lk, lv, le, ju, el, ol, gv, er, sn', re, ow', vs, vx, vy, ws, wx, wy)) : wpX_seeOperands post (vc, mN, mL, nc, lc, dp, pd, vd, ph, pt, de, nk, na, nb, us, lk, lv, le, ju, el, ol, gv, er, sn, re, ow, vs, vx, vy, ws, wx, wy) (nI x) := by
  have hi : vp_in (nI x) 32 := vp_in_nI hx (by decide)
  have hc : (nI x).toNatClampNeg = x := nI_clamp (by omega)
  have eK : nk (nI x).toNatClampNeg = nI k := by rw [hc]; exact hk
  refine And.intro hi (nm_r (e' := nI a) (by rw [hc]; exact ha) (And.intro hi (nm_r (e' := nI b) (by rw [hc]; exact hb) (And.intro hi (x_isBinary (And.intro hi ?_))))))
  have hR : bN k → bn (nk (nI x).toNatClampNeg) = 1 := fun z => by rw [eK]; exact bn_b z
  have hR0 : ¬ bN k → bn (nk (nI x).toNatClampNeg) = 0 := fun z => by rw [eK]; exact bn_nb h14 z
  by_cases k7 : k = 7
  · subst k7
    refine br_t eK (And.intro hi (br_t eK ?_))
    unfold wX_seeOperands_81
    exact x_see88 hx hax hbx hab hR hR0 rfl (by decide) (by decide) h
  · by_cases k8 : k = 8
    · subst k8
      refine br_f (by rw [eK]; decide) (And.intro hi (br_t eK (And.intro hi (br_f (by rw [eK]; decide) (And.intro hi (br_t eK ?_))))))
      unfold wX_seeOperands_81
      exact x_see88 hx hax hbx hab hR hR0 rfl (by decide) (by decide) h
    · have n7 : ¬ nk (nI x).toNatClampNeg = 7 := by rw [eK]; exact nI_ne (b := 7) k7 (by omega) (by decide)
      have n8 : ¬ nk (nI x).toNatClampNeg = 8 := by rw [eK]; exact nI_ne (b := 8) k8 (by omega) (by decide)
      have e1 : slo k = 0 := by unfold slo; rw [if_neg k7, if_neg k8]
      have e2 : scn k = 7 := by unfold scn; rw [if_neg k7, if_neg k8]
      refine br_f n7 (And.intro hi (br_f n8 (And.intro hi (br_f n7 (And.intro hi (br_f n8 ?_))))))
      exact x_see88 hx hax hbx hab hR hR0 (by rw [e1]; rfl) (by rw [e1, e2]; decide) (by omega) h
end NT18
end
section
section NT19
variable {vc mN mL nc lc dp pd vd ph pt nw : Int32} {de nk na nb us lk lv le ju el ol ow vs vx vy ws wx wy du ou ax ay ar dn ga : Nat → Int32} {gv er sn re : Nat → Int64}
variable {post : SX → Prop} {V n l : Nat}
def Fa1 (l : Nat) (lk le : Nat → Int32) (re : Nat → Int64) (ow : Nat → Int32) (sn : Nat → Int64) : Prop :=
  ∀ p, p < l → tk (lk p) = 1 → ow (le p).toNatClampNeg = nI p ∧ ∀ w, w < 7 → sn ((le p).toNatClampNeg * 7 + w) = re (p * 7 + w)
def Fa2 (gv : Nat → Int64) (nk na nb ow : Nat → Int32) (sn : Nat → Int64) (x : Nat) : Prop :=
  ∀ k, nk x = nI k → 4 ≤ k → k ≤ 14 → ow (na x).toNatClampNeg = ow x ∧ (∀ w, w < 7 → sn ((na x).toNatClampNeg * 7 + w) = sn (x * 7 + w)) ∧
    (bN k → ow (nb x).toNatClampNeg = ow x ∧ ∀ w, w < 7 → sn ((nb x).toNatClampNeg * 7 + w) = (sn (x * 7 + w) &&& aw gv (na x).toNatClampNeg w (slo k) (scn k)))
def Un (ow : Nat → Int32) (sn : Nat → Int64) (z : Nat) : Prop := ow z = -1 ∧ ∀ w, w < 7 → sn (z * 7 + w) = 0
def Fz (nk na nb ow : Nat → Int32) (sn : Nat → Int64) (x : Nat) : Prop :=
  ∀ k, nk x = nI k → 4 ≤ k → k ≤ 14 → Un ow sn (na x).toNatClampNeg ∧ (bN k → Un ow sn (nb x).toNatClampNeg)
def Pr (nk na nb : Nat → Int32) (z y : Nat) : Prop := ∃ k, nk y = nI k ∧ 4 ≤ k ∧ k ≤ 14 ∧ z < y ∧ ((na y).toNatClampNeg = z ∨ (bN k ∧ (nb y).toNatClampNeg = z))
def Hd (n l : Nat) (nk na nb lk le : Nat → Int32) (re : Nat → Int64) (ow : Nat → Int32) (sn : Nat → Int64) (z p : Nat) : Prop :=
  p < l ∧ tk (lk p) = 1 ∧ ow z = nI p ∧ z ≤ (le p).toNatClampNeg ∧ (∀ w, w < 7 → ∀ j, wd (sn (z * 7 + w)) j = true → wd (re (p * 7 + w)) j = true) ∧
    (z = (le p).toNatClampNeg ∨ ∃ y, y < n ∧ y ≤ (le p).toNatClampNeg ∧ ow y = nI p ∧ Pr nk na nb z y)
def Fa3 (n l : Nat) (nk na nb lk le : Nat → Int32) (re : Nat → Int64) (ow : Nat → Int32) (sn : Nat → Int64) : Prop :=
  ∀ z, z < n → Un ow sn z ∨ ∃ p, Hd n l nk na nb lk le re ow sn z p
def FI2 (n l : Nat) (gv : Nat → Int64) (nk na nb lk le : Nat → Int32) (re : Nat → Int64) (i : Nat) (ow : Nat → Int32) (sn : Nat → Int64) : Prop :=
  Fa1 l lk le re ow sn ∧ (∀ x, i ≤ x → x < n → Fa2 gv nk na nb ow sn x) ∧ (∀ x, x < i → Fz nk na nb ow sn x) ∧ Fa3 n l nk na nb lk le re ow sn ∧ i ≤ n
theorem Un_neg {ow : Nat → Int32} {sn : Nat → Int64} {z : Nat} {l p : Nat} (hl : l ≤ 16) (h : ow z = nI p) (hp : p < l) : ¬ ow z < 0 ∧ ¬ ow z = -1 := by
  rw [h]; exact ⟨nI_pos (by omega), na_ne1 (by omega)⟩
theorem FI2_n {gv : Nat → Int64} {nk na nb lk le : Nat → Int32} {re : Nat → Int64} {i : Nat} {ow : Nat → Int32} {sn : Nat → Int64} (hl : l ≤ 16) (h : FI2 n l gv nk na nb lk le re (i + 1) ow sn) (hn : ow i < 0) : FI2 n l gv nk na nb lk le re i ow sn := by
  obtain ⟨h1, h2, h3, h4, h5⟩ := h
  refine ⟨h1, fun x a b => ?_, fun x a => h3 x (by omega), h4, by omega⟩
  by_cases e : x = i
  · subst e
    have u : Un ow sn x := by
      rcases h4 x b with u | ⟨p, q⟩
      · exact u
      · exact absurd hn (Un_neg (sn := sn) hl q.2.2.1 q.1).1
    intro k hk k4 k14
    obtain ⟨ua, ub⟩ := h3 x (by omega) k hk k4 k14
    refine ⟨ua.1.trans u.1.symm, fun w hw => (ua.2 w hw).trans (u.2 w hw).symm, fun hb => ⟨(ub hb).1.trans u.1.symm, fun w hw => ?_⟩⟩
    rw [(ub hb).2 w hw, u.2 w hw]
    apply wd_ext; intro j _; rw [wd_and, wd_0, Bool.false_and]
  · exact h2 x (by omega) b
theorem FI2_l {gv : Nat → Int64} {nk na nb lk le : Nat → Int32} {re : Nat → Int64} {i k : Nat} {ow : Nat → Int32} {sn : Nat → Int64} (h : FI2 n l gv nk na nb lk le re (i + 1) ow sn) (hk : nk i = nI k) (h4 : k < 4) : FI2 n l gv nk na nb lk le re i ow sn := by
  obtain ⟨h1, h2, h3, h4', h5⟩ := h
  refine ⟨h1, fun x a b => ?_, fun x a => h3 x (by omega), h4', by omega⟩
  by_cases e : x = i
  · subst e
    intro k' hk' k4 k14
    rw [hk] at hk'
    have := na_inj hk' (by omega) (by omega)
    omega
  · exact h2 x (by omega) b
theorem FI2_s {gv : Nat → Int64} {nk na nb us lk le : Nat → Int32} {re : Nat → Int64} {i k a b : Nat} {ow ow' : Nat → Int32} {sn sn' : Nat → Int64} {par : Nat → Nat} (hl : l ≤ 16) (hn : n ≤ 32) (hP : PU n l nk na nb us lk le par)
    (h : FI2 n l gv nk na nb lk le re (i + 1) ow sn) (hN : ∀ y, y < n → NW V nk na nb y) (hk : nk i = nI k) (k4 : 4 ≤ k) (k14 : k ≤ 14) (ha : (na i).toNatClampNeg = a) (hb : (nb i).toNatClampNeg = b) (hai : a < i) (hbi : b < i) (ho : ¬ ow i < 0) (hs : SO gv k i a b ow sn ow' sn') : FI2 n l gv nk na nb lk le re i ow' sn' := by
  obtain ⟨h1, h2, h3, h4, h5⟩ := h
  obtain ⟨s1, s2, s3, s4, s5, s6⟩ := hs
  obtain ⟨p1, p2⟩ := hP
  obtain ⟨pa, _, pb⟩ := p1 i k (by omega) hk k4 k14
  rw [ha] at pa
  rw [hb] at pb
  have keep : ∀ z, par z ≠ 2 * i → par z ≠ 2 * i + 1 → ow' z = ow z ∧ ∀ w, w < 7 → sn' (z * 7 + w) = sn (z * 7 + w) := fun z z1 z2 => by
    have c1 : z ≠ a := fun e => z1 (by rw [e]; exact pa)
    have c2 : bN k → z ≠ b := fun hb e => z2 (by rw [e]; exact (pb hb).1)
    exact ⟨s3 z c1 c2, fun w hw => s6 z w hw c1 c2⟩
  have up : ∀ z, i ≤ z → ow' z = ow z ∧ ∀ w, w < 7 → sn' (z * 7 + w) = sn (z * 7 + w) := fun z hz =>
    ⟨s3 z (by omega) (fun _ => by omega), fun w hw => s6 z w hw (by omega) (fun _ => by omega)⟩
  obtain ⟨ua, ub⟩ := h3 i (by omega) k hk k4 k14
  rw [ha] at ua
  rw [hb] at ub
  obtain ⟨p, hp⟩ : ∃ p, Hd n l nk na nb lk le re ow sn i p := by
    rcases h4 i (by omega) with u | q
    · rw [u.1] at ho; exact absurd (by decide) ho
    · exact q
  obtain ⟨hpl, hpt, hpo, hple, hpr, hpx⟩ := hp
  refine ⟨fun q hq ht => ?_, fun x c d => ?_, fun x c => ?_, fun z hz => ?_, by omega⟩
  · have pq := (p2 q hq ht).1
    obtain ⟨k1, k2⟩ := keep (le q).toNatClampNeg (by omega) (by omega)
    obtain ⟨r1, r2⟩ := h1 q hq ht
    exact ⟨k1.trans r1, fun w hw => (k2 w hw).trans (r2 w hw)⟩
  · obtain ⟨x1, x2⟩ := up x c
    by_cases e : x = i
    · subst e
      intro k' hk' k4' k14'
      rw [hk] at hk'
      have := na_inj hk' (by omega) (by omega)
      subst this
      rw [ha, hb]
      exact ⟨s1.trans x1.symm, fun w hw => (s4 w hw).trans (x2 w hw).symm, fun hbk => ⟨(s2 hbk).trans x1.symm, fun w hw => by rw [s5 hbk w hw, x2 w hw]⟩⟩
    · intro k' hk' k4' k14'
      obtain ⟨q1, _, q3⟩ := p1 x k' d hk' k4' k14'
      obtain ⟨a1, a2⟩ := keep (na x).toNatClampNeg (by omega) (by omega)
      obtain ⟨f1, f2, f3⟩ := h2 x (by omega) d k' hk' k4' k14'
      refine ⟨by rw [a1, x1]; exact f1, fun w hw => by rw [a2 w hw, x2 w hw]; exact f2 w hw, fun hbk => ?_⟩
      obtain ⟨b1, b2⟩ := keep (nb x).toNatClampNeg (by have := (q3 hbk).1; omega) (by have := (q3 hbk).1; omega)
      exact ⟨by rw [b1, x1]; exact (f3 hbk).1, fun w hw => by rw [b2 w hw, x2 w hw]; exact (f3 hbk).2 w hw⟩
  · intro k' hk' k4' k14'
    obtain ⟨q1, _, q3⟩ := p1 x k' (by omega) hk' k4' k14'
    obtain ⟨a1, a2⟩ := keep (na x).toNatClampNeg (by omega) (by omega)
    obtain ⟨f1, f3⟩ := h3 x (by omega) k' hk' k4' k14'
    refine ⟨⟨a1.trans f1.1, fun w hw => (a2 w hw).trans (f1.2 w hw)⟩, fun hbk => ?_⟩
    obtain ⟨b1, b2⟩ := keep (nb x).toNatClampNeg (by have := (q3 hbk).1; omega) (by have := (q3 hbk).1; omega)
    exact ⟨b1.trans (f3 hbk).1, fun w hw => (b2 w hw).trans ((f3 hbk).2 w hw)⟩
  · have hoi := (up i (Nat.le_refl i)).1
    by_cases ea : z = a
    · subst ea
      refine Or.inr ⟨p, hpl, hpt, by rw [s1]; exact hpo, by omega, fun w hw j hj => ?_, Or.inr ⟨i, by omega, hple, by rw [hoi]; exact hpo, k, hk, k4, k14, hai, Or.inl ha⟩⟩
      rw [s4 w hw] at hj; exact hpr w hw j hj
    · by_cases eb : bN k ∧ z = b
      · obtain ⟨hbk, rfl⟩ := eb
        refine Or.inr ⟨p, hpl, hpt, by rw [s2 hbk]; exact hpo, by omega, fun w hw j hj => ?_, Or.inr ⟨i, by omega, hple, by rw [hoi]; exact hpo, k, hk, k4, k14, hbi, Or.inr ⟨hbk, hb⟩⟩⟩
        rw [s5 hbk w hw, wd_and] at hj; exact hpr w hw j (bo_and.mp hj).1
      · have cb : bN k → z ≠ b := fun hbk e => eb ⟨hbk, e⟩
        have zo := s3 z ea cb
        have zs := fun w hw => s6 z w hw ea cb
        rcases h4 z hz with u | ⟨p', r1, r2, r3, r4, r5, r6⟩
        · exact Or.inl ⟨zo.trans u.1, fun w hw => (zs w hw).trans (u.2 w hw)⟩
        · refine Or.inr ⟨p', r1, r2, zo.trans r3, r4, fun w hw j hj => r5 w hw j (by rw [← zs w hw]; exact hj), ?_⟩
          rcases r6 with r6 | ⟨y, y1, y2, y3, y4⟩
          · exact Or.inl r6
          · refine Or.inr ⟨y, y1, y2, ?_, y4⟩
            have yn := (Un_neg (sn := sn) hl y3 r1).2
            rw [s3 y (fun e => yn (by rw [e]; exact ua.1)) (fun hbk e => yn (by rw [e]; exact (ub hbk).1))]
            exact y3
theorem na_mm1 (x : Int32) : x + (-1) = x - 1 := (Int32.sub_eq_add_neg x 1).symm
theorem nJ_neg : (nI 0 - 1 : Int32) < 0 := by decide
theorem x_seeRootE {p e : Nat} {E : Int32} (eE : E = nI e) (hp : p < 16) (he : e < 32) (h : ∀ sn', (∀ w, w < 7 → sn' (e * 7 + w) = re (p * 7 + w)) → (∀ z w, z ≠ e → w < 7 → sn' (z * 7 + w) = sn (z * 7 + w)) → post (vc, mN, mL, nc, lc, dp, pd, vd, ph, pt, de, nk, na, nb, us, lk, lv, le, ju, el, ol, gv, er, sn', re, upd ow e (nI p), vs, vx, vy, ws, wx, wy)) : wpX_seeRoot post (vc, mN, mL, nc, lc, dp, pd, vd, ph, pt, de, nk, na, nb, us, lk, lv, le, ju, el, ol, gv, er, sn, re, ow, vs, vx, vy, ws, wx, wy) (nI p) E := by
  subst eE; exact x_seeRoot hp he h
theorem x_findSeen {par : Nat → Nat} (hnc : nc = nI n) (hn : n ≤ 32) (hlc : lc = nI l) (hl : l ≤ 16) (hN : ∀ y, y < n → NW V nk na nb y) (hL : ∀ p, p < l → LW V n lk lv le p) (hP : PU n l nk na nb us lk le par)
    (hao : ∀ z, z < 32 → ow z = -1) (hs0 : ∀ i, sn i = 0)
    (h : ∀ ow' sn', Fa1 l lk le re ow' sn' → (∀ x, x < n → Fa2 gv nk na nb ow' sn' x) → Fa3 n l nk na nb lk le re ow' sn' → post (vc, mN, mL, nc, lc, dp, pd, vd, ph, pt, de, nk, na, nb, us, lk, lv, le, ju, el, ol, gv, er, sn', re, ow', vs, vx, vy, ws, wx, wy)) : wpX_findSeen post (vc, mN, mL, nc, lc, dp, pd, vd, ph, pt, de, nk, na, nb, us, lk, lv, le, ju, el, ol, gv, er, sn, re, ow, vs, vx, vy, ws, wx, wy) := by
  refine loop_0 (fun m i (t : (Nat → Int32) × (Nat → Int64)) => wX_findSeen_2 post m (nI i) vc mN mL nc lc dp pd vd ph pt de nk na nb us lk lv le ju el ol gv er t.2 re t.1 vs vx vy ws wx wy)
    (fun i t => (∀ p, p < i → tk (lk p) = 1 → t.1 (le p).toNatClampNeg = nI p ∧ ∀ w, w < 7 → t.2 ((le p).toNatClampNeg * 7 + w) = re (p * 7 + w)) ∧ (∀ z, z < 32 → (∀ p, p < i → tk (lk p) = 1 → (le p).toNatClampNeg ≠ z) → Un t.1 t.2 z)) l (ow, sn)
    ⟨fun p hp => absurd hp (Nat.not_lt_zero p), fun z hz _ => ⟨hao z hz, fun w _ => hs0 _⟩⟩ ?_ ?_
  · rintro m ⟨ow1, sn1⟩ ⟨g1, g2⟩
    dsimp only at g1 g2 ⊢
    refine br_t (by rw [hlc]; exact nI_le (Nat.le_refl l) (by omega)) (nm_r (e' := nI n - 1) (by rw [hnc]) ?_)
    have I0 : FI2 n l gv nk na nb lk le re n ow1 sn1 := by
      refine ⟨g1, fun x a b => absurd b (by omega), fun x hx k hk k4 k14 => ?_, fun z hz => ?_, Nat.le_refl n⟩
      · obtain ⟨q1, _, q3⟩ := hP.1 x k hx hk k4 k14
        obtain ⟨kk, _, _, hk', _, _, c4⟩ := hN x hx
        have : kk = k := na_inj (hk'.symm.trans hk) (by omega) (by omega)
        subst this
        obtain ⟨a, b, ha, hb, ea, eb, _⟩ := c4 k4
        have ca : (na x).toNatClampNeg = a := by rw [ea, nI_clamp (by omega)]
        have cb : (nb x).toNatClampNeg = b := by rw [eb, nI_clamp (by omega)]
        refine ⟨g2 _ (by omega) (fun p hp ht e => ?_), fun hbk => g2 _ (by omega) (fun p hp ht e => ?_)⟩
        · have := (hP.2 p hp ht).1; rw [e] at this; omega
        · have := (hP.2 p hp ht).1; rw [e] at this; have := (q3 hbk).1; omega
      · by_cases hr : ∃ p, p < l ∧ tk (lk p) = 1 ∧ (le p).toNatClampNeg = z
        · obtain ⟨p, hp, ht, e⟩ := hr
          obtain ⟨r1, r2⟩ := g1 p hp ht
          rw [e] at r1 r2
          exact Or.inr ⟨p, hp, ht, r1, by omega, fun w hw j hj => by rw [r2 w hw] at hj; exact hj, Or.inl e.symm⟩
        · exact Or.inl (g2 z (by omega) (fun p hp ht e => hr ⟨p, hp, ht, e⟩))
    refine ⟨n + 1, pk_loopD (fun m i (t : (Nat → Int32) × (Nat → Int64)) => wX_findSeen_47 post m (nI i - 1) vc mN mL nc lc dp pd vd ph pt de nk na nb us lk lv le ju el ol gv er t.2 re t.1 vs vx vy ws wx wy) (fun i t => FI2 n l gv nk na nb lk le re i t.1 t.2) ?_ ?_ n (ow1, sn1) I0⟩
    · rintro m ⟨ow2, sn2⟩ hI
      exact br_t nJ_neg (h ow2 sn2 hI.1 (fun x hx => hI.2.1 x (Nat.zero_le x) hx) hI.2.2.2.1)
    · rintro m i ⟨ow2, sn2⟩ hI K
      dsimp only at hI ⊢
      have hin : i < n := hI.2.2.2.2
      have hi : vp_in (nI i) 32 := vp_in_nI (by omega) (by decide)
      have hc : (nI i).toNatClampNeg = i := nI_clamp (by omega)
      rw [nI_pred]
      refine br_f (nI_pos (by omega)) (And.intro hi ?_)
      by_cases ho : ow2 i < 0
      · exact br_t (by rw [hc]; exact ho) (nm_r (na_mm1 (nI i)) (K (ow2, sn2) (FI2_n hl hI ho)))
      · obtain ⟨k, _, k14, hk, _, _, c4⟩ := hN i hin
        refine br_f (by rw [hc]; exact ho) (And.intro hi ?_)
        by_cases k4 : k < 4
        · exact br_t (by rw [hc, hk]; exact nI_lt (b := 4) k4 (by decide)) (nm_r (na_mm1 (nI i)) (K (ow2, sn2) (FI2_l hI hk k4)))
        · obtain ⟨a, b, ha, hb, ea, eb, _⟩ := c4 (by omega)
          have ca : (na i).toNatClampNeg = a := by rw [ea, nI_clamp (by omega)]
          have cb : (nb i).toNatClampNeg = b := by rw [eb, nI_clamp (by omega)]
          refine br_f (by rw [hc, hk]; exact nI_nlt (b := 4) (by omega) (by omega)) (x_seeOperands (by omega) hk (by omega) k14 ea eb ha hb (fun hbk e => ?_) fun ow' sn' hS => nm_r (na_mm1 (nI i)) (K (ow', sn') (FI2_s hl hn hP hI hN hk (by omega) k14 ca cb ha hb ho hS)))
          obtain ⟨q1, _, q3⟩ := hP.1 i k hin hk (by omega) k14
          have := (q3 hbk).1
          rw [ca] at q1; rw [cb, ← e] at this; omega
  · rintro m i ⟨ow1, sn1⟩ hil ⟨g1, g2⟩ K
    dsimp only at g1 g2 ⊢
    have hi : vp_in (nI i) 16 := vp_in_nI (by omega) (by decide)
    have hc : (nI i).toNatClampNeg = i := nI_clamp (by omega)
    refine br_f (by rw [hlc]; exact nI_ge hil (by omega)) (And.intro hi (x_takesNode ?_))
    rw [hc]
    rcases tk_01 (lk i) with t0 | t1
    · refine br_t t0 (nm_r (nI_1 i) (K (ow1, sn1) ⟨fun p hp ht => ?_, fun z hz hr => g2 z hz (fun p hp => hr p (by omega))⟩))
      by_cases e : p = i
      · subst e; rw [t0] at ht; exact absurd ht (by decide)
      · exact g1 p (by omega) ht
    · obtain ⟨k, k1, k6, hk, _, e, e32, he, hen⟩ := hL i hil
      have hce : (le i).toNatClampNeg = e := by rw [he, nI_clamp (by omega)]
      refine br_f (by rw [t1]; exact i1_0) (And.intro hi (x_seeRootE (e := e) he (by omega) e32 fun sn' a b => nm_r (nI_1 i) (K (upd ow1 e (nI i), sn') ⟨fun p hp ht => ?_, fun z hz hr => ?_⟩)))
      · dsimp only
        by_cases ep : p = i
        · subst ep; rw [hce]; exact ⟨pk_us, a⟩
        · have hne : (le p).toNatClampNeg ≠ e := fun z => by
            have := (hP.2 p (by omega) ht).1
            have h2 := (hP.2 i hil t1).1
            rw [z] at this; rw [hce] at h2; omega
          obtain ⟨r1, r2⟩ := g1 p (by omega) ht
          exact ⟨by rw [pk_un hne]; exact r1, fun w hw => by rw [b _ w hne hw]; exact r2 w hw⟩
      · have hne : z ≠ e := fun z' => hr i (by omega) t1 (by rw [hce]; exact z'.symm)
        have u := g2 z hz (fun p hp => hr p (by omega))
        exact ⟨by dsimp only; rw [pk_un hne]; exact u.1, fun w hw => by dsimp only; rw [b z w hne hw]; exact u.2 w hw⟩
end NT19
end
section
section NT20
variable {vc mN mL nc lc dp pd vd ph pt nw : Int32} {de nk na nb us lk lv le ju el ol ow vs vx vy ws wx wy du ou ax ay ar dn ga : Nat → Int32} {gv er sn re : Nat → Int64}
variable {post : Int32 → Prop} {V n l : Nat}
/-- all bits of these words stand for states -/
def VV (N : Nat) (re : Nat → Int64) : Prop := ∀ p, p < N → ∀ w, w < 7 → ∀ j, j < 64 → wd (re (p * 7 + w)) j = true → vj j
theorem rc_ex {re : Nat → Int64} {N p : Nat} (hV : VV N re) (hp : p < N) {Q : Nat → Nat → Prop} : (∃ w, w < 7 ∧ ∃ j, j < 64 ∧ wd (re (p * 7 + w)) j = true ∧ Q w j) ↔ ∃ q, q < 343 ∧ Rc re p q ∧ Q (q / 49) (qj q) := by
  constructor
  · rintro ⟨w, hw, j, hj, e, h⟩
    have v := hV p hp w hw j hj e
    exact ⟨qi w j, qi_lt hw v, by unfold Rc; rw [qi_w v, qi_j v]; exact e, by rw [qi_w v, qi_j v]; exact h⟩
  · rintro ⟨q, hq, e, h⟩
    exact ⟨q / 49, by omega, qj q, qj_64 q, e, h⟩
theorem x_shapesIn {v w : Nat} {W : Int64} (hv : v < 3) (hw : w < 7) (hW : ∀ j, j < 64 → wd W j = true → vj j)
    (h : ∀ r : Int32, (∀ i, i < 32 → (bt r i = true ↔ ∃ j, j < 64 ∧ wd W j = true ∧ shj w j v = i)) → post r) : wpX_shapesIn post (vc, mN, mL, nc, lc, dp, pd, vd, ph, pt, de, nk, na, nb, us, lk, lv, le, ju, el, ol, gv, er, sn, re, ow, vs, vx, vy, ws, wx, wy) (nI v) (nI w) W := by
  refine loop_0 (fun m s (r : Int32) => wX_shapesIn_6 post (nI v) (nI w) W vc mN mL nc lc dp pd vd ph pt de nk na nb us lk lv le ju el ol gv er sn re ow vs vx vy ws wx wy m r (nI s)) (fun s r => ∀ i, i < 32 → (bt r i = true ↔ i < s ∧ ∃ j, j < 64 ∧ wd W j = true ∧ shj w j v = i)) 7 0 (fun i _ => ⟨fun z => by rw [b_0] at z; exact absurd z Bool.false_ne_true, fun z => absurd z.1 (Nat.not_lt_zero _)⟩) ?_ ?_
  · intro m r hr
    refine br_t (nI_le (Nat.le_refl 7) (by decide)) (h r fun i hi => (hr i hi).trans ⟨fun z => z.2, fun ⟨j, hj, e, z⟩ => ⟨?_, j, hj, e, z⟩⟩)
    rw [← z]; exact sj_lt hw (hW j hj e) v
  · intro m s r hs hr K
    refine br_f (nI_ge (b := 7) hs (by decide)) (x_shapeMask hs hw hv fun M hM => ?_)
    have key : ¬ (W &&& M) = 0 ↔ ∃ j, j < 64 ∧ wd W j = true ∧ shj w j v = s := by
      rw [wd_nz]
      constructor
      · rintro ⟨j, hj, e⟩
        rw [wd_and, bo_and] at e
        refine ⟨j, hj, e.1, ?_⟩
        rw [hM j hj (hW j hj e.1)] at e
        exact (of_decide_eq_true e.2).symm
      · rintro ⟨j, hj, e, z⟩
        exact ⟨j, hj, by rw [wd_and, bo_and]; exact ⟨e, by rw [hM j hj (hW j hj e)]; exact decide_eq_true z.symm⟩⟩
    by_cases z : (W &&& M) = 0
    · refine br_t z (nm_r (nI_1 s) (K r fun i hi => (hr i hi).trans ⟨fun c => ⟨by omega, c.2⟩, fun c => ⟨?_, c.2⟩⟩))
      by_cases e : i = s
      · subst e; exact absurd z (key.mpr c.2)
      · omega
    · refine br_f z (nm_e (nm_r (nI_1 s) (K _ fun i hi => ?_)))
      rw [b_or, bo_or, hr i hi, bt_p s (by omega) hi, decide_eq_true_iff]
      constructor
      · rintro (c | c)
        · exact ⟨by omega, c.2⟩
        · subst c; exact ⟨by omega, key.mp z⟩
      · rintro ⟨c1, c2⟩
        by_cases e : i = s
        · exact Or.inr e
        · exact Or.inl ⟨by omega, c2⟩
theorem x_shapesInE {v w : Nat} {U Wd : Int32} {W : Int64} (eU : U = nI v) (eW : Wd = nI w) (hv : v < 3) (hw : w < 7) (hW : ∀ j, j < 64 → wd W j = true → vj j)
    (h : ∀ r : Int32, (∀ i, i < 32 → (bt r i = true ↔ ∃ j, j < 64 ∧ wd W j = true ∧ shj w j v = i)) → post r) : wpX_shapesIn post (vc, mN, mL, nc, lc, dp, pd, vd, ph, pt, de, nk, na, nb, us, lk, lv, le, ju, el, ol, gv, er, sn, re, ow, vs, vx, vy, ws, wx, wy) U Wd W := by
  subst eU; subst eW; exact x_shapesIn hv hw hW h
theorem x_union {p v : Nat} (hp : p < 17) (hv : v < 3) (hV : VV 17 re) (h : ∀ r : Int32, (∀ i, i < 32 → (bt r i = true ↔ ∃ q, q < 343 ∧ Rc re p q ∧ shq q v = i)) → post r) : ∃ m, wX_unionAt_34 post (nI p) (nI v) vc mN mL nc lc dp pd vd ph pt de nk na nb us lk lv le ju el ol gv er sn re ow vs vx vy ws wx wy m 0 0 := by
  refine loop_0 (fun m w (r : Int32) => wX_unionAt_34 post (nI p) (nI v) vc mN mL nc lc dp pd vd ph pt de nk na nb us lk lv le ju el ol gv er sn re ow vs vx vy ws wx wy m r (nI w)) (fun w r => ∀ i, i < 32 → (bt r i = true ↔ ∃ w', w' < w ∧ ∃ j, j < 64 ∧ wd (re (p * 7 + w')) j = true ∧ shj w' j v = i)) 7 0 (fun i _ => ⟨fun z => by rw [b_0] at z; exact absurd z Bool.false_ne_true, fun ⟨w', z, _⟩ => absurd z (Nat.not_lt_zero _)⟩) ?_ ?_
  · intro m r hr
    refine br_t (nI_le (Nat.le_refl 7) (by decide)) (h r fun i hi => (hr i hi).trans ((rc_ex hV hp (Q := fun w j => shj w j v = i)).trans ?_))
    constructor <;> rintro ⟨q, hq, e, z⟩ <;> refine ⟨q, hq, e, ?_⟩
    · rw [sh_eq] at z; exact z
    · rw [sh_eq]; exact z
  · intro m w r hw hr K
    have e := na_7 p w
    refine br_f (nI_ge (b := 7) hw (by decide)) (And.intro (na_in e (by omega) (by decide)) ?_)
    rw [na_cl e (by omega)]
    refine x_shapesIn hv hw (fun j hj => hV p hp w hw j hj) fun r2 hr2 => nm_e (nm_r (nI_1 w) (K _ fun i hi => ?_))
    rw [b_or, bo_or, hr i hi, hr2 i hi]
    constructor
    · rintro (⟨w', a, b⟩ | b)
      · exact ⟨w', by omega, b⟩
      · exact ⟨w, by omega, b⟩
    · rintro ⟨w', a, b⟩
      by_cases c : w' = w
      · subst c; exact Or.inr b
      · exact Or.inl ⟨w', by omega, b⟩
theorem x_type {x N : Nat} (hxN : x < N) (hx : x < 32) (hV : VV N sn) (h : ∀ r : Int32, (∀ i, i < 32 → (bt r i = true ↔ i < 7 ∧ ∃ q, q < 343 ∧ Rc sn x q ∧ AX gv er x (q / 49) (qj q) i = true)) → post r) : ∃ m, wX_typeOf_21 post (nI x) vc mN mL nc lc dp pd vd ph pt de nk na nb us lk lv le ju el ol gv er sn re ow vs vx vy ws wx wy m 0 0 := by
  refine loop_0 (fun m s (r : Int32) => wX_typeOf_21 post (nI x) vc mN mL nc lc dp pd vd ph pt de nk na nb us lk lv le ju el ol gv er sn re ow vs vx vy ws wx wy m r (nI s)) (fun s r => ∀ i, i < 32 → (bt r i = true ↔ i < s ∧ ∃ w, w < 7 ∧ ∃ j, j < 64 ∧ wd (sn (x * 7 + w)) j = true ∧ wd (gv (x * 49 + i * 7 + w)) j = true)) 7 0 (fun i _ => ⟨fun z => by rw [b_0] at z; exact absurd z Bool.false_ne_true, fun z => absurd z.1 (Nat.not_lt_zero _)⟩) ?_ ?_
  · intro m r hr
    refine br_t (nI_le (Nat.le_refl 7) (by decide)) (h r fun i hi => (hr i hi).trans ⟨fun ⟨a, b⟩ => ⟨a, ?_⟩, fun ⟨a, b⟩ => ⟨a, ?_⟩⟩)
    · obtain ⟨q, hq, c, d⟩ := (rc_ex hV hxN (Q := fun w j => wd (gv (x * 49 + i * 7 + w)) j = true)).mp b
      exact ⟨q, hq, c, by rw [AX_s a]; exact d⟩
    · obtain ⟨q, hq, c, d⟩ := b
      rw [AX_s a] at d
      exact (rc_ex hV hxN (Q := fun w j => wd (gv (x * 49 + i * 7 + w)) j = true)).mpr ⟨q, hq, c, d⟩
  · intro m s r hs hr K
    refine br_f (nI_ge (b := 7) hs (by decide)) ?_
    refine loop_0 (fun m' w (r : Int32) => wX_typeOf_30 post (wX_typeOf_21 post (nI x) vc mN mL nc lc dp pd vd ph pt de nk na nb us lk lv le ju el ol gv er sn re ow vs vx vy ws wx wy m) (nI x) (nI s) vc mN mL nc lc dp pd vd ph pt de nk na nb us lk lv le ju el ol gv er sn re ow vs vx vy ws wx wy m' r (nI w)) (fun w r => ∀ i, i < 32 → (bt r i = true ↔ (i < s ∧ ∃ w, w < 7 ∧ ∃ j, j < 64 ∧ wd (sn (x * 7 + w)) j = true ∧ wd (gv (x * 49 + i * 7 + w)) j = true) ∨ (i = s ∧ ∃ w', w' < w ∧ ∃ j, j < 64 ∧ wd (sn (x * 7 + w')) j = true ∧ wd (gv (x * 49 + i * 7 + w')) j = true))) 7 r (fun i hi => (hr i hi).trans ⟨Or.inl, fun z => by
      rcases z with z | ⟨_, w', z, _⟩
      · exact z
      · exact absurd z (Nat.not_lt_zero _)⟩) ?_ ?_
    · intro m' r hr
      refine br_t (nI_le (Nat.le_refl 7) (by decide)) (nm_r (nI_1 s) (K r fun i hi => (hr i hi).trans ⟨?_, fun ⟨a, b⟩ => ?_⟩))
      · rintro (⟨a, b⟩ | ⟨a, b⟩)
        · exact ⟨by omega, b⟩
        · exact ⟨by omega, b⟩
      · by_cases c : i = s
        · exact Or.inr ⟨c, b⟩
        · exact Or.inl ⟨by omega, b⟩
    · intro m' w r hw hr K2
      have e := na_7 x w
      refine br_f (nI_ge (b := 7) hw (by decide)) (And.intro (na_in e (by omega) (by decide)) (x_out hx hs hw ?_))
      rw [na_cl e (by omega)]
      by_cases z : (sn (x * 7 + w) &&& gv (x * 49 + s * 7 + w)) = 0
      · refine br_t z (nm_r (nI_1 w) (K2 r fun i hi => (hr i hi).trans ⟨?_, ?_⟩))
        · rintro (a | ⟨a, w', b, c⟩)
          · exact Or.inl a
          · exact Or.inr ⟨a, w', by omega, c⟩
        · rintro (a | ⟨a, w', b, j, hj, c, d⟩)
          · exact Or.inl a
          · by_cases ew : w' = w
            · subst ew; subst a
              have := wd_z.mp z j hj
              rw [wd_and, c, d] at this; exact absurd this (by decide)
            · exact Or.inr ⟨a, w', by omega, j, hj, c, d⟩
      · refine br_f z (nm_e (nm_r (nI_1 w) (K2 _ fun i hi => ?_)))
        rw [b_or, bo_or, hr i hi, bt_p s (by omega) hi, decide_eq_true_iff]
        constructor
        · rintro ((a | ⟨a, w', b, c⟩) | a)
          · exact Or.inl a
          · exact Or.inr ⟨a, w', by omega, c⟩
          · subst a
            obtain ⟨j, hj, c⟩ := wd_nz.mp z
            rw [wd_and, bo_and] at c
            exact Or.inr ⟨rfl, w, by omega, j, hj, c⟩
        · rintro (a | ⟨a, _⟩)
          · exact Or.inl (Or.inl a)
          · exact Or.inr a
theorem x_narrow {x v t N : Nat} {T : Int32} (eT : T = nI t) (ht : t < 2) (hxN : x < N) (hx : x < 32) (hv : v < 3) (hV : VV N sn) (h : ∀ r : Int32, (∀ i, i < 32 → (bt r i = true ↔ ∃ q, q < 343 ∧ Rc sn x q ∧ AX gv er x (q / 49) (qj q) (1 + t) = true ∧ shq q v = i)) → post r) : ∃ m, wX_narrowed_40 post (nI x) T (nI v) vc mN mL nc lc dp pd vd ph pt de nk na nb us lk lv le ju el ol gv er sn re ow vs vx vy ws wx wy m 0 0 := by
  subst eT
  refine loop_0 (fun m w (r : Int32) => wX_narrowed_40 post (nI x) (nI t) (nI v) vc mN mL nc lc dp pd vd ph pt de nk na nb us lk lv le ju el ol gv er sn re ow vs vx vy ws wx wy m r (nI w)) (fun w r => ∀ i, i < 32 → (bt r i = true ↔ ∃ w', w' < w ∧ ∃ j, j < 64 ∧ wd (sn (x * 7 + w')) j = true ∧ wd (gv (x * 49 + (1 + t) * 7 + w')) j = true ∧ shj w' j v = i)) 7 0 (fun i _ => ⟨fun z => by rw [b_0] at z; exact absurd z Bool.false_ne_true, fun ⟨w', z, _⟩ => absurd z (Nat.not_lt_zero _)⟩) ?_ ?_
  · intro m r hr
    refine br_t (nI_le (Nat.le_refl 7) (by decide)) (h r fun i hi => (hr i hi).trans ((rc_ex hV hxN (Q := fun w j => wd (gv (x * 49 + (1 + t) * 7 + w)) j = true ∧ shj w j v = i)).trans ?_))
    constructor <;> rintro ⟨q, hq, e, z1, z2⟩ <;> refine ⟨q, hq, e, ?_⟩
    · rw [sh_eq] at z2; exact ⟨by rw [AX_s (by omega)]; exact z1, z2⟩
    · rw [AX_s (by omega)] at z1; exact ⟨z1, by rw [sh_eq]; exact z2⟩
  · intro m w r hw hr K
    have e := na_7 x w
    refine br_f (nI_ge (b := 7) hw (by decide)) (And.intro (na_in e (by omega) (by decide)) (x_outE (x := x) (s := 1 + t) (w := w) rfl (nI_add 1 t) rfl hx (by omega) hw (nm_r (e' := sn (x * 7 + w) &&& gv (x * 49 + (1 + t) * 7 + w)) (by rw [na_cl e (by omega)]) ?_)))
    refine x_shapesIn hv hw (fun j hj z => hV x hxN w hw j hj (by rw [wd_and, bo_and] at z; exact z.1)) fun r2 hr2 => nm_e (nm_r (nI_1 w) (K _ fun i hi => ?_))
    rw [b_or, bo_or, hr i hi, hr2 i hi]
    constructor
    · rintro (⟨w', a, b⟩ | ⟨j, hj, b, c⟩)
      · exact ⟨w', by omega, b⟩
      · rw [wd_and, bo_and] at b
        exact ⟨w, by omega, j, hj, b.1, b.2, c⟩
    · rintro ⟨w', a, j, hj, b, c, d⟩
      by_cases ew : w' = w
      · subst ew; exact Or.inr ⟨j, hj, by rw [wd_and, bo_and]; exact ⟨b, c⟩, d⟩
      · exact Or.inl ⟨w', by omega, j, hj, b, c, d⟩
/-- the line may fail -/
def FL (gv er re : Nat → Int64) (lk le : Nat → Int32) (p : Nat) : Prop :=
  tk (lk p) = 1 ∧ ∃ q, q < 343 ∧ Rc re p q ∧ (AX gv er (le p).toNatClampNeg (q / 49) (qj q) 7 = true ∨ (¬ lk p = 1 ∧ (AX gv er (le p).toNatClampNeg (q / 49) (qj q) 0 = true ∨ orr (AX gv er (le p).toNatClampNeg (q / 49) (qj q)) 3 4 = true)))
theorem x_lineFails {p e : Nat} (hp : p < 16) (he : le p = nI e) (e32 : e < 32) (hV : VV 17 re) (h1 : FL gv er re lk le p → post 1) (h0 : ¬ FL gv er re lk le p → post 0) : wpX_lineFails post (vc, mN, mL, nc, lc, dp, pd, vd, ph, pt, de, nk, na, nb, us, lk, lv, le, ju, el, ol, gv, er, sn, re, ow, vs, vx, vy, ws, wx, wy) (nI p) := by
  have hi : vp_in (nI p) 16 := vp_in_nI hp (by decide)
  have hc : (nI p).toNatClampNeg = p := nI_clamp (by omega)
  have hce : (le p).toNatClampNeg = e := by rw [he, nI_clamp (by omega)]
  refine And.intro hi (x_takesNode ?_)
  rw [hc]
  rcases tk_01 (lk p) with t0 | t1
  · exact br_t t0 (h0 fun z => by have := z.1; rw [t0] at this; exact absurd this (by decide))
  · refine br_f (by rw [t1]; exact i1_0) (And.intro hi (nm_r he ?_))
    let Q : Nat → Nat → Prop := fun w j => wd (er (e * 7 + w)) j = true ∨ (¬ lk p = 1 ∧ (AX gv er e w j 0 = true ∨ orr (AX gv er e w j) 3 4 = true))
    have key : FL gv er re lk le p ↔ ∃ w, w < 7 ∧ ∃ j, j < 64 ∧ wd (re (p * 7 + w)) j = true ∧ Q w j := by
      rw [rc_ex hV (by omega)]
      unfold FL; rw [hce]
      exact ⟨fun z => z.2, fun z => ⟨t1, z⟩⟩
    refine loop_0 (fun m w (_ : Unit) => wX_lineFails_24 post (nI p) (nI e) vc mN mL nc lc dp pd vd ph pt de nk na nb us lk lv le ju el ol gv er sn re ow vs vx vy ws wx wy m (nI w)) (fun w _ => ∀ w', w' < w → ∀ j, j < 64 → wd (re (p * 7 + w')) j = true → ¬ Q w' j) 7 () (fun w' hw' => absurd hw' (Nat.not_lt_zero _)) ?_ ?_
    · intro m _ hI
      exact br_t (nI_le (Nat.le_refl 7) (by decide)) (h0 fun z => by obtain ⟨w, hw, j, hj, a, b⟩ := key.mp z; exact hI w hw j hj a b)
    · intro m w _ hw hI K
      have e1 := na_7 e w
      have e2 := na_7 p w
      have fin : ∀ B : Int64, (∀ j, j < 64 → (wd B j = true ↔ Q w j)) → wX_lineFails_64 post (wX_lineFails_24 post (nI p) (nI e) vc mN mL nc lc dp pd vd ph pt de nk na nb us lk lv le ju el ol gv er sn re ow vs vx vy ws wx wy m) (nI p) (nI e) (nI w) B vc mN mL nc lc dp pd vd ph pt de nk na nb us lk lv le ju el ol gv er sn re ow vs vx vy ws wx wy := by
        intro B hB
        refine And.intro (na_in e2 (by omega) (by decide)) ?_
        rw [na_cl e2 (by omega)]
        by_cases z : (re (p * 7 + w) &&& B) = 0
        · refine br_t z (nm_r (nI_1 w) (K () (lt_s hI fun j hj a b => ?_)))
          have := wd_z.mp z j hj
          rw [wd_and, a, (hB j hj).mpr b] at this; exact absurd this (by decide)
        · obtain ⟨j, hj, c⟩ := wd_nz.mp z
          rw [wd_and, bo_and] at c
          exact br_f z (h1 (key.mpr ⟨w, hw, j, hj, c.1, (hB j hj).mp c.2⟩))
      refine br_f (nI_ge (b := 7) hw (by decide)) (And.intro (na_in e1 (by omega) (by decide)) (nm_r (e' := er (e * 7 + w)) (by rw [na_cl e1 (by omega)]) (And.intro hi ?_)))
      rw [hc]
      by_cases k1 : lk p = 1
      · exact br_t k1 (fin _ fun j hj => ⟨Or.inl, fun z => z.elim id fun z => absurd k1 z.1⟩)
      · refine br_f k1 (x_notBool e32 hw (nm_e (fin _ fun j hj => ?_)))
        rw [wd_or, wd_or, wd_aw (er := er) (by omega), bo_or, bo_or]
        exact ⟨fun z => z.elim Or.inl fun z => Or.inr ⟨k1, z⟩, fun z => z.elim Or.inl fun z => Or.inr z.2⟩
end NT20
end
section
section NT21
variable {vc mN mL nc lc dp pd vd ph pt nw : Int32} {de nk na nb us lk lv le ju el ol ow vs vx vy ws wx wy du ou ax ay ar dn ga : Nat → Int32} {gv er sn re : Nat → Int64}
variable {post : Int32 → Prop} {p0 p1 p2 : Int32} {V n l : Nat}
theorem y_isVar (h : post (iv vc p0)) : wpY_isVar post (vc, mN, mL, nc, lc, ph, pt, nw, de, vx, vy, nk, na, nb, us, du, lk, lv, le, ou, ax, ay, ar, dn, ga) p0 := ibc h (fun _ h => h) (fun _ h => ibc h (fun _ h => h) (fun _ h => h))
theorem y_unused (hn : nc = nI n) (h32 : n ≤ 32) (h : post (fr nc us p0)) : wpY_unused post (vc, mN, mL, nc, lc, ph, pt, nw, de, vx, vy, nk, na, nb, us, du, lk, lv, le, ou, ax, ay, ar, dn, ga) p0 := by
  unfold fr iv at h
  by_cases h1 : p0 < 0
  · rw [if_pos h1, if_pos rfl] at h; exact br_t h1 h
  · rw [if_neg h1] at h
    by_cases h2 : nc ≤ p0
    · rw [if_pos h2, if_pos rfl] at h; exact br_f h1 (br_t h2 h)
    · rw [if_neg h2, if_neg i1_0] at h
      have : ¬ iv (nI n) p0 = 0 := by unfold iv; rw [if_neg h1, ← hn, if_neg h2]; exact i1_0
      obtain ⟨j, hj, e⟩ := iv_of (by omega) this
      exact br_f h1 (br_f h2 (And.intro (na_in e (by omega) (by decide)) (ibc h (fun _ h => h) (fun _ h => h))))
theorem y_takesNode (h : post (tk p0)) : wpY_takesNode post (vc, mN, mL, nc, lc, ph, pt, nw, de, vx, vy, nk, na, nb, us, du, lk, lv, le, ou, ax, ay, ar, dn, ga) p0 :=
  ibc h (fun _ h => h) (fun _ h => ibc h (fun _ h => h) (fun _ h => ibc h (fun _ h => h) (fun _ h => h)))
theorem y_has {M S : Int32} {s : Nat} (eS : S = nI s) (hs : s < 32) (h1 : bt M s = true → post 1) (h0 : bt M s = false → post 0) : wpY_has post (vc, mN, mL, nc, lc, ph, pt, nw, de, vx, vy, nk, na, nb, us, du, lk, lv, le, ou, ax, ay, ar, dn, ga) M S := by
  subst eS
  cases e : bt M s
  · exact br_f (fun z => by rw [(bt_s01 hs).mp z] at e; exact Bool.false_ne_true e.symm) (h0 e)
  · exact br_t ((bt_s01 hs).mpr e) (h1 e)
theorem y_shape {q v : Nat} {Q U : Int32} (eQ : Q = nI q) (eU : U = nI v) (hq : q < 343) (hv : v < 3) (h : post (nI (shq q v))) : wpY_shape post (vc, mN, mL, nc, lc, ph, pt, nw, de, vx, vy, nk, na, nb, us, du, lk, lv, le, ou, ax, ay, ar, dn, ga) Q U := by
  subst eQ; subst eU
  have d7 : nI q / 7 = nI (q / 7) := pk_div (d := 7) (by omega) (by decide) (by decide)
  rcases (by omega : v = 0 ∨ v = 1 ∨ v = 2) with rfl | rfl | rfl
  · refine br_t rfl (And.intro (by decide) ?_)
    rw [show nI q - nI q / 7 * 7 = nI (q % 7) from pk_rem (d := 7) (by omega) (by decide) (by decide)]; exact h
  · refine br_f (by decide) (br_t rfl (And.intro (by decide) (And.intro (by decide) ?_)))
    rw [d7, show nI (q / 7) - nI (q / 7) / 7 * 7 = nI (q / 7 % 7) from pk_rem (d := 7) (by omega) (by decide) (by decide)]; exact h
  · refine br_f (by decide) (br_f (by decide) (And.intro (by decide) ?_))
    rw [show nI q / 49 = nI (q / 49) from pk_div (d := 49) (by omega) (by decide) (by decide)]; exact h
theorem ri_1 (a r s : Int32) : a + r + (s - r) * 1 = a + s := by grind
theorem ri_7 (a r s : Int32) : a + r * 7 + (s - r) * 7 = a + s * 7 := by grind
theorem ri_49 (a r s : Int32) : a + r * 49 + (s - r) * 49 = a + s * 49 := by grind
theorem y_put {q v s : Nat} {Q U S : Int32} (eQ : Q = nI q) (eU : U = nI v) (eS : S = nI s) (hq : q < 343) (hv : v < 3) (hs : s < 7) (h : post (nI (pq q v s))) : wpY_put post (vc, mN, mL, nc, lc, ph, pt, nw, de, vx, vy, nk, na, nb, us, du, lk, lv, le, ou, ax, ay, ar, dn, ga) Q U S := by
  unfold wpY_put
  refine y_shape eQ eU hq hv ?_
  subst eQ; subst eU; subst eS
  rcases (by omega : v = 0 ∨ v = 1 ∨ v = 2) with rfl | rfl | rfl
  · refine br_t rfl ?_
    have e : nI q = nI (q / 7 * 7) + nI (q % 7) := by rw [nI_add]; congr 1; omega
    show post (nI q + (nI s - nI (q % 7)) * 1)
    rw [e, ri_1, nI_add]; exact h
  · refine br_f (by decide) (br_t rfl ?_)
    have e : nI q = nI (q / 49 * 49 + q % 7) + nI (q / 7 % 7) * 7 := by
      rw [show nI (q / 7 % 7) * 7 = nI (q / 7 % 7 * 7) from pk_mul _ 7, nI_add]; congr 1; omega
    show post (nI q + (nI s - nI (q / 7 % 7)) * 7)
    rw [e, ri_7, show nI s * 7 = nI (s * 7) from pk_mul s 7, nI_add]
    have : q / 49 * 49 + q % 7 + s * 7 = pq q 1 s := by show _ = q / 49 * 49 + s * 7 + q % 7; omega
    rw [this]; exact h
  · refine br_f (by decide) (br_f (by decide) ?_)
    have e : nI q = nI (q % 49) + nI (q / 49) * 49 := by
      rw [show nI (q / 49) * 49 = nI (q / 49 * 49) from pk_mul _ 49, nI_add]; congr 1; omega
    show post (nI q + (nI s - nI (q / 49)) * 49)
    rw [e, ri_49, show nI s * 49 = nI (s * 49) from pk_mul s 49, nI_add]
    have : q % 49 + s * 49 = pq q 2 s := by show _ = s * 49 + q % 49; omega
    rw [this]; exact h
theorem pq_sh {q v s u : Nat} (hq : q < 343) (hv : v < 3) (hs : s < 7) (hu : u < 3) : shq (pq q v s) u = if u = v then s else shq q u := by
  rcases (by omega : v = 0 ∨ v = 1 ∨ v = 2) with rfl | rfl | rfl <;> rcases (by omega : u = 0 ∨ u = 1 ∨ u = 2) with rfl | rfl | rfl
  · show (q / 7 * 7 + s) % 7 = s; omega
  · show (q / 7 * 7 + s) / 7 % 7 = q / 7 % 7; omega
  · show (q / 7 * 7 + s) / 49 = q / 49; omega
  · show (q / 49 * 49 + s * 7 + q % 7) % 7 = q % 7; omega
  · show (q / 49 * 49 + s * 7 + q % 7) / 7 % 7 = s; omega
  · show (q / 49 * 49 + s * 7 + q % 7) / 49 = q / 49; omega
  · show (s * 49 + q % 49) % 7 = q % 7; omega
  · show (s * 49 + q % 49) / 7 % 7 = q / 7 % 7; omega
  · show (s * 49 + q % 49) / 49 = s; omega
theorem sq_lt {q v : Nat} (hq : q < 343) : shq q v < 7 := by
  unfold shq; split
  · omega
  · split <;> omega
/-! the scans -/
def oI : Option Nat → Int32
  | none => -1
  | some o => nI o
theorem pm_0 : (nI 0 + (-1) : Int32) = nI 0 - 1 := by decide
theorem y_opener6 (hl : l ≤ 16) : ∀ (q d m : Nat), q ≤ l → q < m → d + q ≤ 40 → post (oI (opn lk q d)) → wY_opener_6 post vc mN mL nc lc ph pt nw de vx vy nk na nb us du lk lv le ou ax ay ar dn ga m (nI d) (nI q - 1) := by
  intro q
  induction q with
  | zero =>
    intro d m _ hm _ h
    obtain ⟨m, rfl⟩ : ∃ m', m = m' + 1 := ⟨m - 1, by omega⟩
    exact br_t nJ_neg h
  | succ q ih =>
    intro d m hq hm hd h
    obtain ⟨m, rfl⟩ : ∃ m', m = m' + 1 := ⟨m - 1, by omega⟩
    have hi : vp_in (nI q) 16 := vp_in_nI (by omega) (by decide)
    have hc : (nI q).toNatClampNeg = q := nI_clamp (by omega)
    rw [nI_pred]
    refine br_f (nI_pos (by omega)) (And.intro hi ?_)
    rw [hc]
    have op : opk (lk q) = true → wY_opener_30 post (wY_opener_6 post vc mN mL nc lc ph pt nw de vx vy nk na nb us du lk lv le ou ax ay ar dn ga m) (nI d) (nI q) vc mN mL nc lc ph pt nw de vx vy nk na nb us du lk lv le ou ax ay ar dn ga := by
      intro ho
      unfold wY_opener_30
      refine br_f i1_0 ?_
      cases d with
      | zero => rw [op_o0 ho] at h; exact br_t rfl h
      | succ d =>
        rw [op_oS ho] at h
        exact br_f (nI_ne0 (by omega) (by omega)) (br_f i1_0 (nm_r (pk_m1 d) (nm_r (na_mm1 _) (ih d m (by omega) (by omega) (by omega) h))))
    by_cases k2 : lk q = 2
    · exact br_t k2 (op (by rw [k2]; decide))
    · refine br_f k2 (And.intro hi ?_)
      by_cases k5 : lk q = 5
      · exact br_t k5 (op (by rw [k5]; decide))
      · have no : ¬ opk (lk q) = true := fun z => (opk_t z).elim k2 k5
        refine br_f k5 (br_t rfl (br_t rfl (And.intro hi ?_)))
        rw [hc]
        by_cases k4 : lk q = 4
        · rw [op_c k4] at h
          exact br_t k4 (nm_r (nI_1 d) (nm_r (na_mm1 _) (ih (d + 1) m (by omega) (by omega) (by omega) h)))
        · rw [op_n no k4] at h
          exact br_f k4 (nm_r (Int32.add_zero _) (nm_r (na_mm1 _) (ih d m (by omega) (by omega) (by omega) h)))
theorem y_opener {p : Nat} {P : Int32} (eP : P = nI p) (hl : l ≤ 16) (hp : p ≤ l) (h : post (oI (opn lk p 0))) : wpY_opener post (vc, mN, mL, nc, lc, ph, pt, nw, de, vx, vy, nk, na, nb, us, du, lk, lv, le, ou, ax, ay, ar, dn, ga) P := by
  subst eP
  exact nm_e ⟨p + 1, y_opener6 hl p 0 (p + 1) hp (Nat.lt_succ_self p) (by omega) h⟩
theorem y_match7 {e : Bool} {E : Int32} (hlc : lc = nI l) (hl : l ≤ 16) (hE : E = 0 ↔ e = false) : ∀ (c q d m : Nat), q + c = l → c < m → d + l ≤ 40 + q → post (nI (mt lk e c q d)) → wY_match_7 post E vc mN mL nc lc ph pt nw de vx vy nk na nb us du lk lv le ou ax ay ar dn ga m (nI d) (nI q) := by
  intro c
  induction c with
  | zero =>
    intro q d m hq hm _ h
    obtain ⟨m, rfl⟩ : ∃ m', m = m' + 1 := ⟨m - 1, by omega⟩
    refine br_t (by rw [hlc]; exact nI_le (by omega) (by omega)) ?_
    rw [hlc, show l = q by omega]; exact h
  | succ c ih =>
    intro q d m hq hm hd h
    obtain ⟨m, rfl⟩ : ∃ m', m = m' + 1 := ⟨m - 1, by omega⟩
    have hi : vp_in (nI q) 16 := vp_in_nI (by omega) (by decide)
    have hc : (nI q).toNatClampNeg = q := nI_clamp (by omega)
    refine br_f (by rw [hlc]; exact nI_ge (by omega) (by omega)) (And.intro hi (nm_r (e' := lk q) (by rw [hc]) ?_))
    have go : ¬ mtx lk e q d → wY_match_48 post (wY_match_7 post E vc mN mL nc lc ph pt nw de vx vy nk na nb us du lk lv le ou ax ay ar dn ga m) E (nI d) (nI q) (lk q) vc mN mL nc lc ph pt nw de vx vy nk na nb us du lk lv le ou ax ay ar dn ga := by
      intro hx
      rw [mt_g hx] at h
      unfold mtd at h
      have dd : lk q = 4 → d ≠ 0 := fun z e0 => hx ⟨e0, Or.inl z⟩
      by_cases k2 : lk q = 2
      · rw [if_pos (by rw [k2]; decide)] at h
        exact br_t k2 (nm_r (nI_1 d) (nm_r (nI_1 q) (ih _ _ m (by omega) (by omega) (by omega) h)))
      · by_cases k5 : lk q = 5
        · rw [if_pos (by rw [k5]; decide)] at h
          exact br_f k2 (br_t k5 (nm_r (nI_1 d) (nm_r (nI_1 q) (ih _ _ m (by omega) (by omega) (by omega) h))))
        · rw [if_neg (fun z => (opk_t z).elim k2 k5)] at h
          by_cases k4 : lk q = 4
          · rw [if_pos k4] at h
            have := dd k4
            exact br_f k2 (br_f k5 (br_t k4 (nm_r (na_m1 (by omega)) (nm_r (nI_1 q) (ih _ _ m (by omega) (by omega) (by omega) h)))))
          · rw [if_neg k4] at h
            exact br_f k2 (br_f k5 (br_f k4 (nm_r (Int32.add_zero _) (nm_r (nI_1 q) (ih _ _ m (by omega) (by omega) (by omega) h)))))
    by_cases d0 : d = 0
    · refine br_t (congrArg nI d0) ?_
      by_cases k4 : lk q = 4
      · rw [mt_f ⟨d0, Or.inl k4⟩] at h; exact br_t k4 h
      · refine br_f k4 ?_
        by_cases k3 : lk q = 3
        · refine br_t k3 ?_
          by_cases e0 : E = 0
          · exact br_t e0 (go fun z => z.2.elim k4 fun z => by rw [hE.mp e0] at z; exact Bool.false_ne_true z.2)
          · have et : e = true := by cases e; exact absurd (hE.mpr rfl) e0; rfl
            rw [mt_f ⟨d0, Or.inr ⟨k3, et⟩⟩] at h; exact br_f e0 h
        · exact br_f k3 (go fun z => z.2.elim k4 fun z => k3 z.1)
    · exact br_f (nI_ne0 (by omega) (by omega)) (go fun z => d0 z.1)
theorem y_match {e : Bool} {E P : Int32} {p : Nat} (eP : P = nI p) (hlc : lc = nI l) (hl : l ≤ 16) (hp : p < l) (hE : E = 0 ↔ e = false) (h : post (nI (mm lk e l p))) : wpY_match post (vc, mN, mL, nc, lc, ph, pt, nw, de, vx, vy, nk, na, nb, us, du, lk, lv, le, ou, ax, ay, ar, dn, ga) P E := by
  subst eP
  exact nm_r (nI_1 p) ⟨l + 1, y_match7 hlc hl hE (l - (p + 1)) (p + 1) 0 (l + 1) (by omega) (by omega) (by omega) h⟩
theorem y_goal {p : Nat} {P T : Int32} (eP : P = nI p) (hlc : lc = nI l) (hl : l ≤ 16) (hp : p < l) (h0 : opn lk l 0 = none) (h3 : lk p = 3 → ∃ o, opn lk p 0 = some o)
    (hT : T = 0 ∨ T = 1) (h : post (nI (if opk (lk p) = true ∧ T = 1 then p + 1 else gl lk l p))) : wpY_goal post (vc, mN, mL, nc, lc, ph, pt, nw, de, vx, vy, nk, na, nb, us, du, lk, lv, le, ou, ax, ay, ar, dn, ga) P T := by
  subst eP
  have hi : vp_in (nI p) 16 := vp_in_nI (by omega) (by decide)
  have hc : (nI p).toNatClampNeg = p := nI_clamp (by omega)
  refine And.intro hi (nm_r (e' := lk p) (by rw [hc]) (y_opener rfl hl (by omega) (y_match (e := false) rfl hlc hl hp ⟨fun _ => rfl, fun _ => rfl⟩ (y_match (e := true) rfl hlc hl hp ⟨fun z => absurd z (by decide), fun z => absurd z.symm Bool.false_ne_true⟩ ?_))))
  have nop : ¬ opk (lk p) = true → (if opk (lk p) = true ∧ T = 1 then p + 1 else gl lk l p) = gl lk l p := fun z => if_neg fun y => z y.1
  by_cases k6 : lk p = 6
  · rw [nop (by rw [k6]; decide)] at h
    unfold gl at h; rw [if_pos k6, ← hlc] at h
    exact br_t k6 h
  · refine br_f k6 ?_
    have gle : gl lk l p = gJ lk l p := by unfold gl; rw [if_neg k6]
    rw [gle] at h nop
    by_cases k3 : lk p = 3
    · obtain ⟨o, ho⟩ := h3 k3
      have := mm_all (e := false) h0 hp ((op_n (by rw [k3]; decide) (by rw [k3]; decide)).trans ho)
      rw [nop (by rw [k3]; decide), gJ_3 k3, if_pos this] at h
      exact br_t k3 h
    · refine br_f k3 ?_
      by_cases k4 : lk p = 4
      · rw [nop (by rw [k4]; decide), gJ_4 k4] at h
        refine br_t k4 ?_
        cases e : opn lk p 0 with
        | none =>
          rw [e] at h
          refine br_t (show (-1 : Int32) < 0 by decide) ?_
          rw [nI_1]; exact h
        | some o =>
          have ho := op_lt p 0 e
          rw [e] at h
          have h' : post (nI (if lk o = 5 then o else p + 1)) := h
          refine br_f (show ¬ nI o < 0 from nI_pos (by omega)) (And.intro (show vp_in (nI o) 16 from vp_in_nI (by omega) (by decide)) ?_)
          have hco : (nI o).toNatClampNeg = o := nI_clamp (by omega)
          by_cases k5 : lk o = 5
          · rw [if_pos k5] at h'
            exact br_t (by show lk (nI o).toNatClampNeg = 5; rw [hco]; exact k5) h'
          · rw [if_neg k5] at h'
            refine br_f (by show ¬ lk (nI o).toNatClampNeg = 5; rw [hco]; exact k5) ?_
            rw [nI_1]; exact h'
      · refine br_f k4 ?_
        by_cases k5 : lk p = 5
        · have op : opk (lk p) = true := by rw [k5]; decide
          have := mm_all (e := false) h0 hp (op_o0 op)
          rw [gJ_5 k5, if_pos this] at h
          refine br_t k5 ?_
          rcases hT with t | t
          · rw [if_neg (fun z => by have := z.2; rw [t] at this; exact absurd this (by decide))] at h
            refine br_t t ?_
            rw [nI_1]; exact h
          · rw [if_pos ⟨op, t⟩] at h
            refine br_f (by rw [t]; decide) (br_f (by rw [k5]; decide) ?_)
            rw [nI_1]; exact h
        · refine br_f k5 ?_
          by_cases k2 : lk p = 2
          · have op : opk (lk p) = true := by rw [k2]; decide
            have hm := mm_all (e := true) h0 hp (op_o0 op)
            rw [gJ_2 k2, if_pos hm] at h
            refine br_t k2 ?_
            rcases hT with t | t
            · rw [if_neg (fun z => by have := z.2; rw [t] at this; exact absurd this (by decide))] at h
              have hcm : (nI (mm lk true l p)).toNatClampNeg = mm lk true l p := nI_clamp (by omega)
              refine br_t t (br_f (by rw [hlc]; exact nI_ge hm (by omega)) (And.intro (vp_in_nI (by omega) (by decide)) ?_))
              rw [hcm]
              by_cases m3 : lk (mm lk true l p) = 3
              · rw [if_pos m3] at h
                refine br_t m3 ?_
                rw [nI_1]; exact h
              · rw [if_neg m3] at h; exact br_f m3 h
            · rw [if_pos ⟨op, t⟩] at h
              refine br_f (by rw [t]; decide) ?_
              rw [nI_1]; exact h
          · rw [nop (fun z => (opk_t z).elim k2 k5), gJ_0 k4 k3 k5 k2] at h
            refine br_f k2 ?_
            rw [nI_1]; exact h
end NT21
end
section
section NT22
variable {vc mN mL nc lc dp pd vd ph pt nw : Int32} {de nk na nb us lk lv le ju el ol ow vs vx vy ws wx wy du ou ax ay ar dn ga : Nat → Int32} {gv er sn re : Nat → Int64}
variable {V n l : Nat}
def lbm (M : Int32) : Nat := if bt M 0 = true then 0 else if bt M 1 = true then 1 else if bt M 2 = true then 2 else if bt M 3 = true then 3 else if bt M 4 = true then 4 else if bt M 5 = true then 5 else 6
theorem nf {b : Bool} (h : b = false) : ¬ b = true := by rw [h]; exact Bool.false_ne_true
theorem lbm_eq {M : Int32} {m : Nat} (h6 : m ≤ 6) (h0 : ∀ i, i < m → bt M i = false) (h1 : m < 6 → bt M m = true) : lbm M = m := by
  unfold lbm
  rcases (by omega : m = 0 ∨ m = 1 ∨ m = 2 ∨ m = 3 ∨ m = 4 ∨ m = 5 ∨ m = 6) with rfl | rfl | rfl | rfl | rfl | rfl | rfl
  · rw [if_pos (h1 (by decide))]
  · rw [if_neg (nf (h0 0 (by decide))), if_pos (h1 (by decide))]
  · rw [if_neg (nf (h0 0 (by decide))), if_neg (nf (h0 1 (by decide))), if_pos (h1 (by decide))]
  · rw [if_neg (nf (h0 0 (by decide))), if_neg (nf (h0 1 (by decide))), if_neg (nf (h0 2 (by decide))), if_pos (h1 (by decide))]
  · rw [if_neg (nf (h0 0 (by decide))), if_neg (nf (h0 1 (by decide))), if_neg (nf (h0 2 (by decide))), if_neg (nf (h0 3 (by decide))), if_pos (h1 (by decide))]
  · rw [if_neg (nf (h0 0 (by decide))), if_neg (nf (h0 1 (by decide))), if_neg (nf (h0 2 (by decide))), if_neg (nf (h0 3 (by decide))), if_neg (nf (h0 4 (by decide))), if_pos (h1 (by decide))]
  · rw [if_neg (nf (h0 0 (by decide))), if_neg (nf (h0 1 (by decide))), if_neg (nf (h0 2 (by decide))), if_neg (nf (h0 3 (by decide))), if_neg (nf (h0 4 (by decide))), if_neg (nf (h0 5 (by decide)))]
theorem lbm_lt (M : Int32) : lbm M < 7 := by
  unfold lbm
  repeat' (first | decide | split)
def st1 (de vs : Nat → Int32) (i : Nat) : Nat → Int32 := fun v => if v < i then nI (lbm (de v)) else vs v
def st2 (de vx : Nat → Int32) (i : Nat) : Nat → Int32 := fun v => if v < i then (if lbm (de v) = 2 then 1 else 0) else vx v
def st3 (vy : Nat → Int32) (i : Nat) : Nat → Int32 := fun v => if v < i then 0 else vy v
theorem up_st' {f g : Nat → Int32} {i : Nat} {x : Int32} (hx : x = f i) : upd (fun v => if v < i then f v else g v) i x = fun v => if v < i + 1 then f v else g v := by
  funext v
  by_cases e : v = i
  · subst e; rw [pk_us, if_pos (Nat.lt_succ_self v)]; exact hx
  · rw [pk_un e]
    by_cases c : v < i
    · rw [if_pos c, if_pos (by omega)]
    · rw [if_neg c, if_neg (by omega)]
theorem st_0 {f g : Nat → Int32} : (fun v => if v < 0 then f v else g v) = g := by
  funext v; exact if_neg (Nat.not_lt_zero v)
theorem x_toStart {post : SX → Prop} (hd : DC de) (h : post (vc, mN, mL, nc, lc, dp, pd, vd, 1, 0, de, nk, na, nb, us, lk, lv, le, ju, el, ol, gv, er, sn, re, ow, st1 de vs 3, st2 de vx 3, st3 vy 3, ws, wx, wy)) : wpX_toStart post (vc, mN, mL, nc, lc, dp, pd, vd, ph, pt, de, nk, na, nb, us, lk, lv, le, ju, el, ol, gv, er, sn, re, ow, vs, vx, vy, ws, wx, wy) := by
  refine loop_0 (fun m i (t : (Nat → Int32) × (Nat → Int32) × (Nat → Int32)) => wX_toStart_12 post m (nI i) vc mN mL nc lc dp pd vd 1 0 de nk na nb us lk lv le ju el ol gv er sn re ow t.1 t.2.1 t.2.2 ws wx wy)
    (fun i t => t.1 = st1 de vs i ∧ t.2.1 = st2 de vx i ∧ t.2.2 = st3 vy i) 3 (vs, vx, vy) ⟨st_0.symm, st_0.symm, st_0.symm⟩ ?_ ?_
  · rintro m ⟨t1, t2, t3⟩ ⟨a, b, c⟩
    dsimp only at a b c ⊢
    subst a; subst b; subst c
    exact br_t (nI_le (Nat.le_refl 3) (by decide)) h
  · rintro m i ⟨t1, t2, t3⟩ hi ⟨a, b, c⟩ K
    dsimp only at a b c ⊢
    subst a; subst b; subst c
    refine br_f (nI_ge (b := 3) hi (by decide)) (And.intro (vp_in_nI hi (by decide)) ?_)
    rw [nI_clamp (by omega)]
    refine x_leastBit (e := 6) (by decide) fun k hk h0 h1 => ?_
    have hl : lbm (de i) = k := lbm_eq hk h0 h1
    have fin : ∀ z : Int32, z = (if lbm (de i) = 2 then 1 else 0) → wX_toStart_43 post (wX_toStart_12 post m) (nI i) z (nI k) (nI i) vc mN mL nc lc dp pd vd 1 0 de nk na nb us lk lv le ju el ol gv er sn re ow (st1 de vs i) (st2 de vx i) (st3 vy i) ws wx wy := by
      intro z hz
      unfold wX_toStart_43
      refine x_setVar hi (nm_r (nI_1 i) (K (_, _, _) ⟨?_, ?_, ?_⟩))
      · exact up_st' (f := fun v => nI (lbm (de v))) (by rw [hl])
      · exact up_st' (f := fun v => if lbm (de v) = 2 then 1 else 0) hz
      · exact up_st' (f := fun _ => 0) rfl
    by_cases e : k = 2
    · exact br_t (congrArg nI e) (fin 1 (by rw [hl, if_pos e]))
    · exact br_f (nI_ne (b := 2) e (by omega) (by decide)) (fin 0 (by rw [hl, if_neg e]))
theorem pq_pq {q v s t : Nat} (hq : q < 343) (hv : v < 3) (hs : s < 7) (ht : t < 7) : pq (pq q v s) v t = pq q v t := by
  rcases (by omega : v = 0 ∨ v = 1 ∨ v = 2) with rfl | rfl | rfl
  · show (q / 7 * 7 + s) / 7 * 7 + t = q / 7 * 7 + t; omega
  · show (q / 49 * 49 + s * 7 + q % 7) / 49 * 49 + t * 7 + (q / 49 * 49 + s * 7 + q % 7) % 7 = q / 49 * 49 + t * 7 + q % 7; omega
  · show t * 49 + (s * 49 + q % 49) % 49 = t * 49 + q % 49; omega
theorem y_rewind29 {post : Int32 → SY → Prop} {J : Int32 → Int32 → (Nat → Int32) → (Nat → Int32) → (Nat → Int32) → (Nat → Int32) → (Nat → Int32) → (Nat → Int32) → (Nat → Int32) → (Nat → Int32) → (Nat → Int32) → (Nat → Int32) → (Nat → Int32) → (Nat → Int32) → (Nat → Int32) → (Nat → Int32) → (Nat → Int32) → (Nat → Int32) → (Nat → Int32) → Prop} {q v M : Nat}
    (hq : q < 343) (hv : v < 3) (hM1 : 1 ≤ M) (hM : M < 128) (hde : de v = nI M)
    (h : J (nI (v + 1)) (nI (pq q v (lbm (de v)))) de (upd vx v (if lbm (de v) = 2 then 1 else 0)) (upd vy v 0) nk na nb us du lk lv le ou ax ay ar dn ga) : ∃ m, wY_rewind_29 post J (nI v) vc mN mL nc lc ph pt de vx vy nk na nb us du lk lv le ou ax ay ar dn ga m 6 (nI q) := by
  have hi : vp_in (nI v) 3 := vp_in_nI hv (by decide)
  have hc : (nI v).toNatClampNeg = v := nI_clamp (by omega)
  refine ⟨8, pk_loopD (fun m i (w : Int32) => wY_rewind_29 post J (nI v) vc mN mL nc lc ph pt de vx vy nk na nb us du lk lv le ou ax ay ar dn ga m (nI i - 1) w)
    (fun i w => i ≤ 7 ∧ ∃ q', q' < 343 ∧ w = nI q' ∧ ((q' = q ∧ ∀ j, i ≤ j → j < 7 → bt (de v) j = false) ∨ ∃ s, i ≤ s ∧ s < 7 ∧ bt (de v) s = true ∧ (∀ j, i ≤ j → j < s → bt (de v) j = false) ∧ q' = pq q v s)) ?_ ?_ 7 (nI q) ⟨by decide, q, hq, rfl, Or.inl ⟨rfl, fun j a b => by omega⟩⟩⟩
  · rintro m w ⟨_, q', hq', rfl, c⟩
    have e : q' = pq q v (lbm (de v)) := by
      rcases c with ⟨_, c⟩ | ⟨s, _, s7, b, c, d⟩
      · exfalso
        have : nI M = 0 := b_z.mpr fun i hi => by
          rcases Nat.lt_or_ge i 7 with z | z
          · rw [← hde]; exact c i (Nat.zero_le i) z
          · exact bt_dec M hM i hi z
        have := na_inj (b := 0) this (by omega) (by decide)
        omega
      · rw [d, lbm_eq (m := s) (by omega) (fun i hi => c i (Nat.zero_le i) hi) (fun _ => b)]
    refine br_t nJ_neg (y_shape rfl rfl hq' hv ?_)
    have hs : shq q' v = lbm (de v) := by rw [e, pq_sh hq hv (lbm_lt _) hv, if_pos rfl]
    rw [hs]
    have fin : ∀ z : Int32, z = (if lbm (de v) = 2 then 1 else 0) → wY_rewind_90 post J (nI v) z (nI v) vc mN mL nc lc ph pt (nI q') de vx vy nk na nb us du lk lv le ou ax ay ar dn ga := by
      intro z hz
      rw [← hz, ← e] at h
      exact And.intro hi (nm_r (by rw [hc]) (And.intro hi (nm_r (by rw [hc]) (nm_r (nI_1 v) h))))
    by_cases e2 : lbm (de v) = 2
    · exact br_t (congrArg nI e2) (fin 1 (by rw [if_pos e2]))
    · exact br_f (nI_ne (b := 2) e2 (by have := lbm_lt (de v); omega) (by decide)) (fin 0 (by rw [if_neg e2]))
  · rintro m i w ⟨hi7, q', hq', rfl, c⟩ K
    rw [nI_pred]
    refine br_f (nI_pos (by omega)) (And.intro hi ?_)
    rw [hc]
    refine y_has rfl (by omega) (fun hb => ?_) (fun hb => ?_)
    · refine br_f i1_0 (y_put rfl rfl rfl hq' hv (by omega) (nm_r (na_mm1 _) (K _ ⟨by omega, _, pq_lt hq' (by omega), rfl, Or.inr ⟨i, Nat.le_refl i, by omega, hb, fun j a b => by omega, ?_⟩⟩)))
      rcases c with ⟨rfl, _⟩ | ⟨s, _, s7, _, _, rfl⟩
      · rfl
      · exact pq_pq hq hv s7 (by omega)
    · refine br_t rfl (nm_r (na_mm1 _) (K _ ⟨by omega, q', hq', rfl, ?_⟩))
      rcases c with ⟨c1, c2⟩ | ⟨s, s1, s7, b, c, d⟩
      · exact Or.inl ⟨c1, fun j a b => by
          by_cases e : j = i
          · subst e; exact hb
          · exact c2 j (by omega) b⟩
      · exact Or.inr ⟨s, by omega, s7, b, fun j a b => by
          by_cases e : j = i
          · subst e; exact hb
          · exact c j (by omega) b, d⟩
theorem y_rewind {post : Int32 → SY → Prop} {q : Nat} (hq : q < 343) (hnw : nw = nI q) (hd : DC de) (hph : ¬ ph = 0)
    (h : ∀ q', q' < 343 → (∀ v, v < 3 → shq q' v = lbm (de v)) → post 1 (vc, mN, mL, nc, lc, 1, 0, nI q', de, st2 de vx 3, st3 vy 3, nk, na, nb, us, du, lk, lv, le, ou, ax, ay, ar, dn, ga)) : wpY_rewind post (vc, mN, mL, nc, lc, ph, pt, nw, de, vx, vy, nk, na, nb, us, du, lk, lv, le, ou, ax, ay, ar, dn, ga) := by
  refine br_f hph ?_
  refine loop_0 (fun m i (t : Int32 × (Nat → Int32) × (Nat → Int32)) => wY_rewind_21 post vc mN mL nc lc 1 0 m (nI i) t.1 de t.2.1 t.2.2 nk na nb us du lk lv le ou ax ay ar dn ga)
    (fun i t => t.2.1 = st2 de vx i ∧ t.2.2 = st3 vy i ∧ ∃ q', q' < 343 ∧ t.1 = nI q' ∧ ∀ v, v < i → shq q' v = lbm (de v)) 3 (nw, vx, vy) ⟨st_0.symm, st_0.symm, q, hq, hnw, fun v hv => absurd hv (Nat.not_lt_zero v)⟩ ?_ ?_
  · rintro m ⟨t1, t2, t3⟩ ⟨a, b, q', c, d, e⟩
    dsimp only at a b d ⊢
    subst a; subst b; subst d
    exact br_t (nI_le (Nat.le_refl 3) (by decide)) (h q' c e)
  · rintro m i ⟨t1, t2, t3⟩ hi ⟨a, b, q', c, d, e⟩ K
    dsimp only at a b d ⊢
    subst a; subst b; subst d
    obtain ⟨M, m1, m2, m3⟩ := hd i hi
    refine br_f (nI_ge (b := 3) hi (by decide)) (y_rewind29 c hi m1 m2 m3 (K (_, _, _) ⟨?_, ?_, _, pq_lt c (lbm_lt _), rfl, fun v hv => ?_⟩))
    · exact up_st' (f := fun v => if lbm (de v) = 2 then 1 else 0) rfl
    · exact up_st' (f := fun _ => 0) rfl
    · rw [pq_sh c hi (lbm_lt _) (by omega)]
      by_cases z : v = i
      · rw [if_pos z, z]
      · rw [if_neg z]; exact e v (by omega)
end NT22
end
section
section NT23
variable {vc mN mL nc lc dp pd vd ph pt nw : Int32} {de nk na nb us lk lv le ju el ol ow vs vx vy ws wx wy du ou ax ay ar dn ga : Nat → Int32} {gv er sn re : Nat → Int64}
variable {V n l : Nat}
theorem y_outcome {post : Int32 → Prop} {k s t : Int32} (h : post (oc k s t)) : wpY_outcome post (vc, mN, mL, nc, lc, ph, pt, nw, de, vx, vy, nk, na, nb, us, du, lk, lv, le, ou, ax, ay, ar, dn, ga) k s t := by
  unfold oc oc32 oc143 oc255 oc284 oc160 oc97 at h
  repeat' (first | exact h | refine ibc h (fun _ h => ?_) (fun _ h => ?_))
theorem y_combine {post : Int32 → Prop} {a b : Nat} {k A B : Int32} (eA : A = nI a) (eB : B = nI b) (ha : a < 32) (hb : b < 32)
    (h : ∀ m : Int32, (∀ i, i < 32 → (bt m i = true ↔ ∃ s, s < 8 ∧ bt (ou a) s = true ∧ ∃ t, t < 8 ∧ bt (ou b) t = true ∧ bt (oc k (nI s) (nI t)) i = true)) → post m) : wpY_combine post (vc, mN, mL, nc, lc, ph, pt, nw, de, vx, vy, nk, na, nb, us, du, lk, lv, le, ou, ax, ay, ar, dn, ga) k A B := by
  subst eA; subst eB
  have hia : vp_in (nI a) 32 := vp_in_nI ha (by decide)
  have hca : (nI a).toNatClampNeg = a := nI_clamp (by omega)
  have hib : vp_in (nI b) 32 := vp_in_nI hb (by decide)
  have hcb : (nI b).toNatClampNeg = b := nI_clamp (by omega)
  refine loop_0 (fun m s (r : Int32) => wY_combine_6 post k (nI a) (nI b) vc mN mL nc lc ph pt nw de vx vy nk na nb us du lk lv le ou ax ay ar dn ga m r (nI s)) (fun s r => ∀ i, i < 32 → (bt r i = true ↔ ∃ s', s' < s ∧ bt (ou a) s' = true ∧ ∃ t, t < 8 ∧ bt (ou b) t = true ∧ bt (oc k (nI s') (nI t)) i = true)) 8 0 (fun i _ => ⟨fun z => by rw [b_0] at z; exact absurd z Bool.false_ne_true, fun ⟨_, z, _⟩ => absurd z (Nat.not_lt_zero _)⟩) ?_ ?_
  · intro m r hr
    exact br_t (by decide) (h r hr)
  · intro m s r hs hr K
    refine br_f (nI_nlt (a := 7) (by omega) (by decide)) ?_
    refine loop_0 (fun m' t (r : Int32) => wY_combine_16 post (wY_combine_6 post k (nI a) (nI b) vc mN mL nc lc ph pt nw de vx vy nk na nb us du lk lv le ou ax ay ar dn ga m) k (nI a) (nI b) (nI s) vc mN mL nc lc ph pt nw de vx vy nk na nb us du lk lv le ou ax ay ar dn ga m' r (nI t)) (fun t r => ∀ i, i < 32 → (bt r i = true ↔ (∃ s', s' < s ∧ bt (ou a) s' = true ∧ ∃ t, t < 8 ∧ bt (ou b) t = true ∧ bt (oc k (nI s') (nI t)) i = true) ∨ (bt (ou a) s = true ∧ ∃ t', t' < t ∧ bt (ou b) t' = true ∧ bt (oc k (nI s) (nI t')) i = true))) 8 r (fun i hi => (hr i hi).trans ⟨Or.inl, fun z => by
      rcases z with z | ⟨_, t', z, _⟩
      · exact z
      · exact absurd z (Nat.not_lt_zero _)⟩) ?_ ?_
    · intro m' r hr
      refine br_t (by decide) (nm_r (nI_1 s) (K r fun i hi => (hr i hi).trans ⟨?_, ?_⟩))
      · rintro (⟨s', z, z2⟩ | z)
        · exact ⟨s', by omega, z2⟩
        · exact ⟨s, by omega, z⟩
      · rintro ⟨s', z, z2⟩
        by_cases e : s' = s
        · subst e; exact Or.inr z2
        · exact Or.inl ⟨s', by omega, z2⟩
    · intro m' t r ht hr K2
      refine br_f (nI_nlt (a := 7) (by omega) (by decide)) (And.intro hia ?_)
      rw [hca]
      have skip : (bt (ou a) s = true ∧ bt (ou b) t = true → False) → wY_combine_16 post (wY_combine_6 post k (nI a) (nI b) vc mN mL nc lc ph pt nw de vx vy nk na nb us du lk lv le ou ax ay ar dn ga m) k (nI a) (nI b) (nI s) vc mN mL nc lc ph pt nw de vx vy nk na nb us du lk lv le ou ax ay ar dn ga m' r (nI (t + 1)) := fun no =>
        K2 r fun i hi => (hr i hi).trans ⟨fun z => z.elim Or.inl fun ⟨z1, t', z2, z3⟩ => Or.inr ⟨z1, t', by omega, z3⟩, fun z => z.elim Or.inl fun ⟨z1, t', z2, z3⟩ => by
          by_cases e : t' = t
          · subst e; exact absurd ⟨z1, z3.1⟩ no
          · exact Or.inr ⟨z1, t', by omega, z3⟩⟩
      refine y_has rfl (by omega) (fun h1 => br_f i1_0 (And.intro hib ?_)) (fun h1 => br_t rfl (nm_r (nI_1 t) (skip fun z => by rw [h1] at z; exact Bool.false_ne_true z.1)))
      rw [hcb]
      refine y_has rfl (by omega) (fun h2 => br_f i1_0 (y_outcome (nm_e (nm_r (nI_1 t) (K2 _ fun i hi => ?_))))) (fun h2 => br_t rfl (nm_r (nI_1 t) (skip fun z => by rw [h2] at z; exact Bool.false_ne_true z.2)))
      rw [b_or, bo_or, hr i hi]
      constructor
      · rintro ((z | ⟨z1, t', z2, z3⟩) | z)
        · exact Or.inl z
        · exact Or.inr ⟨z1, t', by omega, z3⟩
        · exact Or.inr ⟨h1, t, by omega, h2, z⟩
      · rintro (z | ⟨z1, t', z2, z3⟩)
        · exact Or.inl (Or.inl z)
        · by_cases e : t' = t
          · subst e; exact Or.inr z3.2
          · exact Or.inl (Or.inr ⟨z1, t', by omega, z3⟩)
/-- a mask that holds a set of outcomes -/
def MK (m : Int32) (A : Nat → Bool) : Prop := ∀ i, i < 32 → (bt m i = true ↔ i < 8 ∧ A i = true)
theorem b_2s : ∀ v, v < 2 → ∀ i, i < 32 → bt ((2 : Int32) <<< (nI v &&& 31)) i = decide (i = 1 + v) := by decide +kernel
theorem MK_fy {k m : Int32} {kk a b : Nat} {A B : Nat → Bool} (ek : k = nI kk) (h4 : 4 ≤ kk) (h14 : kk ≤ 14) (hA : MK (ou a) A) (hB : MK (ou b) B)
    (hm : ∀ i, i < 32 → (bt m i = true ↔ ∃ s, s < 8 ∧ bt (ou a) s = true ∧ ∃ t, t < 8 ∧ bt (ou b) t = true ∧ bt (oc k (nI s) (nI t)) i = true)) : MK m (fy kk A B) := by
  intro i hi
  rw [hm i hi, fy_iff, ek]
  constructor
  · rintro ⟨s, hs, h1, t, ht, h2, h3⟩
    refine ⟨?_, s, hs, ((hA s (by omega)).mp h1).2, t, ht, ((hB t (by omega)).mp h2).2, h3⟩
    rcases Nat.lt_or_ge i 8 with z | z
    · exact z
    · have := cc_big (k := kk) (by omega) h4 hs ht z hi
      unfold ccb at this; rw [this] at h3; exact absurd h3 Bool.false_ne_true
  · rintro ⟨_, s, hs, h1, t, ht, h2, h3⟩
    exact ⟨s, hs, (hA s (by omega)).mpr ⟨hs, h1⟩, t, ht, (hB t (by omega)).mpr ⟨ht, h2⟩, h3⟩
theorem y_evalS {post : SY → Prop} {e q : Nat} {E Q : Int32} (eE : E = nI e) (eQ : Q = nI q) (hn : n ≤ 32) (hV : V ≤ 3) (hN : ∀ y, y < n → NW V nk na nb y) (he : e < n) (hq : q < 343)
    (h : ∀ ou', (∀ x, x ≤ e → MK (ou' x) (OO nk na nb (shq q) x)) → post (vc, mN, mL, nc, lc, ph, pt, nw, de, vx, vy, nk, na, nb, us, du, lk, lv, le, ou', ax, ay, ar, dn, ga)) : wpY_evaluate post (vc, mN, mL, nc, lc, ph, pt, nw, de, vx, vy, nk, na, nb, us, du, lk, lv, le, ou, ax, ay, ar, dn, ga) E Q 0 := by
  subst eE; subst eQ
  refine loop_0 (fun m i (o : Nat → Int32) => wY_evaluate_3 post (nI e) (nI q) 0 m (nI i) vc mN mL nc lc ph pt nw de vx vy nk na nb us du lk lv le o ax ay ar dn ga) (fun i o => ∀ x, x < i → MK (o x) (OO nk na nb (shq q) x)) (e + 1) ou (fun x hx => absurd hx (Nat.not_lt_zero x)) ?_ ?_
  · intro m o ho
    exact br_t (nI_lt (Nat.lt_succ_self e) (by omega)) (h o fun x hx => ho x (by omega))
  · intro m i o hi ho K
    have hii : vp_in (nI i) 32 := vp_in_nI (by omega) (by decide)
    have hc : (nI i).toNatClampNeg = i := nI_clamp (by omega)
    obtain ⟨k, k1, k14, hk, c1, c3, c4⟩ := hN i (by omega)
    refine br_f (nI_nlt (by omega) (by omega)) (And.intro hii (nm_r (e' := nI k) (by rw [hc]; exact hk) (And.intro hii (nm_r (e' := na i) (by rw [hc]) (And.intro hii (nm_r (e' := nb i) (by rw [hc]) ?_))))))
    have fin : ∀ M : Int32, MK M (OO nk na nb (shq q) i) → wY_evaluate_93 post (wY_evaluate_3 post (nI e) (nI q) 0 m) (nI e) (nI q) 0 (nI i) (nI k) (na i) (nb i) M (nI i) vc mN mL nc lc ph pt nw de vx vy nk na nb us du lk lv le o ax ay ar dn ga := by
      intro M hM
      refine And.intro hii (nm_r (e' := upd o i M) (by rw [hc]) (br_t rfl (nm_r (nI_1 i) (K _ fun x hx => ?_))))
      by_cases z : x = i
      · subst z; rw [pk_us]; exact hM
      · rw [pk_un z]; exact ho x (by omega)
    rcases (by omega : k = 1 ∨ k = 2 ∨ k = 3 ∨ 4 ≤ k) with rfl | rfl | rfl | h4
    · obtain ⟨v, hv, ev⟩ := c1 rfl
      refine br_t rfl (y_shape rfl ev hq (by omega) (fin _ fun j hj => ?_))
      rw [bt_p _ (by have := sq_lt (v := v) hq; omega) hj, OO_1 hk, ev, nI_clamp (by omega), decide_eq_true_iff]
      have := sq_lt (v := v) hq
      exact ⟨fun z => ⟨by omega, z⟩, fun z => z.2⟩
    · refine br_f (by decide) (br_t rfl (fin _ fun j hj => ?_))
      rw [bt_1, OO_2 hk, decide_eq_true_iff]
      exact ⟨fun z => ⟨by omega, z⟩, fun z => z.2⟩
    · obtain ⟨v, hv2, ev⟩ : ∃ v, v < 2 ∧ na i = nI v := by
        rcases c3 rfl with e | e
        · exact ⟨0, by omega, e⟩
        · exact ⟨1, by omega, e⟩
      refine br_f (by decide) (br_f (by decide) (br_t rfl (fin _ fun j hj => ?_)))
      rw [OO_3 hk, ev, b_2s v hv2 j hj, nI_clamp (by omega), decide_eq_true_iff]
      exact ⟨fun z => ⟨by omega, z⟩, fun z => z.2⟩
    · obtain ⟨a, b, ha, hb, ea, eb, _⟩ := c4 h4
      refine br_f (nI_ne (b := 1) (by omega) (by omega) (by decide)) (br_f (nI_ne (b := 2) (by omega) (by omega) (by decide)) (br_f (nI_ne (b := 3) (by omega) (by omega) (by decide)) (y_combine ea eb (by omega) (by omega) fun M hM => fin M ?_)))
      have := MK_fy rfl h4 k14 (ho a (by omega)) (ho b (by omega)) hM
      intro j hj
      rw [OO_4 hk h4 k14 ea eb ha hb (by omega)]
      exact this j hj
end NT23
end
section
section NT24
variable {vc mN mL nc lc dp pd vd ph pt nw : Int32} {de nk na nb us lk lv le ju el ol ow vs vx vy ws wx wy du ou ax ay ar dn ga : Nat → Int32} {gv er sn re : Nat → Int64}
variable {V n l : Nat}
def KT (n p q e : Nat) (nk na nb ow : Nat → Int32) (sn : Nat → Int64) (O : Nat → Nat → Bool) : Prop :=
  ow e = nI p ∧ Rc sn e q ∧
  (∀ x k, x < n → nk x = nI k → 4 ≤ k → k ≤ 14 → ow (na x).toNatClampNeg = ow x ∧ (Rc sn (na x).toNatClampNeg q ↔ Rc sn x q) ∧ (bN k → ow (nb x).toNatClampNeg = ow x ∧ (Rc sn (nb x).toNatClampNeg q ↔ Rc sn x q ∧ orr (O (na x).toNatClampNeg) (slo k) (scn k) = true))) ∧
  (∀ z, z < n → ow z = nI p → z ≤ e ∧ (z = e ∨ ∃ y, y < n ∧ y ≤ e ∧ ow y = nI p ∧ Pr nk na nb z y))
def KI (p q e : Nat) (nk na nb ow : Nat → Int32) (sn : Nat → Int64) (O : Nat → Nat → Bool) (ou ga0 : Nat → Int32) (i : Nat) (du ga : Nat → Int32) : Prop :=
  (∀ x, x ≤ e → ¬ du x = 0 → ow x = nI p ∧ Rc sn x q) ∧ ¬ du e = 0 ∧
  (∀ y k, i ≤ y → y ≤ e → nk y = nI k → 4 ≤ k → k ≤ 14 → ¬ du y = 0 → ¬ du (na y).toNatClampNeg = 0 ∧ (bN k → orr (O (na y).toNatClampNeg) (slo k) (scn k) = true → ¬ du (nb y).toNatClampNeg = 0)) ∧
  (∀ x q', x < 32 → q' < 343 → ga (x * 343 + q') = if q' = q ∧ i ≤ x ∧ x ≤ e ∧ ¬ du x = 0 then ou x else ga0 (x * 343 + q')) ∧ i ≤ e + 1
def SD (O : Nat → Nat → Bool) (k a b : Nat) (du du' : Nat → Int32) : Prop :=
  (∀ z, z ≠ a → (bN k → z ≠ b) → du' z = du z) ∧ ¬ du' a = 0 ∧ (bN k → (¬ du' b = 0 ↔ orr (O a) (slo k) (scn k) = true))
theorem KI_0 {p q e i : Nat} {nk na nb ow ou ga0 du ga : Nat → Int32} {sn : Nat → Int64} {O : Nat → Nat → Bool} (h : KI p q e nk na nb ow sn O ou ga0 (i + 1) du ga) (h0 : du i = 0) : KI p q e nk na nb ow sn O ou ga0 i du ga := by
  obtain ⟨h1, h2, h3, h4, h5⟩ := h
  refine ⟨h1, h2, fun y k a b c d f g => ?_, fun x q' hx hq' => ?_, by omega⟩
  · by_cases e1 : y = i
    · subst e1; exact absurd h0 g
    · exact h3 y k (by omega) b c d f g
  · rw [h4 x q' hx hq']
    by_cases e1 : x = i
    · subst e1
      rw [if_neg (fun z => z.2.2.2 h0), if_neg (fun z => z.2.2.2 h0)]
    · by_cases c : q' = q ∧ i ≤ x ∧ x ≤ e ∧ ¬ du x = 0
      · rw [if_pos c, if_pos ⟨c.1, by omega, c.2.2⟩]
      · rw [if_neg c, if_neg (fun z => c ⟨z.1, by omega, z.2.2⟩)]
theorem ga_up {p q e i : Nat} {ou ga0 du du' ga : Nat → Int32} (hq : q < 343) (hie : i ≤ e) (h4 : ∀ x q', x < 32 → q' < 343 → ga (x * 343 + q') = if q' = q ∧ i + 1 ≤ x ∧ x ≤ e ∧ ¬ du x = 0 then ou x else ga0 (x * 343 + q')) (hd : ∀ x, i ≤ x → du' x = du x) (hn : ¬ du i = 0) :
    ∀ x q', x < 32 → q' < 343 → upd ga (i * 343 + q) (ou i) (x * 343 + q') = if q' = q ∧ i ≤ x ∧ x ≤ e ∧ ¬ du' x = 0 then ou x else ga0 (x * 343 + q') := by
  intro x q' hx hq'
  by_cases e1 : x * 343 + q' = i * 343 + q
  · obtain ⟨rfl, rfl⟩ : x = i ∧ q' = q := by omega
    rw [pk_us, if_pos ⟨rfl, Nat.le_refl _, hie, by rw [hd x (Nat.le_refl x)]; exact hn⟩]
  · rw [pk_un e1, h4 x q' hx hq']
    by_cases c : q' = q ∧ i + 1 ≤ x ∧ x ≤ e ∧ ¬ du x = 0
    · rw [if_pos c, if_pos ⟨c.1, by omega, c.2.2.1, by rw [hd x (by omega)]; exact c.2.2.2⟩]
    · rw [if_neg c, if_neg (fun z => c ⟨z.1, by have : x ≠ i := fun y => e1 (by rw [y, z.1]); omega, z.2.2.1, by rw [← hd x z.2.1]; exact z.2.2.2⟩)]
theorem KI_l {p q e i k : Nat} {nk na nb ow ou ga0 du ga : Nat → Int32} {sn : Nat → Int64} {O : Nat → Nat → Bool} (h : KI p q e nk na nb ow sn O ou ga0 (i + 1) du ga) (hq : q < 343) (h0 : ¬ du i = 0) (hk : nk i = nI k) (k4 : k < 4) : KI p q e nk na nb ow sn O ou ga0 i du (upd ga (i * 343 + q) (ou i)) := by
  obtain ⟨h1, h2, h3, h4, h5⟩ := h
  refine ⟨h1, h2, fun y k' a b c d f g => ?_, ga_up (p := p) hq (by omega) h4 (fun _ _ => rfl) h0, by omega⟩
  by_cases e1 : y = i
  · subst e1
    rw [hk] at c
    have := na_inj c (by omega) (by omega)
    omega
  · exact h3 y k' (by omega) b c d f g
theorem KI_s {p q e i k a b : Nat} {nk na nb us lk le ow ou ga0 du du' ga : Nat → Int32} {sn : Nat → Int64} {O : Nat → Nat → Bool} {par : Nat → Nat} (hP : PU n l nk na nb us lk le par) (hT : KT n p q e nk na nb ow sn O) (hen : e < n) (hpe : ∀ x, x < n → par e ≠ 2 * x ∧ par e ≠ 2 * x + 1)
    (h : KI p q e nk na nb ow sn O ou ga0 (i + 1) du ga) (hq : q < 343) (h0 : ¬ du i = 0) (hk : nk i = nI k) (k4 : 4 ≤ k) (k14 : k ≤ 14) (ha : (na i).toNatClampNeg = a) (hb : (nb i).toNatClampNeg = b) (hai : a < i) (hbi : b < i) (hS : SD O k a b du du') :
    KI p q e nk na nb ow sn O ou ga0 i du' (upd ga (i * 343 + q) (ou i)) := by
  obtain ⟨h1, h2, h3, h4, h5⟩ := h
  obtain ⟨s1, s2, s3⟩ := hS
  obtain ⟨_, _, t3, _⟩ := hT
  obtain ⟨pa, _, pb⟩ := hP.1 i k (by omega) hk k4 k14
  rw [ha] at pa
  rw [hb] at pb
  have up : ∀ x, i ≤ x → du' x = du x := fun x hx => s1 x (by omega) (fun _ => by omega)
  have keep : ∀ z, par z ≠ 2 * i → par z ≠ 2 * i + 1 → du' z = du z := fun z z1 z2 => s1 z (fun y => z1 (by rw [y]; exact pa)) (fun hbk y => z2 (by rw [y]; exact (pb hbk).1))
  obtain ⟨oa, va, vb⟩ := t3 i k (by omega) hk k4 k14
  rw [ha] at oa va vb
  rw [hb] at vb
  obtain ⟨oi, vi⟩ := h1 i (by omega) h0
  refine ⟨fun x hx hd => ?_, by rw [keep e (hpe i (by omega)).1 (hpe i (by omega)).2]; exact h2, fun y k' c d f g m o => ?_, ga_up (p := p) hq (by omega) h4 up h0, by omega⟩
  · by_cases ea : x = a
    · subst ea; exact ⟨oa.trans oi, va.mpr vi⟩
    · by_cases eb : bN k ∧ x = b
      · obtain ⟨hbk, rfl⟩ := eb
        exact ⟨(vb hbk).1.trans oi, (vb hbk).2.mpr ⟨vi, (s3 hbk).mp hd⟩⟩
      · rw [s1 x ea (fun hbk y => eb ⟨hbk, y⟩)] at hd
        exact h1 x hx hd
  · by_cases e1 : y = i
    · subst e1
      rw [hk] at f
      have := na_inj f (by omega) (by omega)
      subst this
      rw [ha, hb]
      exact ⟨s2, fun hbk => (s3 hbk).mpr⟩
    · rw [up y c] at o
      obtain ⟨q1, _, q3⟩ := hP.1 y k' (by omega) f g m
      obtain ⟨r1, r2⟩ := h3 y k' (by omega) d f g m o
      refine ⟨by rw [keep _ (by omega) (by omega)]; exact r1, fun hbk hor => ?_⟩
      have := (q3 hbk).1
      rw [keep _ (by omega) (by omega)]; exact r2 hbk hor
theorem KI_f {p q e : Nat} {nk na nb us lk le ow ou ga0 du ga : Nat → Int32} {sn : Nat → Int64} {O : Nat → Nat → Bool} {par : Nat → Nat} (hP : PU n l nk na nb us lk le par) (hT : KT n p q e nk na nb ow sn O) (hen : e < n)
    (h : KI p q e nk na nb ow sn O ou ga0 0 du ga) : ∀ d x, x + d = e → (¬ du x = 0 ↔ ow x = nI p ∧ Rc sn x q) := by
  obtain ⟨h1, h2, h3, h4, h5⟩ := h
  obtain ⟨_, _, t3, t4⟩ := hT
  intro d
  induction d using Nat.strongRecOn with
  | _ d ih =>
    intro x hx
    refine ⟨h1 x (by omega), fun ⟨ho, hr⟩ => ?_⟩
    obtain ⟨_, z | ⟨y, y1, y2, y3, k, yk, y4, y14, yx, yc⟩⟩ := t4 x (by omega) ho
    · rw [z]; exact h2
    · obtain ⟨oa, va, vb⟩ := t3 y k y1 yk y4 y14
      have hy := ih (e - y) (by omega) y (by omega)
      rcases yc with yc | ⟨hbk, yc⟩
      · rw [yc] at va
        have := h3 y k (Nat.zero_le y) y2 yk y4 y14 (hy.mpr ⟨y3, va.mp hr⟩)
        rw [yc] at this; exact this.1
      · rw [yc] at vb
        obtain ⟨r1, r2⟩ := (vb hbk).2.mp hr
        have := h3 y k (Nat.zero_le y) y2 yk y4 y14 (hy.mpr ⟨y3, r1⟩)
        rw [yc] at this; exact this.2 hbk r2
theorem b_127 : ∀ i, i < 32 → bt 127 i = decide (i < 7) := by decide +kernel
theorem nr_1 : ¬ vp_nar .boolean 1 = 0 := by rw [na_b1]; decide
theorem y_keep86 {post : SY → Prop} {J : Int32 → (Nat → Int32) → (Nat → Int32) → (Nat → Int32) → (Nat → Int32) → (Nat → Int32) → (Nat → Int32) → (Nat → Int32) → (Nat → Int32) → (Nat → Int32) → (Nat → Int32) → (Nat → Int32) → (Nat → Int32) → (Nat → Int32) → (Nat → Int32) → (Nat → Int32) → (Nat → Int32) → (Nat → Int32) → Prop} {q i k a b : Nat} {O : Nat → Nat → Bool} {KA KB : Int32}
    (hi : i < 32) (h0 : ¬ du i = 0) (k14 : k ≤ 14) (ha : 4 ≤ k → KA = nI a ∧ KB = nI b ∧ a < i ∧ b < i ∧ MK (ou a) (O a)) (hab : bN k → a ≠ b)
    (hl : k < 4 → J (nI i - 1) de vx vy nk na nb us du lk lv le ou ax ay ar dn ga) (hs : 4 ≤ k → ∀ du', SD O k a b du du' → J (nI i - 1) de vx vy nk na nb us du' lk lv le ou ax ay ar dn ga) : wY_keep_86 post J (nI q) (nI i) (nI k) KA KB vc mN mL nc lc ph pt nw de vx vy nk na nb us du lk lv le ou ax ay ar dn ga := by
  have hii : vp_in (nI i) 32 := vp_in_nI hi (by decide)
  have hc : (nI i).toNatClampNeg = i := nI_clamp (by omega)
  have h0' : ¬ du (nI i).toNatClampNeg = 0 := by rw [hc]; exact h0
  have ne : ∀ c : Nat, c < 20 → k ≠ c → ¬ nI k = nI c := fun c hc h => nI_ne h (by omega) (by omega)
  by_cases k4 : k < 4
  · exact And.intro hii (br_f h0' (br_t (nI_lt (b := 4) k4 (by decide)) (And.intro hii (br_f h0' (br_f (ne 4 (by decide) (by omega)) (br_f (ne 5 (by decide) (by omega)) (br_f (ne 9 (by decide) (by omega)) (And.intro hii (br_f h0' (br_f (ne 7 (by decide) (by omega)) (And.intro hii (br_f h0' (br_f (ne 8 (by decide) (by omega)) (nm_r (na_mm1 _) (hl k4)))))))))))))))
  · obtain ⟨rfl, rfl, hai, hbi, hMK⟩ := ha (by omega)
    have hca : (nI a).toNatClampNeg = a := nI_clamp (by omega)
    have hcb : (nI b).toNatClampNeg = b := nI_clamp (by omega)
    have hia : vp_in (nI a) 32 := vp_in_nI (by omega) (by decide)
    have hib : vp_in (nI b) 32 := vp_in_nI (by omega) (by decide)
    have hs := hs (by omega)
    refine And.intro hii (br_f h0' (br_f (nI_nlt (b := 4) (by omega) (by omega)) (And.intro hia (nm_r (e' := upd du a (vp_nar .boolean 1)) (by rw [hca]) (And.intro hii ?_)))))
    have d1 : ¬ upd du a (vp_nar .boolean 1) (nI i).toNatClampNeg = 0 := by rw [hc, pk_un (by omega)]; exact h0
    refine br_f d1 ?_
    have una : ¬ bN k → SD O k a b du (upd du a (vp_nar .boolean 1)) := fun nb => ⟨fun z z1 _ => pk_un z1, by rw [pk_us]; exact nr_1, fun z => absurd z nb⟩
    have bin : bN k → ∀ r : Int32, (r = 0 ∨ r = 1) → (¬ r = 0 ↔ orr (O a) (slo k) (scn k) = true) → SD O k a b du (upd (upd du a (vp_nar .boolean 1)) b (vp_nar .boolean r)) := fun hbk r hr hor => by
      have hab' := hab hbk
      have nar : vp_nar .boolean r = r := by rcases hr with rfl | rfl; exact na_b0; exact na_b1
      exact ⟨fun z z1 z2 => by rw [pk_un (z2 hbk), pk_un z1], by rw [pk_un hab', pk_us]; exact nr_1, fun _ => by rw [pk_us, nar]; exact hor⟩
    have d2 : ∀ r, ¬ upd (upd du a (vp_nar .boolean 1)) b r (nI i).toNatClampNeg = 0 := fun r => by rw [hc, pk_un (by omega), pk_un (by omega)]; exact h0
    by_cases k459 : k = 4 ∨ k = 5 ∨ k = 9
    · have hbk : bN k := by unfold bN; omega
      have e1 : slo k = 0 := by unfold slo; rw [if_neg (by omega), if_neg (by omega)]
      have e2 : scn k = 7 := by unfold scn; rw [if_neg (by omega), if_neg (by omega)]
      have key : ¬ (ou a &&& 127) = 0 ↔ orr (O a) (slo k) (scn k) = true := by
        rw [b_nz, e1, e2, orr_iff]
        constructor
        · rintro ⟨j, hj, z⟩
          rw [b_and, bo_and, b_127 j hj, decide_eq_true_iff] at z
          exact ⟨j, Nat.zero_le j, by omega, ((hMK j hj).mp z.1).2⟩
        · rintro ⟨j, _, hj, z⟩
          exact ⟨j, by omega, by rw [b_and, bo_and, b_127 j (by omega), decide_eq_true_iff]; exact ⟨(hMK j (by omega)).mpr ⟨by omega, z⟩, by omega⟩⟩
      have g161 : ∀ r : Int32, (r = 0 ∨ r = 1) → (¬ r = 0 ↔ orr (O a) (slo k) (scn k) = true) → wY_keep_161 post J (nI q) (nI i) (nI k) (nI a) (nI b) r (nI b) vc mN mL nc lc ph pt nw de vx vy nk na nb us (upd du a (vp_nar .boolean 1)) lk lv le ou ax ay ar dn ga := fun r hr hor =>
        And.intro hib (nm_r (e' := upd (upd du a (vp_nar .boolean 1)) b (vp_nar .boolean r)) (by rw [hcb]) (And.intro hii (br_f (d2 _) (br_f (ne 7 (by decide) (by omega)) (And.intro hii (br_f (d2 _) (br_f (ne 8 (by decide) (by omega)) (nm_r (na_mm1 _) (hs _ (bin hbk r hr hor))))))))))
      have g137 : wY_keep_137 post J (nI q) (nI i) (nI k) (nI a) (nI b) vc mN mL nc lc ph pt nw de vx vy nk na nb us (upd du a (vp_nar .boolean 1)) lk lv le ou ax ay ar dn ga := by
        refine And.intro hia ?_
        rw [hca]
        by_cases z : (ou a &&& 127) = 0
        · exact br_t z (g161 0 (Or.inl rfl) ⟨fun y => absurd rfl y, fun y => absurd z (key.mpr y)⟩)
        · exact br_f z (g161 1 (Or.inr rfl) ⟨fun _ => key.mp z, fun _ => i1_0⟩)
      rcases k459 with rfl | rfl | rfl
      · exact br_t rfl g137
      · exact br_f (by decide) (br_t rfl g137)
      · exact br_f (by decide) (br_f (by decide) (br_t rfl g137))
    · refine br_f (ne 4 (by decide) (by omega)) (br_f (ne 5 (by decide) (by omega)) (br_f (ne 9 (by decide) (by omega)) (And.intro hii (br_f d1 ?_))))
      by_cases k7 : k = 7
      · subst k7
        refine br_t rfl (And.intro hia ?_)
        rw [hca]
        have g : ∀ r : Int32, (r = 0 ∨ r = 1) → (¬ r = 0 ↔ orr (O a) (slo 7) (scn 7) = true) → wY_keep_197 post J (nI q) (nI i) (nI 7) (nI a) (nI b) vc mN mL nc lc ph pt nw de vx vy nk na nb us (upd (upd du a (vp_nar .boolean 1)) b (vp_nar .boolean r)) lk lv le ou ax ay ar dn ga := fun r hr hor =>
          And.intro hii (br_f (d2 _) (br_f (by decide) (nm_r (na_mm1 _) (hs _ (bin (by unfold bN; omega) r hr hor)))))
        have key : bt (ou a) 2 = true ↔ orr (O a) (slo 7) (scn 7) = true := by
          rw [hMK 2 (by decide), orr_iff]
          constructor
          · rintro ⟨_, z⟩; exact ⟨2, by decide, by decide, z⟩
          · rintro ⟨j, z1, z2, z⟩
            have : j = 2 := by have e1 : slo 7 = 2 := rfl; have e2 : scn 7 = 1 := rfl; omega
            subst this; exact ⟨by decide, z⟩
        exact y_has rfl (by decide) (fun z => And.intro hib (nm_r (by rw [hcb]) (g 1 (Or.inr rfl) ⟨fun _ => key.mp z, fun _ => i1_0⟩))) (fun z => And.intro hib (nm_r (by rw [hcb]) (g 0 (Or.inl rfl) ⟨fun y => absurd rfl y, fun y => by rw [key.mpr y] at z; exact absurd z.symm Bool.false_ne_true⟩)))
      · refine br_f (ne 7 (by decide) k7) (And.intro hii (br_f d1 ?_))
        by_cases k8 : k = 8
        · subst k8
          refine br_t rfl (And.intro hia ?_)
          rw [hca]
          have key : bt (ou a) 1 = true ↔ orr (O a) (slo 8) (scn 8) = true := by
            rw [hMK 1 (by decide), orr_iff]
            constructor
            · rintro ⟨_, z⟩; exact ⟨1, by decide, by decide, z⟩
            · rintro ⟨j, z1, z2, z⟩
              have : j = 1 := by have e1 : slo 8 = 1 := rfl; have e2 : scn 8 = 1 := rfl; omega
              subst this; exact ⟨by decide, z⟩
          exact y_has rfl (by decide) (fun z => And.intro hib (nm_r (e' := upd (upd du a (vp_nar .boolean 1)) b (vp_nar .boolean 1)) (by rw [hcb]) (nm_r (na_mm1 _) (hs _ (bin (by unfold bN; omega) 1 (Or.inr rfl) ⟨fun _ => key.mp z, fun _ => i1_0⟩))))) (fun z => And.intro hib (nm_r (e' := upd (upd du a (vp_nar .boolean 1)) b (vp_nar .boolean 0)) (by rw [hcb]) (nm_r (na_mm1 _) (hs _ (bin (by unfold bN; omega) 0 (Or.inl rfl) ⟨fun y => absurd rfl y, fun y => by rw [key.mpr y] at z; exact absurd z.symm Bool.false_ne_true⟩)))))
        · exact br_f (ne 8 (by decide) k8) (nm_r (na_mm1 _) (hs _ (una (by unfold bN; omega))))
theorem y_keep86_0 {post : SY → Prop} {J : Int32 → (Nat → Int32) → (Nat → Int32) → (Nat → Int32) → (Nat → Int32) → (Nat → Int32) → (Nat → Int32) → (Nat → Int32) → (Nat → Int32) → (Nat → Int32) → (Nat → Int32) → (Nat → Int32) → (Nat → Int32) → (Nat → Int32) → (Nat → Int32) → (Nat → Int32) → (Nat → Int32) → (Nat → Int32) → Prop} {q i : Nat} {KK KA KB : Int32}
    (hi : i < 32) (h0 : du i = 0) (hl : J (nI i - 1) de vx vy nk na nb us du lk lv le ou ax ay ar dn ga) : wY_keep_86 post J (nI q) (nI i) KK KA KB vc mN mL nc lc ph pt nw de vx vy nk na nb us du lk lv le ou ax ay ar dn ga := by
  have hii : vp_in (nI i) 32 := vp_in_nI hi (by decide)
  have h0' : du (nI i).toNatClampNeg = 0 := by rw [nI_clamp (by omega)]; exact h0
  exact And.intro hii (br_t h0' (And.intro hii (br_t h0' (And.intro hii (br_t h0' (And.intro hii (br_t h0' (nm_r (na_mm1 _) hl))))))))
theorem y_keep {post : SY → Prop} {p q e : Nat} {O : Nat → Nat → Bool} {par : Nat → Nat} (hn : n ≤ 32) (hN : ∀ y, y < n → NW V nk na nb y) (hP : PU n l nk na nb us lk le par) (hT : KT n p q e nk na nb ow sn O) (hen : e < n) (hpe : ∀ x, x < n → par e ≠ 2 * x ∧ par e ≠ 2 * x + 1)
    (hq : q < 343) (hO : ∀ x, x ≤ e → MK (ou x) (O x))
    (h : ∀ du' ga', (∀ x q', x < 32 → q' < 343 → (q' = q ∧ x ≤ e ∧ ow x = nI p ∧ Rc sn x q → ga' (x * 343 + q') = ou x) ∧ (¬ (q' = q ∧ x ≤ e ∧ ow x = nI p ∧ Rc sn x q) → ga' (x * 343 + q') = ga (x * 343 + q'))) → post (vc, mN, mL, nc, lc, ph, pt, nw, de, vx, vy, nk, na, nb, us, du', lk, lv, le, ou, ax, ay, ar, dn, ga')) : wpY_keep post (vc, mN, mL, nc, lc, ph, pt, nw, de, vx, vy, nk, na, nb, us, du, lk, lv, le, ou, ax, ay, ar, dn, ga) (nI e) (nI q) := by
  refine loop_0 (fun m i (d : Nat → Int32) => wY_keep_2 post (nI e) (nI q) vc mN mL nc lc ph pt nw m (nI i) de vx vy nk na nb us d lk lv le ou ax ay ar dn ga) (fun i d => ∀ x, x < i → d x = if x = e then 1 else 0) (e + 1) du (fun x hx => absurd hx (Nat.not_lt_zero x)) ?_ ?_
  · intro m d hd
    refine br_t (nI_lt (Nat.lt_succ_self e) (by omega)) ?_
    have I0 : KI p q e nk na nb ow sn O ou ga (e + 1) d ga := by
      refine ⟨fun x hx z => ?_, ?_, fun y k a b => by omega, fun x q' _ _ => by rw [if_neg (fun z => by omega)], Nat.le_refl _⟩
      · rw [hd x (by omega)] at z
        by_cases c : x = e
        · subst c; exact ⟨hT.1, hT.2.1⟩
        · rw [if_neg c] at z; exact absurd rfl z
      · rw [hd e (by omega), if_pos rfl]; exact i1_0
    have L := pk_loopD (fun m i (t : (Nat → Int32) × (Nat → Int32)) => wY_keep_31 post (nI q) vc mN mL nc lc ph pt nw m (nI i - 1) de vx vy nk na nb us t.1 lk lv le ou ax ay ar dn t.2) (fun i t => KI p q e nk na nb ow sn O ou ga i t.1 t.2) ?_ ?_ (e + 1) (d, ga) I0
    · dsimp only at L
      rw [nI_pred] at L
      exact ⟨_, L⟩
    · rintro m ⟨d1, g1⟩ hI
      have F := KI_f hP hT hen hI
      refine br_t nJ_neg (h d1 g1 fun x q' hx hq' => ?_)
      have := hI.2.2.2.1 x q' hx hq'
      dsimp only at this F
      constructor
      · rintro ⟨c1, c2, c3⟩
        rw [this, if_pos ⟨c1, Nat.zero_le x, c2, (F (e - x) x (by omega)).mpr c3⟩]
      · intro c
        rw [this, if_neg (fun z => c ⟨z.1, z.2.2.1, (F (e - x) x (by omega)).mp z.2.2.2⟩)]
    · rintro m i ⟨d1, g1⟩ hI K
      have hie := hI.2.2.2.2
      have hii : vp_in (nI i) 32 := vp_in_nI (by omega) (by decide)
      have hc : (nI i).toNatClampNeg = i := nI_clamp (by omega)
      have eg := na_343 i q
      dsimp only at hI ⊢
      rw [nI_pred]
      obtain ⟨k, k1, k14, hk, _, _, c4⟩ := hN i (by omega)
      refine br_f (nI_pos (by omega)) (And.intro hii (nm_r (e' := nI k) (by rw [hc]; exact hk) (And.intro hii (nm_r (e' := na i) (by rw [hc]) (And.intro hii (nm_r (e' := nb i) (by rw [hc]) (And.intro hii ?_)))))))
      rw [hc]
      by_cases h0 : d1 i = 0
      · exact br_t h0 (y_keep86_0 (by omega) h0 (K (d1, g1) (KI_0 hI h0)))
      · refine br_f h0 (And.intro hii (And.intro (na_in eg (by omega) (by decide)) (nm_r (e' := upd g1 (i * 343 + q) (ou i)) (by rw [na_cl eg (by omega)]) ?_)))
        rcases Nat.lt_or_ge k 4 with k4 | k4
        · exact y_keep86 (a := 0) (b := 0) (O := O) (by omega) h0 k14 (fun z => by omega) (fun z => by unfold bN at z; omega) (fun _ => K (d1, _) (KI_l hI hq h0 hk k4)) (fun z => by omega)
        · obtain ⟨a, b, ha, hb, ea, eb, _⟩ := c4 k4
          have ca : (na i).toNatClampNeg = a := by rw [ea, nI_clamp (by omega)]
          have cb : (nb i).toNatClampNeg = b := by rw [eb, nI_clamp (by omega)]
          refine y_keep86 (a := a) (b := b) (O := O) (by omega) h0 k14 (fun _ => ⟨ea, eb, ha, hb, hO a (by omega)⟩) (fun hbk z => ?_) (fun z => by omega) (fun _ d2 hS => K (d2, _) (KI_s hP hT hen hpe hI hq h0 hk k4 k14 ca cb ha hb hS))
          obtain ⟨q1, _, q3⟩ := hP.1 i k (by omega) hk k4 k14
          have := (q3 hbk).1
          rw [ca] at q1; rw [cb, ← z] at this; omega
  · intro m i d hi hd K
    have hii : vp_in (nI i) 32 := vp_in_nI (by omega) (by decide)
    have hc : (nI i).toNatClampNeg = i := nI_clamp (by omega)
    refine br_f (nI_nlt (by omega) (by omega)) ?_
    by_cases c : i = e
    · refine br_t (congrArg nI c) (And.intro hii (nm_r (e' := upd d i 1) (by rw [hc, na_b1]) (nm_r (nI_1 i) (K _ fun x hx => ?_))))
      by_cases z : x = i
      · rw [z, pk_us, if_pos c]
      · rw [pk_un z]; exact hd x (by omega)
    · refine br_f (nI_ne c (by omega) (by omega)) (And.intro hii (nm_r (e' := upd d i 0) (by rw [hc, na_b0]) (nm_r (nI_1 i) (K _ fun x hx => ?_))))
      by_cases z : x = i
      · rw [z, pk_us, if_neg c]
      · rw [pk_un z]; exact hd x (by omega)
end NT24
end
section
section NT25
variable {vc mN mL nc lc dp pd vd ph pt nw : Int32} {de nk na nb us lk lv le ju el ol ow vs vx vy ws wx wy du ou ax ay ar dn ga : Nat → Int32} {gv er sn re : Nat → Int64}
variable {V n l : Nat}
noncomputable def sto (lk : Nat → Int32) (l p s : Nat) : Nat := if opk (lk p) = true ∧ s = 2 then p + 1 else gl lk l p
def snx (k q v s : Nat) : Nat := if k = 1 then pq q v s else q
theorem y_goalT {post : Int32 → Prop} {p s : Nat} {P T : Int32} (eP : P = nI p) (hT : (s = 2 ∧ T = 1) ∨ (¬ s = 2 ∧ T = 0)) (hlc : lc = nI l) (hl : l ≤ 16) (hp : p < l) (h0 : opn lk l 0 = none) (h3 : lk p = 3 → ∃ o, opn lk p 0 = some o)
    (h : post (nI (sto lk l p s))) : wpY_goal post (vc, mN, mL, nc, lc, ph, pt, nw, de, vx, vy, nk, na, nb, us, du, lk, lv, le, ou, ax, ay, ar, dn, ga) P T := by
  refine y_goal eP hlc hl hp h0 h3 (by rcases hT with ⟨_, t⟩ | ⟨_, t⟩; exact Or.inr t; exact Or.inl t) ?_
  unfold sto at h
  rcases hT with ⟨s2, t⟩ | ⟨s2, t⟩
  · by_cases c : opk (lk p) = true
    · rw [if_pos ⟨c, t⟩]; rw [if_pos ⟨c, s2⟩] at h; exact h
    · rw [if_neg (fun z => c z.1)]; rw [if_neg (fun z => c z.1)] at h; exact h
  · rw [if_neg (fun z => by have := z.2; rw [t] at this; exact absurd this (by decide))]
    rw [if_neg (fun z => s2 z.2)] at h; exact h
theorem sto_le {lk : Nat → Int32} {p s : Nat} (hp : p < l) : sto lk l p s ≤ l := by
  unfold sto; split
  · omega
  · exact gl_le hp
theorem snx_lt {k q v s : Nat} (hq : q < 343) (hs : s < 7) : snx k q v s < 343 := by
  unfold snx; split
  · exact pq_lt hq hs
  · exact hq
/-- one outcome of line p that goes on -/
theorem y_step106 {post : Int32 → SY → Prop} {J : Int32 → Int32 → Int32 → Int32 → (Nat → Int32) → (Nat → Int32) → (Nat → Int32) → (Nat → Int32) → (Nat → Int32) → (Nat → Int32) → (Nat → Int32) → (Nat → Int32) → (Nat → Int32) → (Nat → Int32) → (Nat → Int32) → (Nat → Int32) → (Nat → Int32) → (Nat → Int32) → (Nat → Int32) → (Nat → Int32) → (Nat → Int32) → Prop} {p q k v i : Nat} {R E U o : Int32}
    (hlc : lc = nI l) (hl : l ≤ 16) (hp : p < l) (h0 : opn lk l 0 = none) (h3 : lk p = 3 → ∃ o, opn lk p 0 = some o) (hq : q < 343) (hi : i < 7) (k6 : k ≤ 6) (hv : k = 1 → U = nI v ∧ v < 3)
    (hS : R = 0 → J 1 (nI (i + 1)) pt nw de vx vy nk na nb us du lk lv le ou ax ay (upd ar (sto lk l p i * 343 + snx k q v i) 1) dn ga) (hR : ¬ R = 0 → J 1 (nI (i + 1)) (nI (sto lk l p i)) (nI (snx k q v i)) de vx vy nk na nb us du lk lv le ou ax ay ar dn ga) :
    wY_step_106 post J (nI p) (nI q) R (nI k) E U o (nI i) vc mN mL nc lc ph pt nw de vx vy nk na nb us du lk lv le ou ax ay ar dn ga := by
  have g143 : wY_step_143 post J (nI p) (nI q) R (nI k) E U o (nI i) (nI (sto lk l p i)) (nI (snx k q v i)) vc mN mL nc lc ph pt nw de vx vy nk na nb us du lk lv le ou ax ay ar dn ga := by
    have a1 := sto_le (lk := lk) (s := i) hp
    have a2 := snx_lt (k := k) (v := v) hq hi
    have e := na_343 (sto lk l p i) (snx k q v i)
    by_cases r : R = 0
    · exact br_t r (br_t r (br_t r (And.intro (na_in e (by omega) (by decide)) (nm_r (e' := upd ar (sto lk l p i * 343 + snx k q v i) 1) (by rw [na_cl e (by omega), na_b1]) (nm_r (nI_1 i) (hS r))))))
    · exact br_f r (br_f r (br_f r (nm_r (nI_1 i) (hR r))))
  have g119 : ∀ T : Int32, (i = 2 ∧ T = 1) ∨ (¬ i = 2 ∧ T = 0) → wY_step_119 post J (nI p) (nI q) R (nI k) E U o (nI i) T (nI p) vc mN mL nc lc ph pt nw de vx vy nk na nb us du lk lv le ou ax ay ar dn ga := by
    intro T hT
    unfold wY_step_119
    refine y_goalT rfl hT hlc hl hp h0 h3 ?_
    by_cases k1 : k = 1
    · obtain ⟨rfl, hv3⟩ := hv k1
      refine br_t (congrArg nI k1) (y_put rfl rfl rfl hq hv3 hi ?_)
      unfold snx at g143
      rw [if_pos k1] at g143
      exact g143
    · refine br_f (nI_ne (b := 1) k1 (by omega) (by decide)) ?_
      unfold snx at g143
      rw [if_neg k1] at g143
      exact g143
  by_cases i2 : i = 2
  · exact br_t (congrArg nI i2) (g119 1 (Or.inl ⟨i2, rfl⟩))
  · exact br_f (nI_ne (b := 2) i2 (by omega) (by decide)) (g119 0 (Or.inr ⟨i2, rfl⟩))
theorem n01 {r : Int32} (h : r = 0 ∨ r = 1) : narrow .boolean (.int r) = .int r := na_nb h
theorem y_step70S {post : Int32 → SY → Prop} {p q k v : Nat} {E U o : Int32}
    (hlc : lc = nI l) (hl : l ≤ 16) (hp : p < l) (h0 : opn lk l 0 = none) (h3 : lk p = 3 → ∃ o, opn lk p 0 = some o) (hq : q < 343) (k6 : k ≤ 6) (hv : k = 1 → U = nI v ∧ v < 3)
    (h : ∀ r ar', (∀ p' q', p' < 17 → q' < 343 → (¬ ar' (p' * 343 + q') = 0 ↔ ¬ ar (p' * 343 + q') = 0 ∨ ∃ s, s < 7 ∧ bt o s = true ∧ (k = 1 ∨ s = 1 ∨ s = 2) ∧ p' = sto lk l p s ∧ q' = snx k q v s)) → post r (vc, mN, mL, nc, lc, ph, pt, nw, de, vx, vy, nk, na, nb, us, du, lk, lv, le, ou, ax, ay, ar', dn, ga)) :
    ∃ m, wY_step_70 post (nI p) (nI q) 0 (nI k) E U o vc mN mL nc lc ph m 0 0 pt nw de vx vy nk na nb us du lk lv le ou ax ay ar dn ga := by
  refine loop_0 (fun m i (t : Int32 × (Nat → Int32)) => wY_step_70 post (nI p) (nI q) 0 (nI k) E U o vc mN mL nc lc ph m t.1 (nI i) pt nw de vx vy nk na nb us du lk lv le ou ax ay t.2 dn ga)
    (fun i t => (t.1 = 0 ∨ t.1 = 1) ∧ ∀ p' q', p' < 17 → q' < 343 → (¬ t.2 (p' * 343 + q') = 0 ↔ ¬ ar (p' * 343 + q') = 0 ∨ ∃ s, s < i ∧ bt o s = true ∧ (k = 1 ∨ s = 1 ∨ s = 2) ∧ p' = sto lk l p s ∧ q' = snx k q v s)) 7 (0, ar)
    ⟨Or.inl rfl, fun p' q' _ _ => ⟨Or.inl, fun z => z.elim id fun ⟨s, z, _⟩ => absurd z (Nat.not_lt_zero s)⟩⟩ ?_ ?_
  · rintro m ⟨r, ar1⟩ ⟨g1, g2⟩
    exact br_t (nI_le (Nat.le_refl 7) (by decide)) (br_t rfl (And.intro (n01 g1) (h r ar1 g2)))
  · rintro m i ⟨r, ar1⟩ hi ⟨g1, g2⟩ K
    dsimp only at g1 g2 ⊢
    refine br_f (nI_ge (b := 7) hi (by decide)) ?_
    have skip : ¬ (bt o i = true ∧ (k = 1 ∨ i = 1 ∨ i = 2)) → wY_step_70 post (nI p) (nI q) 0 (nI k) E U o vc mN mL nc lc ph m r (nI (i + 1)) pt nw de vx vy nk na nb us du lk lv le ou ax ay ar1 dn ga := fun no =>
      K (r, ar1) ⟨g1, fun p' q' a b => (g2 p' q' a b).trans ⟨fun z => z.elim Or.inl fun ⟨s, z1, z2⟩ => Or.inr ⟨s, by omega, z2⟩, fun z => z.elim Or.inl fun ⟨s, z1, z2, z3, z4⟩ => by
        by_cases e : s = i
        · subst e; exact absurd ⟨z2, z3⟩ no
        · exact Or.inr ⟨s, by omega, z2, z3, z4⟩⟩⟩
    refine y_has rfl (by omega) (fun hb => br_f i1_0 ?_) (fun hb => br_t rfl (nm_r (nI_1 i) (skip fun z => by rw [hb] at z; exact Bool.false_ne_true z.1)))
    have go : (k = 1 ∨ i = 1 ∨ i = 2) → wY_step_106 post (wY_step_70 post (nI p) (nI q) 0 (nI k) E U o vc mN mL nc lc ph m) (nI p) (nI q) 0 (nI k) E U o (nI i) vc mN mL nc lc ph pt nw de vx vy nk na nb us du lk lv le ou ax ay ar1 dn ga := fun hc =>
      y_step106 hlc hl hp h0 h3 hq hi k6 hv (fun _ => K (1, upd ar1 (sto lk l p i * 343 + snx k q v i) 1) ⟨Or.inr rfl, fun p' q' a b => by
        have a1 := sto_le (lk := lk) (s := i) hp
        have a2 := snx_lt (k := k) (v := v) hq hi
        dsimp only
        by_cases e : p' * 343 + q' = sto lk l p i * 343 + snx k q v i
        · rw [e, pk_us]
          obtain ⟨e1, e2⟩ : p' = sto lk l p i ∧ q' = snx k q v i := by omega
          exact ⟨fun _ => Or.inr ⟨i, by omega, hb, hc, e1, e2⟩, fun _ => i1_0⟩
        · rw [pk_un e, g2 p' q' a b]
          constructor
          · exact fun z => z.elim Or.inl fun ⟨s, z1, z2⟩ => Or.inr ⟨s, by omega, z2⟩
          · refine fun z => z.elim Or.inl fun ⟨s, z1, z2, z3, z4, z5⟩ => ?_
            by_cases es : s = i
            · subst es; exact absurd (by rw [z4, z5]) e
            · exact Or.inr ⟨s, by omega, z2, z3, z4, z5⟩⟩) (fun z => absurd rfl z)
    by_cases k1 : k = 1
    · exact br_t (congrArg nI k1) (go (Or.inl k1))
    · refine br_f (nI_ne (b := 1) k1 (by omega) (by decide)) ?_
      by_cases i1 : i = 1
      · exact br_t (congrArg nI i1) (go (Or.inr (Or.inl i1)))
      · refine br_f (nI_ne (b := 1) i1 (by omega) (by decide)) ?_
        by_cases i2 : i = 2
        · exact br_t (congrArg nI i2) (go (Or.inr (Or.inr i2)))
        · exact br_f (nI_ne (b := 2) i2 (by omega) (by decide)) (nm_r (nI_1 i) (skip fun z => by omega))
/-- what the outcomes let follow -/
theorem sc_out {nk na nb lk lv le : Nat → Int32} {p q k v e p' q' : Nat} (hp : p < l) (k1 : 1 ≤ k) (k6 : k ≤ 6) (hk : lk p = nI k) (hv : k = 1 → (lv p).toNatClampNeg = v) (he : (le p).toNatClampNeg = e) {o : Int32}
    (ho : (k = 1 ∨ k = 2 ∨ k = 5) → MK o (OO nk na nb (shq q) e)) (ho4 : ¬ (k = 1 ∨ k = 2 ∨ k = 5) → o = 4) :
    (∃ s, s < 7 ∧ bt o s = true ∧ (k = 1 ∨ s = 1 ∨ s = 2) ∧ p' = sto lk l p s ∧ q' = snx k q v s) ↔ Sc nk na nb lk lv le l p q p' q' := by
  have b4 : ∀ s, s < 32 → bt 4 s = decide (s = 2) := by decide +kernel
  by_cases c1 : k = 1
  · subst c1
    have gl1 : gl lk l p = p + 1 := by
      unfold gl
      rw [if_neg (by rw [hk]; decide), gJ_0 (by rw [hk]; decide) (by rw [hk]; decide) (by rw [hk]; decide) (by rw [hk]; decide)]
    have st1 : ∀ s, sto lk l p s = p + 1 := fun s => by unfold sto; rw [if_neg (fun z => by have := z.1; rw [hk] at this; exact absurd this (by decide)), gl1]
    have sn1 : ∀ s, snx 1 q v s = pq q v s := fun s => if_pos rfl
    have M := ho (Or.inl rfl)
    constructor
    · rintro ⟨s, hs, hb, _, e1, e2⟩
      exact ⟨hp, Or.inl ⟨hk, s, hs, by rw [he]; exact ((M s (by omega)).mp hb).2, by rw [e1, st1], by rw [e2, sn1, hv rfl]⟩⟩
    · rintro ⟨_, ⟨_, s, hs, hb, e1, e2⟩ | ⟨a, _⟩ | ⟨a, _⟩⟩
      · exact ⟨s, hs, (M s (by omega)).mpr ⟨by omega, by rw [he] at hb; exact hb⟩, Or.inl rfl, by rw [e1, st1], by rw [e2, sn1, hv rfl]⟩
      · rw [hk] at a; exact absurd a (by decide)
      · rw [hk] at a; exact absurd a (by decide)
  · have sn1 : ∀ s, snx k q v s = q := fun s => if_neg c1
    have nk1 : ¬ lk p = 1 := by rw [hk]; exact nI_ne (b := 1) c1 (by omega) (by decide)
    by_cases c25 : k = 2 ∨ k = 5
    · have hop : opk (lk p) = true := by rw [hk]; exact opk_25 c25
      have M := ho (Or.inr c25)
      have s2 : sto lk l p 2 = p + 1 := by unfold sto; rw [if_pos ⟨hop, rfl⟩]
      have s1 : sto lk l p 1 = gl lk l p := by unfold sto; rw [if_neg (fun z => absurd z.2 (by decide))]
      constructor
      · rintro ⟨s, hs, hb, c, e1, e2⟩
        refine ⟨hp, Or.inr (Or.inl ⟨hop, by rw [e2, sn1], ?_⟩)⟩
        rcases c with c | rfl | rfl
        · exact absurd c c1
        · exact Or.inr ⟨by rw [he]; exact ((M 1 (by omega)).mp hb).2, by rw [e1, s1]⟩
        · exact Or.inl ⟨by rw [he]; exact ((M 2 (by omega)).mp hb).2, by rw [e1, s2]⟩
      · rintro ⟨_, ⟨a, _⟩ | ⟨_, e2, ⟨hb, e1⟩ | ⟨hb, e1⟩⟩ | ⟨a, _⟩⟩
        · exact absurd a nk1
        · rw [he] at hb
          exact ⟨2, by decide, (M 2 (by decide)).mpr ⟨by decide, hb⟩, Or.inr (Or.inr rfl), by rw [e1, s2], by rw [e2, sn1]⟩
        · rw [he] at hb
          exact ⟨1, by decide, (M 1 (by decide)).mpr ⟨by decide, hb⟩, Or.inr (Or.inl rfl), by rw [e1, s1], by rw [e2, sn1]⟩
        · rw [hk, tk_1 k6 (Or.inr c25)] at a; exact absurd a (by decide)
    · have hno : ¬ opk (lk p) = true := fun z => by rw [hk] at z; exact c25 (opk_of k1 k6 z)
      have o4 := ho4 (by omega)
      have s2 : sto lk l p 2 = gl lk l p := by unfold sto; rw [if_neg (fun z => hno z.1)]
      constructor
      · rintro ⟨s, hs, hb, c, e1, e2⟩
        rw [o4, b4 s (by omega), decide_eq_true_iff] at hb
        subst hb
        exact ⟨hp, Or.inr (Or.inr ⟨by rw [hk]; exact tk_0 k1 k6 (by omega), by rw [e2, sn1], by rw [e1, s2]⟩)⟩
      · rintro ⟨_, ⟨a, _⟩ | ⟨a, _⟩ | ⟨_, e2, e1⟩⟩
        · exact absurd a nk1
        · exact absurd a hno
        · exact ⟨2, by decide, by rw [o4]; decide, Or.inr (Or.inr rfl), by rw [e1, s2], by rw [e2, sn1]⟩
end NT25
end
section
section NT26
variable {vc mN mL nc lc dp pd vd ph pt nw : Int32} {de nk na nb us lk lv le ju el ol ow vs vx vy ws wx wy du ou ax ay ar dn ga : Nat → Int32} {gv er sn re : Nat → Int64}
variable {V n l : Nat}
def AF (n l : Nat) (de nk na nb lk lv le : Nat → Int32) (gv er re : Nat → Int64) (ow : Nat → Int32) (sn : Nat → Int64) : Prop :=
  (∀ y, y < n → ∀ w, w < 7 → AO nk na nb gv er y w) ∧ (∀ p, p < 17 → ∀ w, w < 7 → ∀ j, j < 64 → (wd (re (p * 7 + w)) j = true ↔ vj j ∧ RS de nk na nb lk lv le l p (qi w j))) ∧
  Fa1 l lk le re ow sn ∧ (∀ x, x < n → Fa2 gv nk na nb ow sn x) ∧ Fa3 n l nk na nb lk le re ow sn
theorem AF_re {de nk na nb lk lv le ow : Nat → Int32} {gv er re sn : Nat → Int64} {p q : Nat} (h : AF n l de nk na nb lk lv le gv er re ow sn) (hp : p < 17) (hq : q < 343) : Rc re p q ↔ RS de nk na nb lk lv le l p q := by
  unfold Rc
  rw [h.2.1 p hp (q / 49) (by omega) (qj q) (qj_64 q), qj_i hq]
  exact ⟨fun z => z.2, fun z => ⟨qj_v q, z⟩⟩
theorem KT_of {de nk na nb lk lv le ow : Nat → Int32} {gv er re sn : Nat → Int64} {p q : Nat} (hn : n ≤ 32) (hl : l ≤ 16) (hN : ∀ y, y < n → NW V nk na nb y) (h : AF n l de nk na nb lk lv le gv er re ow sn) (hp : p < l) (hq : q < 343) (ht : tk (lk p) = 1) (hr : RS de nk na nb lk lv le l p q) :
    KT n p q (le p).toNatClampNeg nk na nb ow sn (OO nk na nb (shq q)) := by
  have hre := AF_re (q := q) h (p := p) (by omega) hq
  obtain ⟨hA, _, f1, f2, f3⟩ := h
  obtain ⟨o1, s1⟩ := f1 p hp ht
  refine ⟨o1, ?_, fun x k hx hk k4 k14 => ?_, fun z hz ho => ?_⟩
  · unfold Rc; rw [s1 (q / 49) (by omega)]; exact hre.mpr hr
  · obtain ⟨a1, a2, a3⟩ := f2 x hx k hk k4 k14
    refine ⟨a1, by unfold Rc; rw [a2 (q / 49) (by omega)], fun hb => ⟨(a3 hb).1, ?_⟩⟩
    obtain ⟨kk, _, _, hk', _, _, c4⟩ := hN x hx
    have : kk = k := na_inj (hk'.symm.trans hk) (by omega) (by omega)
    subst this
    obtain ⟨a, b, ha, hb', ea, eb, _⟩ := c4 k4
    have ca : (na x).toNatClampNeg = a := by rw [ea, nI_clamp (by omega)]
    have h7 : slo kk + scn kk ≤ 7 := by unfold slo scn; split; decide; split; decide; decide
    unfold Rc
    rw [(a3 hb).2 (q / 49) (by omega), wd_and, bo_and, wd_aw (er := er) h7, ca]
    rw [orr_ag (g := OO nk na nb (shq q) a) (fun s _ hs => by rw [hA a (by omega) (q / 49) (by omega) (qj q) (qj_64 q) (qj_v q) s (by omega), sh_eq])]
  · rcases f3 z hz with u | ⟨p', r1, r2, r3, r4, r5, r6⟩
    · rw [u.1] at ho; exact absurd ho.symm (na_ne1 (by omega))
    · rw [ho] at r3
      have : p = p' := na_inj r3 (by omega) (by omega)
      subst this
      exact ⟨r4, r6⟩
theorem ow_tk {de nk na nb lk lv le ow : Nat → Int32} {gv er re sn : Nat → Int64} {p x : Nat} (hl : l ≤ 16) (h : AF n l de nk na nb lk lv le gv er re ow sn) (hp : p < l) (hx : x < n) (ho : ow x = nI p) : tk (lk p) = 1 := by
  rcases h.2.2.2.2 x hx with u | ⟨p', r1, r2, r3, _⟩
  · rw [u.1] at ho; exact absurd ho.symm (na_ne1 (by omega))
  · rw [ho] at r3
    have : p = p' := na_inj r3 (by omega) (by omega)
    subst this; exact r2
theorem y_stepS {post : Int32 → SY → Prop} {p q : Nat} {par : Nat → Nat} {P Q : Int32} (eP : P = nI p) (eQ : Q = nI q) (hn : n ≤ 32) (hV : V ≤ 3) (hl : l ≤ 16) (hlc : lc = nI l) (hN : ∀ y, y < n → NW V nk na nb y) (hL : ∀ p, p < l → LW V n lk lv le p) (hP : PU n l nk na nb us lk le par)
    (h0 : opn lk l 0 = none) (h3 : ∀ p, p < l → lk p = 3 → ∃ o, opn lk p 0 = some o) (hAF : AF n l de nk na nb lk lv le gv er re ow sn) (hp : p < l) (hq : q < 343) (hr : RS de nk na nb lk lv le l p q)
    (h : ∀ r ou' du' ar' ga', (∀ p' q', p' < 17 → q' < 343 → (¬ ar' (p' * 343 + q') = 0 ↔ ¬ ar (p' * 343 + q') = 0 ∨ Sc nk na nb lk lv le l p q p' q')) →
      (∀ x q', x < n → q' < 343 → (q' = q ∧ ow x = nI p ∧ Rc sn x q → MK (ga' (x * 343 + q')) (OO nk na nb (shq q) x)) ∧ (¬ (q' = q ∧ ow x = nI p ∧ Rc sn x q) → ga' (x * 343 + q') = ga (x * 343 + q'))) →
      post r (vc, mN, mL, nc, lc, ph, pt, nw, de, vx, vy, nk, na, nb, us, du', lk, lv, le, ou', ax, ay, ar', dn, ga')) : wpY_step post (vc, mN, mL, nc, lc, ph, pt, nw, de, vx, vy, nk, na, nb, us, du, lk, lv, le, ou, ax, ay, ar, dn, ga) P Q 0 := by
  subst eP; subst eQ
  have hi : vp_in (nI p) 16 := vp_in_nI (by omega) (by decide)
  have hc : (nI p).toNatClampNeg = p := nI_clamp (by omega)
  obtain ⟨k, k1, k6, hk, hv, e, e32, he, hen⟩ := hL p hp
  have hce : (le p).toNatClampNeg = e := by rw [he, nI_clamp (by omega)]
  obtain ⟨v, hv1, hv2⟩ : ∃ v, (k = 1 → lv p = nI v ∧ v < 3) ∧ (k = 1 → (lv p).toNatClampNeg = v) := by
    by_cases c : k = 1
    · obtain ⟨v, a, b⟩ := hv c
      exact ⟨v, fun _ => ⟨b, by omega⟩, fun _ => by rw [b, nI_clamp (by omega)]⟩
    · exact ⟨0, fun z => absurd z c, fun z => absurd z c⟩
  refine And.intro hi (nm_r (e' := nI k) (by rw [hc]; exact hk) (And.intro hi (nm_r (e' := nI e) (by rw [hc]; exact he) (And.intro hi (nm_r (e' := lv p) (by rw [hc]) (y_takesNode ?_))))))
  by_cases kt : k = 1 ∨ k = 2 ∨ k = 5
  · have en := hen kt
    have ht : tk (lk p) = 1 := by rw [hk]; exact tk_1 k6 kt
    have T := KT_of hn hl hN hAF hp hq ht hr
    rw [hce] at T
    rw [tk_1 k6 kt]
    refine br_f i1_0 (y_evalS rfl rfl hn hV hN en hq fun ou' hou => And.intro (vp_in_nI e32 (by decide)) (nm_r (e' := ou' e) (by rw [nI_clamp (by omega)]) (br_t rfl ?_)))
    have hpe : ∀ x, x < n → par e ≠ 2 * x ∧ par e ≠ 2 * x + 1 := fun x hx => by
      have := (hP.2 p hp ht).1
      rw [hce] at this; omega
    refine y_keep (p := p) (ow := ow) (sn := sn) hn hN hP T en hpe hq hou fun du' ga' hga => ?_
    refine y_step70S (v := v) hlc hl hp h0 (h3 p hp) hq k6 hv1 fun r ar' har => h r ou' du' ar' ga' (fun p' q' a b => ?_) (fun x q' hx hq' => ?_)
    · rw [har p' q' a b, sc_out hp k1 k6 hk hv2 hce (fun _ => hou e (Nat.le_refl e)) (fun z => absurd kt z)]
    · obtain ⟨g1, g2⟩ := hga x q' (by omega) hq'
      constructor
      · rintro ⟨c1, c2, c3⟩
        have xe := (T.2.2.2 x hx c2).1
        rw [g1 ⟨c1, xe, c2, c3⟩]
        exact hou x xe
      · exact fun c => g2 fun z => c ⟨z.1, z.2.2⟩
  · rw [tk_0 k1 k6 kt]
    refine br_t rfl (y_step70S (v := v) hlc hl hp h0 (h3 p hp) hq k6 hv1 fun r ar' har => h r ou du ar' ga (fun p' q' a b => ?_) (fun x q' hx hq' => ⟨fun ⟨_, c2, _⟩ => ?_, fun _ => rfl⟩))
    · rw [har p' q' a b, sc_out hp k1 k6 hk hv2 hce (fun z => absurd z kt) (fun _ => rfl)]
    · have := ow_tk hl hAF hp hx c2
      rw [hk, tk_0 k1 k6 kt] at this; exact absurd this (by decide)
def EI (n l : Nat) (de nk na nb lk lv le : Nat → Int32) (ow : Nat → Int32) (sn : Nat → Int64) (ar dn ga : Nat → Int32) : Prop :=
  (∀ p q, p < 17 → q < 343 → ¬ ar (p * 343 + q) = 0 → RS de nk na nb lk lv le l p q) ∧ (∀ q, Ini de q → ¬ ar (0 * 343 + q) = 0) ∧
  (∀ p q, p < 17 → q < 343 → ¬ dn (p * 343 + q) = 0 → p < l ∧ ∀ p' q', Sc nk na nb lk lv le l p q p' q' → ¬ ar (p' * 343 + q') = 0) ∧
  (∀ x q, x < n → q < 343 → ((∃ p, p < l ∧ ow x = nI p ∧ ¬ dn (p * 343 + q) = 0) ∧ Rc sn x q → MK (ga (x * 343 + q)) (OO nk na nb (shq q) x)) ∧ (¬ ((∃ p, p < l ∧ ow x = nI p ∧ ¬ dn (p * 343 + q) = 0) ∧ Rc sn x q) → ga (x * 343 + q) = 0))
theorem EI_s {de nk na nb lk lv le ow : Nat → Int32} {sn : Nat → Int64} {ar dn ga ar' ga' : Nat → Int32} {p q : Nat} (hl : l ≤ 16) (hp : p < l) (hq : q < 343) (h : EI n l de nk na nb lk lv le ow sn ar dn ga) (hr : RS de nk na nb lk lv le l p q)
    (ha : ∀ p' q', p' < 17 → q' < 343 → (¬ ar' (p' * 343 + q') = 0 ↔ ¬ ar (p' * 343 + q') = 0 ∨ Sc nk na nb lk lv le l p q p' q'))
    (hg : ∀ x q', x < n → q' < 343 → (q' = q ∧ ow x = nI p ∧ Rc sn x q → MK (ga' (x * 343 + q')) (OO nk na nb (shq q) x)) ∧ (¬ (q' = q ∧ ow x = nI p ∧ Rc sn x q) → ga' (x * 343 + q') = ga (x * 343 + q'))) :
    EI n l de nk na nb lk lv le ow sn ar' (upd dn (p * 343 + q) 1) ga' := by
  obtain ⟨h1, h2, h3, h4⟩ := h
  refine ⟨fun p' q' a b c => ?_, fun q' hq' => (ha 0 q' (by decide) hq'.1).mpr (Or.inl (h2 q' hq')), fun p' q' a b c => ?_, fun x q' hx hq' => ?_⟩
  · rcases (ha p' q' a b).mp c with z | z
    · exact h1 p' q' a b z
    · exact RS_s hr z
  · by_cases e : p' * 343 + q' = p * 343 + q
    · obtain ⟨rfl, rfl⟩ : p' = p ∧ q' = q := by omega
      refine ⟨hp, fun p2 q2 hs => ?_⟩
      have := Sc_lt hs hq
      exact (ha p2 q2 (by omega) this.1).mpr (Or.inr hs)
    · rw [pk_un e] at c
      obtain ⟨d1, d2⟩ := h3 p' q' a b c
      refine ⟨d1, fun p2 q2 hs => ?_⟩
      have := Sc_lt hs b
      exact (ha p2 q2 (by omega) this.1).mpr (Or.inl (d2 p2 q2 hs))
  · obtain ⟨g1, g2⟩ := hg x q' hx hq'
    obtain ⟨k1, k2⟩ := h4 x q' hx hq'
    by_cases c : q' = q ∧ ow x = nI p ∧ Rc sn x q
    · obtain ⟨rfl, c2, c3⟩ := c
      exact ⟨fun _ => g1 ⟨rfl, c2, c3⟩, fun z => absurd ⟨⟨p, hp, c2, by rw [pk_us]; exact i1_0⟩, c3⟩ z⟩
    · rw [g2 c]
      have same : ((∃ p', p' < l ∧ ow x = nI p' ∧ ¬ upd dn (p * 343 + q) 1 (p' * 343 + q') = 0) ∧ Rc sn x q') ↔ ((∃ p', p' < l ∧ ow x = nI p' ∧ ¬ dn (p' * 343 + q') = 0) ∧ Rc sn x q') := by
        constructor
        · rintro ⟨⟨p', a1, a2, a3⟩, a4⟩
          refine ⟨⟨p', a1, a2, ?_⟩, a4⟩
          by_cases e : p' * 343 + q' = p * 343 + q
          · obtain ⟨rfl, rfl⟩ : p' = p ∧ q' = q := by omega
            exact absurd ⟨rfl, a2, a4⟩ c
          · rw [pk_un e] at a3; exact a3
        · rintro ⟨⟨p', a1, a2, a3⟩, a4⟩
          refine ⟨⟨p', a1, a2, ?_⟩, a4⟩
          by_cases e : p' * 343 + q' = p * 343 + q
          · rw [e, pk_us]; exact i1_0
          · rw [pk_un e]; exact a3
      exact ⟨fun z => k1 (same.mp z), fun z => k2 fun y => z (same.mpr y)⟩
theorem cn_bd {f : Nat → Bool} {b : Nat} : ∀ m, (∀ i, i < m → f i = true → i < b) → cn f m ≤ b := by
  intro m
  induction m with
  | zero => intro _; exact Nat.zero_le b
  | succ m ih =>
    intro h
    show cn f m + (if f m = true then 1 else 0) ≤ b
    by_cases e : f m = true
    · rw [if_pos e]
      have := h m (Nat.lt_succ_self m) e
      have := cn_le (f := f) m
      omega
    · rw [if_neg e]; exact ih (fun i hi => h i (by omega))
def dc (dn : Nat → Int32) : Nat := cn (fun k => decide (¬ dn k = 0)) 5831
theorem dc_le {de nk na nb lk lv le ow : Nat → Int32} {sn : Nat → Int64} {ar dn ga : Nat → Int32} (hl : l ≤ 16) (h : EI n l de nk na nb lk lv le ow sn ar dn ga) : dc dn ≤ 5488 := by
  refine cn_bd 5831 (fun i hi e => ?_)
  have e := of_decide_eq_true e
  have := (h.2.2.1 (i / 343) (i % 343) (by omega) (by omega) (by rw [show i / 343 * 343 + i % 343 = i by omega]; exact e)).1
  omega
theorem dc_up {dn : Nat → Int32} {k : Nat} (hk : k < 5831) (h : dn k = 0) : dc dn + 1 ≤ dc (upd dn k 1) := by
  refine cn_lt 5831 (fun i hi e => ?_) ⟨k, hk, ?_, ?_⟩
  · have e := of_decide_eq_true e
    refine decide_eq_true ?_
    by_cases c : i = k
    · rw [c, pk_us]; exact i1_0
    · rw [pk_un c]; exact e
  · refine decide_eq_true ?_
    rw [pk_us]; exact i1_0
  · exact decide_eq_false fun z => z h
theorem y_explore {post : SY → Prop} {par : Nat → Nat} (hn : n ≤ 32) (hV : V ≤ 3) (hl : l ≤ 16) (hlc : lc = nI l) (hN : ∀ y, y < n → NW V nk na nb y) (hL : ∀ p, p < l → LW V n lk lv le p) (hP : PU n l nk na nb us lk le par)
    (h0 : opn lk l 0 = none) (h3 : ∀ p, p < l → lk p = 3 → ∃ o, opn lk p 0 = some o) (hAF : AF n l de nk na nb lk lv le gv er re ow sn) (hd : DC de) (ha0 : ∀ i, ar i = 0) (hd0 : ∀ i, dn i = 0) (hg0 : ∀ i, ga i = 0)
    (h : ∀ ou' du' ar' dn' ga', (∀ p q, p < 17 → q < 343 → (¬ ar' (p * 343 + q) = 0 ↔ Rc re p q)) →
      (∀ x q, x < n → q < 343 → (Rc sn x q → MK (ga' (x * 343 + q)) (OO nk na nb (shq q) x)) ∧ (¬ Rc sn x q → ga' (x * 343 + q) = 0)) → post (vc, mN, mL, nc, lc, ph, pt, nw, de, vx, vy, nk, na, nb, us, du', lk, lv, le, ou', ax, ay, ar', dn', ga')) : wpY_explore post (vc, mN, mL, nc, lc, ph, pt, nw, de, vx, vy, nk, na, nb, us, du, lk, lv, le, ou, ax, ay, ar, dn, ga) := by
  refine loop_0 (fun m i (a : Nat → Int32) => wY_explore_2 post vc mN mL nc lc ph pt nw m (nI i) de vx vy nk na nb us du lk lv le ou ax ay a dn ga) (fun i a => (∀ q, q < i → (¬ a q = 0 ↔ Ini de q)) ∧ (∀ k, i ≤ k → a k = 0)) 343 ar ⟨fun q hq => absurd hq (Nat.not_lt_zero q), fun k _ => ha0 k⟩ ?_ ?_
  · rintro m a ⟨g1, g2⟩
    refine br_t (nI_le (Nat.le_refl 343) (by decide)) ?_
    have E0 : EI n l de nk na nb lk lv le ow sn a dn ga := by
      refine ⟨fun p q hp hq z => ?_, fun q hq => ?_, fun p q _ _ z => absurd (hd0 _) z, fun x q _ _ => ⟨fun ⟨⟨p, _, _, z⟩, _⟩ => absurd (hd0 _) z, fun _ => hg0 _⟩⟩
      · by_cases c : p = 0
        · subst c
          rw [Nat.zero_mul, Nat.zero_add] at z
          exact RS_i ((g1 q hq).mp z)
        · exact absurd (g2 _ (by omega)) z
      · rw [Nat.zero_mul, Nat.zero_add]; exact (g1 q hq.1).mpr hq
    refine loop_m (fun m (t : Nat × Int32 × (Nat → Int32) × (Nat → Int32) × (Nat → Int32) × (Nat → Int32) × (Nat → Int32)) => wY_explore_95 post m t.2.1 (nI t.1) vc mN mL nc lc ph pt nw de vx vy nk na nb us t.2.2.2.1 lk lv le t.2.2.1 ax ay t.2.2.2.2.1 t.2.2.2.2.2.1 t.2.2.2.2.2.2)
      (fun t => EI n l de nk na nb lk lv le ow sn t.2.2.2.2.1 t.2.2.2.2.2.1 t.2.2.2.2.2.2 ∧ t.1 ≤ dc t.2.2.2.2.2.1 + 1 ∧ (¬ t.2.1 = 0 → t.1 ≤ dc t.2.2.2.2.2.1) ∧ (t.2.1 = 0 → ∀ k, k < l * 343 → ¬ t.2.2.2.2.1 k = 0 → ¬ t.2.2.2.2.2.1 k = 0)) (fun t => 6000 - t.1) ?_ (0, 1, ou, du, a, dn, ga) ⟨E0, Nat.zero_le _, fun _ => Nat.zero_le _, fun z => absurd z i1_0⟩
    rintro m ⟨c, mo, ou1, du1, ar1, dn1, ga1⟩ ⟨e1, e2', e2, e3⟩ K
    dsimp only at e1 e2' e2 e3 K ⊢
    have := dc_le hl e1
    refine br_f (nI_ge (b := 5831) (by omega) (by decide)) ?_
    by_cases mz : mo = 0
    · refine br_t mz (h ou1 du1 ar1 dn1 ga1 (fun p q hp hq => ?_) (fun x q hx hq => ?_))
      · rw [AF_re hAF hp hq]
        refine ⟨e1.1 p q hp hq, fun z => ?_⟩
        have := z (fun p q => q < 343 ∧ p ≤ l ∧ ¬ ar1 (p * 343 + q) = 0) (fun q hq => ⟨hq.1, Nat.zero_le l, e1.2.1 q hq⟩) (fun p q p' q' a b => by
          have lt := Sc_lt b a.1
          have hpl := b.1
          have hdn := e3 mz (p * 343 + q) (by omega) a.2.2
          exact ⟨lt.1, lt.2, (e1.2.2.1 p q (by omega) a.1 hdn).2 p' q' b⟩)
        exact this.2.2
      · obtain ⟨k1, k2⟩ := e1.2.2.2 x q hx hq
        refine ⟨fun z => k1 ⟨?_, z⟩, fun z => k2 fun y => z y.2⟩
        rcases hAF.2.2.2.2 x hx with u | ⟨p, r1, r2, r3, r4, r5, r6⟩
        · unfold Rc at z
          rw [u.2 (q / 49) (by omega), wd_0] at z; exact absurd z Bool.false_ne_true
        · have hr : RS de nk na nb lk lv le l p q := (AF_re hAF (by omega) hq).mp (r5 (q / 49) (by omega) (qj q) z)
          have := hr (fun p q => q < 343 ∧ p ≤ l ∧ ¬ ar1 (p * 343 + q) = 0) (fun q hq => ⟨hq.1, Nat.zero_le l, e1.2.1 q hq⟩) (fun p q p' q' a b => by
            have lt := Sc_lt b a.1
            have hpl := b.1
            have hdn := e3 mz (p * 343 + q) (by omega) a.2.2
            exact ⟨lt.1, lt.2, (e1.2.2.1 p q (by omega) a.1 hdn).2 p' q' b⟩)
          exact ⟨p, r1, r3, e3 mz _ (by omega) this.2.2⟩
    · refine br_f mz ?_
      have hlc3 : lc * 343 = nI (l * 343) := by rw [hlc]; exact pk_mul l 343
      refine loop_0 (fun m' k (t : Int32 × (Nat → Int32) × (Nat → Int32) × (Nat → Int32) × (Nat → Int32) × (Nat → Int32)) => wY_explore_110 post (wY_explore_95 post m) (nI c) m' t.1 (nI k) vc mN mL nc lc ph pt nw de vx vy nk na nb us t.2.2.1 lk lv le t.2.1 ax ay t.2.2.2.1 t.2.2.2.2.1 t.2.2.2.2.2)
        (fun k t => EI n l de nk na nb lk lv le ow sn t.2.2.2.1 t.2.2.2.2.1 t.2.2.2.2.2 ∧ (t.1 = 0 → ∀ k', k' < k → ¬ t.2.2.2.1 k' = 0 → ¬ t.2.2.2.2.1 k' = 0) ∧ c ≤ dc t.2.2.2.2.1 ∧ (¬ t.1 = 0 → c + 1 ≤ dc t.2.2.2.2.1)) (l * 343) (0, ou1, du1, ar1, dn1, ga1) ⟨e1, fun _ k' z => absurd z (Nat.not_lt_zero k'), e2 mz, fun z => absurd rfl z⟩ ?_ ?_
      · rintro m' ⟨mo2, ou2, du2, ar2, dn2, ga2⟩ ⟨f1, f2, f3, f4⟩
        dsimp only at f1 f2 f3 f4 ⊢
        refine br_t (by rw [hlc3]; exact nI_le (Nat.le_refl _) (by omega)) (nm_r (nI_1 c) ?_)
        by_cases z : mo2 = 0
        · exact K (c + 1, mo2, ou2, du2, ar2, dn2, ga2) ⟨f1, by dsimp only; omega, fun y => absurd z y, fun _ => f2 z⟩ (by dsimp only; omega)
        · exact K (c + 1, mo2, ou2, du2, ar2, dn2, ga2) ⟨f1, by have := f4 z; dsimp only; omega, fun _ => f4 z, fun y => absurd y z⟩ (by dsimp only; omega)
      · rintro m' k ⟨mo2, ou2, du2, ar2, dn2, ga2⟩ hk ⟨f1, f2, f3, f4⟩ K2
        dsimp only at f1 f2 f3 f4 ⊢
        have hik : vp_in (nI k) 5831 := vp_in_nI (by omega) (by decide)
        have hck : (nI k).toNatClampNeg = k := nI_clamp (by omega)
        refine br_f (by rw [hlc3]; exact nI_ge hk (by omega)) (And.intro hik ?_)
        rw [hck]
        by_cases ak : ar2 k = 0
        · refine br_t ak (nm_r (nI_1 k) (K2 (mo2, ou2, du2, ar2, dn2, ga2) ⟨f1, fun z k' hk' => ?_, f3, f4⟩))
          dsimp only
          by_cases e : k' = k
          · subst e; exact fun y => absurd ak y
          · exact f2 z k' (by omega)
        · refine br_f ak (And.intro hik ?_)
          by_cases dk : dn2 k = 0
          · have e : k / 343 * 343 + k % 343 = k := by omega
            refine br_t dk (And.intro hik (nm_r (e' := upd dn2 k 1) (by rw [na_b1]) (And.intro (by decide) (And.intro (by decide) ?_))))
            have hr : RS de nk na nb lk lv le l (k / 343) (k % 343) := f1.1 _ _ (by omega) (by omega) (by rw [e]; exact ak)
            refine y_stepS (p := k / 343) (q := k % 343) (pk_div (d := 343) (by omega) (by decide) (by decide)) (pk_rem (d := 343) (by omega) (by decide) (by decide)) hn hV hl hlc hN hL hP h0 h3 hAF (by omega) (by omega) hr fun r ou3 du3 ar3 ga3 har hga => nm_r (nI_1 k) (K2 (1, ou3, du3, ar3, upd dn2 k 1, ga3) ⟨?_, fun z => absurd z i1_0, ?_, fun _ => ?_⟩)
            · have := EI_s hl (show k / 343 < l by omega) (show k % 343 < 343 by omega) f1 hr har hga
              rw [e] at this; exact this
            · have := dc_up (show k < 5831 by omega) dk; dsimp only; omega
            · have := dc_up (show k < 5831 by omega) dk; dsimp only; omega
          · refine br_f dk (nm_r (nI_1 k) (K2 (mo2, ou2, du2, ar2, dn2, ga2) ⟨f1, fun z k' hk' => ?_, f3, f4⟩))
            dsimp only
            by_cases e : k' = k
            · subst e; exact fun _ => dk
            · exact f2 z k' (by omega)
  · rintro m i a hi ⟨g1, g2⟩ K
    have hii : vp_in (nI i) 5831 := vp_in_nI (by omega) (by decide)
    have hci : (nI i).toNatClampNeg = i := nI_clamp (by omega)
    have s0 := sq_lt (q := i) (v := 0) hi
    have s1 := sq_lt (q := i) (v := 1) hi
    have s2 := sq_lt (q := i) (v := 2) hi
    have no : ¬ Ini de i → wY_explore_2 post vc mN mL nc lc ph pt nw m (nI (i + 1)) de vx vy nk na nb us du lk lv le ou ax ay (upd a i 0) dn ga := fun z => K _ ⟨fun q hq => by
      by_cases e : q = i
      · subst e; rw [pk_us]; exact ⟨fun y => absurd rfl y, fun y => absurd y z⟩
      · rw [pk_un e]; exact g1 q (by omega), fun k hk => by rw [pk_un (by omega)]; exact g2 k (by omega)⟩
    refine br_f (nI_ge (b := 343) hi (by decide)) (y_shape (v := 0) rfl rfl hi (by decide) (y_shape (v := 1) rfl rfl hi (by decide) (y_shape (v := 2) rfl rfl hi (by decide) ?_)))
    refine y_has rfl (by omega) (fun b0 => br_f i1_0 (y_has rfl (by omega) (fun b1 => br_f i1_0 (y_has rfl (by omega) (fun b2 => br_f i1_0 ?_) (fun b2 => br_t rfl ?_))) (fun b1 => br_t rfl ?_))) (fun b0 => br_t rfl ?_)
    · refine And.intro hii (nm_r (e' := upd a i 1) (by rw [hci, na_b1]) (nm_r (nI_1 i) (K _ ⟨fun q hq => ?_, fun k hk => by rw [pk_un (by omega)]; exact g2 k (by omega)⟩)))
      by_cases e : q = i
      · subst e; rw [pk_us]; exact ⟨fun _ => ⟨hi, b0, b1, b2⟩, fun _ => i1_0⟩
      · rw [pk_un e]; exact g1 q (by omega)
    · exact And.intro hii (nm_r (e' := upd a i 0) (by rw [hci, na_b0]) (nm_r (nI_1 i) (no fun z => nf b2 z.2.2.2)))
    · exact And.intro hii (nm_r (e' := upd a i 0) (by rw [hci, na_b0]) (nm_r (nI_1 i) (no fun z => nf b1 z.2.2.1)))
    · exact And.intro hii (nm_r (e' := upd a i 0) (by rw [hci, na_b0]) (nm_r (nI_1 i) (no fun z => nf b0 z.2.1)))
end NT26
end
section
section NT27
variable {vc mN mL nc lc dp pd vd ph pt nw : Int32} {de nk na nb us lk lv le ju el ol ow vs vx vy ws wx wy du ou ax ay ar dn ga : Nat → Int32} {gv er sn re : Nat → Int64}
variable {V n l : Nat}
theorem y_union {post : Int32 → Prop} {p v : Nat} {P U : Int32} (eP : P = nI p) (eU : U = nI v) (hp : p < 17) (hv : v < 3) (h : ∀ r : Int32, (∀ i, i < 32 → (bt r i = true ↔ ∃ q, q < 343 ∧ ¬ ar (p * 343 + q) = 0 ∧ shq q v = i)) → post r) : ∃ m, wY_unionAt_34 post P U vc mN mL nc lc ph pt nw de vx vy nk na nb us du lk lv le ou ax ay ar dn ga m 0 0 := by
  subst eP; subst eU
  refine loop_0 (fun m q (r : Int32) => wY_unionAt_34 post (nI p) (nI v) vc mN mL nc lc ph pt nw de vx vy nk na nb us du lk lv le ou ax ay ar dn ga m r (nI q)) (fun q r => ∀ i, i < 32 → (bt r i = true ↔ ∃ q', q' < q ∧ ¬ ar (p * 343 + q') = 0 ∧ shq q' v = i)) 343 0 (fun i _ => ⟨fun z => by rw [b_0] at z; exact absurd z Bool.false_ne_true, fun ⟨q, z, _⟩ => absurd z (Nat.not_lt_zero q)⟩) ?_ ?_
  · intro m r hr
    exact br_t (nI_le (Nat.le_refl 343) (by decide)) (h r hr)
  · intro m q r hq hr K
    have e := na_343 p q
    refine br_f (nI_ge (b := 343) hq (by decide)) (And.intro (na_in e (by omega) (by decide)) ?_)
    rw [na_cl e (by omega)]
    by_cases z : ar (p * 343 + q) = 0
    · refine br_t z (nm_r (nI_1 q) (K r fun i hi => (hr i hi).trans ⟨fun ⟨q', a, b⟩ => ⟨q', by omega, b⟩, fun ⟨q', a, b, c⟩ => ?_⟩))
      by_cases e1 : q' = q
      · subst e1; exact absurd z b
      · exact ⟨q', by omega, b, c⟩
    · refine br_f z (y_shape rfl rfl hq hv (nm_e (nm_r (nI_1 q) (K _ fun i hi => ?_))))
      have := sq_lt (v := v) hq
      rw [b_or, bo_or, hr i hi, bt_p _ (by omega) hi, decide_eq_true_iff]
      constructor
      · rintro (⟨q', a, b⟩ | a)
        · exact ⟨q', by omega, b⟩
        · exact ⟨q, by omega, z, a.symm⟩
      · rintro ⟨q', a, b, c⟩
        by_cases e1 : q' = q
        · subst e1; exact Or.inr c.symm
        · exact Or.inl ⟨q', by omega, b, c⟩
theorem y_type {post : Int32 → Prop} {x : Nat} {X : Int32} (eX : X = nI x) (hx : x < 32) (h : ∀ r : Int32, (∀ i, i < 32 → (bt r i = true ↔ i < 7 ∧ ∃ q, q < 343 ∧ bt (ga (x * 343 + q)) i = true)) → post r) : ∃ m, wY_typeOf_25 post X vc mN mL nc lc ph pt nw de vx vy nk na nb us du lk lv le ou ax ay ar dn ga m 0 0 := by
  subst eX
  refine loop_0 (fun m q (r : Int32) => wY_typeOf_25 post (nI x) vc mN mL nc lc ph pt nw de vx vy nk na nb us du lk lv le ou ax ay ar dn ga m r (nI q)) (fun q r => ∀ i, i < 32 → (bt r i = true ↔ i < 7 ∧ ∃ q', q' < q ∧ bt (ga (x * 343 + q')) i = true)) 343 0 (fun i _ => ⟨fun z => by rw [b_0] at z; exact absurd z Bool.false_ne_true, fun ⟨_, q, z, _⟩ => absurd z (Nat.not_lt_zero q)⟩) ?_ ?_
  · intro m r hr
    exact br_t (nI_le (Nat.le_refl 343) (by decide)) (h r hr)
  · intro m q r hq hr K
    have e := na_343 x q
    refine br_f (nI_ge (b := 343) hq (by decide)) (And.intro (na_in e (by omega) (by decide)) (nm_r (e' := r ||| (ga (x * 343 + q) &&& 127)) (by rw [na_cl e (by omega)]) (nm_r (nI_1 q) (K _ fun i hi => ?_))))
    rw [b_or, bo_or, hr i hi, b_and, bo_and, b_127 i hi, decide_eq_true_iff]
    constructor
    · rintro (⟨a, q', b, c⟩ | ⟨a, b⟩)
      · exact ⟨a, q', by omega, c⟩
      · exact ⟨b, q, by omega, a⟩
    · rintro ⟨a, q', b, c⟩
      by_cases e1 : q' = q
      · subst e1; exact Or.inr ⟨c, a⟩
      · exact Or.inl ⟨a, q', by omega, c⟩
theorem y_narrow {post : Int32 → Prop} {x v s : Nat} {X U S : Int32} (eX : X = nI x) (eU : U = nI v) (eS : S = nI s) (hs : s < 7) (hx : x < 32) (hv : v < 3) (h : ∀ r : Int32, (∀ i, i < 32 → (bt r i = true ↔ ∃ q, q < 343 ∧ bt (ga (x * 343 + q)) s = true ∧ shq q v = i)) → post r) : ∃ m, wY_narrowed_56 post X U S vc mN mL nc lc ph pt nw de vx vy nk na nb us du lk lv le ou ax ay ar dn ga m 0 0 := by
  subst eX; subst eU; subst eS
  refine loop_0 (fun m q (r : Int32) => wY_narrowed_56 post (nI x) (nI v) (nI s) vc mN mL nc lc ph pt nw de vx vy nk na nb us du lk lv le ou ax ay ar dn ga m r (nI q)) (fun q r => ∀ i, i < 32 → (bt r i = true ↔ ∃ q', q' < q ∧ bt (ga (x * 343 + q')) s = true ∧ shq q' v = i)) 343 0 (fun i _ => ⟨fun z => by rw [b_0] at z; exact absurd z Bool.false_ne_true, fun ⟨q, z, _⟩ => absurd z (Nat.not_lt_zero q)⟩) ?_ ?_
  · intro m r hr
    exact br_t (nI_le (Nat.le_refl 343) (by decide)) (h r hr)
  · intro m q r hq hr K
    have e := na_343 x q
    refine br_f (nI_ge (b := 343) hq (by decide)) (And.intro (na_in e (by omega) (by decide)) ?_)
    rw [na_cl e (by omega)]
    refine y_has rfl (by omega) (fun hb => br_f i1_0 (y_shape rfl rfl hq hv (nm_e (nm_r (nI_1 q) (K _ fun i hi => ?_))))) (fun hb => br_t rfl (nm_r (nI_1 q) (K r fun i hi => (hr i hi).trans ⟨fun ⟨q', a, b⟩ => ⟨q', by omega, b⟩, fun ⟨q', a, b, c⟩ => ?_⟩)))
    · have := sq_lt (v := v) hq
      rw [b_or, bo_or, hr i hi, bt_p _ (by omega) hi, decide_eq_true_iff]
      constructor
      · rintro (⟨q', a, b⟩ | a)
        · exact ⟨q', by omega, b⟩
        · exact ⟨q, by omega, hb, a.symm⟩
      · rintro ⟨q', a, b, c⟩
        by_cases e1 : q' = q
        · subst e1; exact Or.inr c.symm
        · exact Or.inl ⟨q', by omega, b, c⟩
    · by_cases e1 : q' = q
      · subst e1; exact absurd b (nf hb)
      · exact ⟨q', by omega, b, c⟩
/-- what both sides keep of the analysis -/
def AN (n l : Nat) (nk na nb lk le : Nat → Int32) (gv er sn re : Nat → Int64) (ow ar ga : Nat → Int32) : Prop :=
  VV 17 re ∧ VV n sn ∧ (∀ p q, p < 17 → q < 343 → (¬ ar (p * 343 + q) = 0 ↔ Rc re p q)) ∧
  (∀ x q, x < n → q < 343 → (Rc sn x q → MK (ga (x * 343 + q)) (AX gv er x (q / 49) (qj q))) ∧ (¬ Rc sn x q → ga (x * 343 + q) = 0)) ∧
  (∀ p, p < l → tk (lk p) = 1 → ow (le p).toNatClampNeg = nI p ∧ ∀ q, q < 343 → (Rc sn (le p).toNatClampNeg q ↔ Rc re p q)) ∧
  (∀ x k, x < n → nk x = nI k → 4 ≤ k → k ≤ 14 → ow (na x).toNatClampNeg = ow x ∧ (bN k → ow (nb x).toNatClampNeg = ow x))
def VD (l : Nat) (lk le : Nat → Int32) (gv er re : Nat → Int64) (vd : Int32) : Prop :=
  ((∀ p, p < l → ¬ FL gv er re lk le p) → vd = 1) ∧ ((∃ p, p < l ∧ FL gv er re lk le p) → vd = 0)
theorem AN_ga {nk na nb lk le ow ar ga : Nat → Int32} {gv er sn re : Nat → Int64} {x q i : Nat} (h : AN n l nk na nb lk le gv er sn re ow ar ga) (hx : x < n) (hq : q < 343) (hi : i < 32) :
    bt (ga (x * 343 + q)) i = true ↔ Rc sn x q ∧ i < 8 ∧ AX gv er x (q / 49) (qj q) i = true := by
  obtain ⟨k1, k2⟩ := h.2.2.2.1 x q hx hq
  by_cases c : Rc sn x q
  · rw [k1 c i hi]; exact ⟨fun z => ⟨c, z⟩, fun z => z.2⟩
  · rw [k2 c, b_0]; exact ⟨fun z => absurd z Bool.false_ne_true, fun z => absurd z.1 c⟩
theorem b_128 : ∀ i, i < 32 → bt 128 i = decide (i = 7) := by decide +kernel
theorem b_249 : ∀ i, i < 32 → bt 249 i = (decide (i = 7) || (decide (i = 0) || (decide (3 ≤ i) && decide (i < 7)))) := by decide +kernel
theorem y_mf {post : Int32 → Prop} {p e : Nat} {P B : Int32} (eP : P = nI p) (hp : p < 16) (he : le p = nI e) (e32 : e < 32) (h1 : (∃ q, q < 343 ∧ ¬ (ga (e * 343 + q) &&& B) = 0) → post 1) (h0 : (∀ q, q < 343 → (ga (e * 343 + q) &&& B) = 0) → post 0) : ∃ m, wY_mayFail_58 post P B vc mN mL nc lc ph pt nw de vx vy nk na nb us du lk lv le ou ax ay ar dn ga m 0 := by
  subst eP
  refine loop_0 (fun m q (_ : Unit) => wY_mayFail_58 post (nI p) B vc mN mL nc lc ph pt nw de vx vy nk na nb us du lk lv le ou ax ay ar dn ga m (nI q)) (fun q _ => ∀ q', q' < q → (ga (e * 343 + q') &&& B) = 0) 343 () (fun q hq => absurd hq (Nat.not_lt_zero q)) ?_ ?_
  · intro m _ hI
    exact br_t (nI_le (Nat.le_refl 343) (by decide)) (h0 hI)
  · intro m q _ hq hI K
    have eg := na_343 e q
    have hc : (nI p).toNatClampNeg = p := nI_clamp (by omega)
    refine br_f (nI_ge (b := 343) hq (by decide)) (And.intro (vp_in_nI hp (by decide)) ?_)
    rw [hc, he]
    refine And.intro (na_in eg (by omega) (by decide)) ?_
    rw [na_cl eg (by omega)]
    by_cases z : (ga (e * 343 + q) &&& B) = 0
    · exact br_t z (nm_r (nI_1 q) (K () (lt_s hI z)))
    · exact br_f z (h1 ⟨q, hq, z⟩)
theorem y_mayFail {post : Int32 → Prop} {p : Nat} {P : Int32} (eP : P = nI p) (hph : ¬ ph = 0) (hlc : lc = nI l) (hl : l ≤ 16) (hn : n ≤ 32) (hL : ∀ p, p < l → LW V n lk lv le p) (hA : AN n l nk na nb lk le gv er sn re ow ar ga) (hp : p < l)
    (h1 : FL gv er re lk le p → post 1) (h0 : ¬ FL gv er re lk le p → post 0) : wpY_mayFail post (vc, mN, mL, nc, lc, ph, pt, nw, de, vx, vy, nk, na, nb, us, du, lk, lv, le, ou, ax, ay, ar, dn, ga) P := by
  subst eP
  have hi : vp_in (nI p) 16 := vp_in_nI (by omega) (by decide)
  have hc : (nI p).toNatClampNeg = p := nI_clamp (by omega)
  obtain ⟨k, k1, k6, hk, _, e, e32, he, hen⟩ := hL p hp
  have hce : (le p).toNatClampNeg = e := by rw [he, nI_clamp (by omega)]
  refine br_f hph (br_f (nI_pos (by omega)) (br_t (by rw [hlc]; exact nI_lt hp (by omega)) (And.intro hi (y_takesNode ?_))))
  rw [hc]
  by_cases kt : k = 1 ∨ k = 2 ∨ k = 5
  · have ht : tk (lk p) = 1 := by rw [hk]; exact tk_1 k6 kt
    have en := hen kt
    have hrc := (hA.2.2.2.2.1 p hp ht).2
    rw [hce] at hrc
    refine br_f (by rw [ht]; exact i1_0) (And.intro hi ?_)
    have fl : ∀ B : Int32, (∀ A : Nat → Bool, (∃ i, i < 32 ∧ (i < 8 ∧ A i = true) ∧ bt B i = true) ↔ (A 7 = true ∨ (¬ lk p = 1 ∧ (A 0 = true ∨ orr A 3 4 = true)))) → ((∃ q, q < 343 ∧ ¬ (ga (e * 343 + q) &&& B) = 0) ↔ FL gv er re lk le p) := by
      intro B hB
      unfold FL
      rw [hce]
      constructor
      · rintro ⟨q, hq, z⟩
        obtain ⟨i, hi, z⟩ := b_nz.mp z
        rw [b_and, bo_and, AN_ga hA en hq hi] at z
        exact ⟨ht, q, hq, (hrc q hq).mp z.1.1, (hB _).mp ⟨i, hi, z.1.2, z.2⟩⟩
      · rintro ⟨_, q, hq, hr, z⟩
        obtain ⟨i, hi, z1, z2⟩ := (hB _).mpr z
        exact ⟨q, hq, b_nz.mpr ⟨i, hi, by rw [b_and, bo_and, AN_ga hA en hq hi]; exact ⟨⟨(hrc q hq).mpr hr, z1⟩, z2⟩⟩⟩
    by_cases c1 : lk p = 1
    · have F := fl 128 (fun A => by
        constructor
        · rintro ⟨i, hi, z1, z2⟩
          rw [b_128 i hi, decide_eq_true_iff] at z2
          subst z2; exact Or.inl z1.2
        · rintro (z | z)
          · exact ⟨7, by decide, ⟨by decide, z⟩, by decide⟩
          · exact absurd c1 z.1)
      exact br_t c1 (y_mf rfl (by omega) he e32 (fun z => h1 (F.mp z)) (fun z => h0 fun y => by obtain ⟨q, hq, w⟩ := F.mpr y; exact w (z q hq)))
    · have F := fl 249 (fun A => by
        constructor
        · rintro ⟨i, hi, z1, z2⟩
          rw [b_249 i hi, bo_or, bo_or, bo_and, decide_eq_true_iff, decide_eq_true_iff, decide_eq_true_iff, decide_eq_true_iff] at z2
          rcases z2 with z2 | z2 | z2
          · subst z2; exact Or.inl z1.2
          · subst z2; exact Or.inr ⟨c1, Or.inl z1.2⟩
          · exact Or.inr ⟨c1, Or.inr (orr_iff.mpr ⟨i, z2.1, by omega, z1.2⟩)⟩
        · rintro (z | ⟨_, z | z⟩)
          · exact ⟨7, by decide, ⟨by decide, z⟩, by decide⟩
          · exact ⟨0, by decide, ⟨by decide, z⟩, by decide⟩
          · obtain ⟨i, a, b, c⟩ := orr_iff.mp z
            refine ⟨i, by omega, ⟨by omega, c⟩, ?_⟩
            rw [b_249 i (by omega), bo_or, bo_or, bo_and, decide_eq_true_iff, decide_eq_true_iff, decide_eq_true_iff, decide_eq_true_iff]
            exact Or.inr (Or.inr ⟨a, by omega⟩))
      exact br_f c1 (y_mf rfl (by omega) he e32 (fun z => h1 (F.mp z)) (fun z => h0 fun y => by obtain ⟨q, hq, w⟩ := F.mpr y; exact w (z q hq)))
  · have ht : tk (lk p) = 0 := by rw [hk]; exact tk_0 k1 k6 kt
    exact br_t ht (h0 fun z => by have := z.1; rw [ht] at this; exact absurd this (by decide))
theorem y_check36 {post : Int32 → SY → Prop} (hph : ¬ ph = 0) (hlc : lc = nI l) (hl : l ≤ 16) (hn : n ≤ 32) (hL : ∀ p, p < l → LW V n lk lv le p) (hA : AN n l nk na nb lk le gv er sn re ow ar ga)
    (h1 : (∀ p, p < l → ¬ FL gv er re lk le p) → post 1 (vc, mN, mL, nc, lc, ph, pt, nw, de, vx, vy, nk, na, nb, us, du, lk, lv, le, ou, ax, ay, ar, dn, ga)) (h0 : (∃ p, p < l ∧ FL gv er re lk le p) → post 0 (vc, mN, mL, nc, lc, ph, pt, nw, de, vx, vy, nk, na, nb, us, du, lk, lv, le, ou, ax, ay, ar, dn, ga)) : ∃ m, wY_check_36 post vc mN mL nc lc ph pt nw de vx vy nk na nb us du lk lv le ou ax ay ar dn ga m 0 := by
  refine loop_0 (fun m p (_ : Unit) => wY_check_36 post vc mN mL nc lc ph pt nw de vx vy nk na nb us du lk lv le ou ax ay ar dn ga m (nI p)) (fun p _ => ∀ p', p' < p → ¬ FL gv er re lk le p') l () (fun p hp => absurd hp (Nat.not_lt_zero p)) ?_ ?_
  · intro m _ hI
    exact br_t (by rw [hlc]; exact nI_le (Nat.le_refl l) (by omega)) (h1 hI)
  · intro m p _ hp hI K
    exact br_f (by rw [hlc]; exact nI_ge hp (by omega)) (y_mayFail rfl hph hlc hl hn hL hA hp (fun z => br_t rfl (h0 ⟨p, hp, z⟩)) (fun z => br_f (by decide) (nm_r (nI_1 p) (K () (lt_s hI z)))))
theorem x_check40 {post : Int32 → SX → Prop} (hlc : lc = nI l) (hl : l ≤ 16) (hL : ∀ p, p < l → LW V n lk lv le p) (hV : VV 17 re) (hd : DC de)
    (h : ∀ vd', VD l lk le gv er re vd' → post vd' (vc, mN, mL, nc, lc, dp, pd, vd', 1, 0, de, nk, na, nb, us, lk, lv, le, ju, el, ol, gv, er, sn, re, ow, st1 de vs 3, st2 de vx 3, st3 vy 3, ws, wx, wy)) : ∃ m, wX_check_40 post vc mN mL nc lc dp pd ph pt de nk na nb us lk lv le ju el ol gv er sn re ow vs vx vy ws wx wy m 0 1 := by
  refine loop_0 (fun m p (v : Int32) => wX_check_40 post vc mN mL nc lc dp pd ph pt de nk na nb us lk lv le ju el ol gv er sn re ow vs vx vy ws wx wy m (nI p) v) (fun p v => ((∀ p', p' < p → ¬ FL gv er re lk le p') → v = 1) ∧ ((∃ p', p' < p ∧ FL gv er re lk le p') → v = 0)) l 1 ⟨fun _ => rfl, fun ⟨p, z, _⟩ => absurd z (Nat.not_lt_zero p)⟩ ?_ ?_
  · intro m v hv
    exact br_t (by rw [hlc]; exact nI_le (Nat.le_refl l) (by omega)) (x_toStart hd (h v hv))
  · intro m p v hp ⟨a, b⟩ K
    obtain ⟨k, _, _, _, _, e, e32, he, _⟩ := hL p hp
    refine br_f (by rw [hlc]; exact nI_ge hp (by omega)) (x_lineFails (by omega) he e32 hV (fun z => br_f i1_0 (nm_r (nI_1 p) (K 0 ⟨fun y => absurd z (y p (by omega)), fun _ => rfl⟩))) (fun z => br_t rfl (nm_r (nI_1 p) (K v ⟨fun y => a fun p' hp' => y p' (by omega), fun ⟨p', y1, y2⟩ => b ⟨p', ?_, y2⟩⟩))))
    have : p' ≠ p := fun e => z (e ▸ y2)
    omega
end NT27
end
section
section NT28
/-! values: a shape (7: none), and two ints -/
abbrev Tri : Type := Nat × Int32 × Int32
def tfv (b : Bool) : Tri := if b = true then (2, 1, 0) else (1, 0, 0)
def evB (k : Nat) (A B : Tri) : Tri :=
  if k = 7 then (if A.1 = 1 then (1, 0, 0) else if A.1 = 2 then B else (7, 0, 0))
  else if k = 8 then (if A.1 = 2 then (2, 1, 0) else if A.1 = 1 then B else (7, 0, 0))
  else if k = 9 then (if A.1 ≤ 2 ∧ B.1 ≤ 2 then (3 + (if A.1 = 0 then 0 else 2) + (if B.1 = 0 then 0 else 1), A.2.1, B.2.1) else (7, 0, 0))
  else if A.1 = 0 ∧ B.1 = 0 then (if k = 4 then (0, A.2.1 + B.2.1, 0) else if B.2.1 ≤ A.2.1 then (1, 0, 0) else (2, 1, 0)) else (7, 0, 0)
def evU (k : Nat) (A : Tri) : Tri :=
  if k = 6 then (if A.1 = 1 then (2, 1, 0) else if A.1 = 2 then (1, 0, 0) else (7, 0, 0))
  else if k = 10 then (if 3 ≤ A.1 ∧ A.1 ≤ 6 then (if A.1 = 3 ∨ A.1 = 4 then (0, A.2.1, 0) else if A.2.1 = 1 then (2, 1, 0) else (1, 0, 0)) else (7, 0, 0))
  else if k = 11 then (if 3 ≤ A.1 ∧ A.1 ≤ 6 then (if A.1 = 3 ∨ A.1 = 5 then (0, A.2.2, 0) else if A.2.2 = 1 then (2, 1, 0) else (1, 0, 0)) else (7, 0, 0))
  else if A.1 ≤ 6 then (if k = 12 then (if A.1 = 0 then (2, 1, 0) else (1, 0, 0)) else if k = 13 then (if A.1 = 1 ∨ A.1 = 2 then (2, 1, 0) else (1, 0, 0)) else if 3 ≤ A.1 then (2, 1, 0) else (1, 0, 0)) else (7, 0, 0)
def Vs (k a b : Int32) (σ : Nat → Nat) (vx vy : Nat → Int32) (T : Nat → Tri) : Tri :=
  if k = 1 then (σ a.toNatClampNeg, vx a.toNatClampNeg, vy a.toNatClampNeg) else if k = 2 then (0, a, 0) else if k = 3 then (if a = 1 then (2, 1, 0) else (1, 0, 0))
  else if bn k = 0 then evU k.toNatClampNeg (T a.toNatClampNeg) else evB k.toNatClampNeg (T a.toNatClampNeg) (T b.toNatClampNeg)
def Vt (nk na nb : Nat → Int32) (σ : Nat → Nat) (vx vy : Nat → Int32) : Nat → Nat → Tri
  | 0 => fun _ => (7, 0, 0)
  | n + 1 => fun x => if x = n then Vs (nk n) (na n) (nb n) σ vx vy (Vt nk na nb σ vx vy n) else Vt nk na nb σ vx vy n x
def VL (nk na nb : Nat → Int32) (σ : Nat → Nat) (vx vy : Nat → Int32) (x : Nat) : Tri := Vt nk na nb σ vx vy (x + 1) x
variable {nk na nb vx vy : Nat → Int32} {σ : Nat → Nat}
theorem Vt_st {x : Nat} : ∀ n, x < n → Vt nk na nb σ vx vy n x = VL nk na nb σ vx vy x := by
  intro n
  induction n with
  | zero => intro h; omega
  | succ n ih =>
    intro h
    by_cases e : x = n
    · subst e; rfl
    · rw [← ih (by omega)]
      exact if_neg e
theorem VL_eq (x : Nat) : VL nk na nb σ vx vy x = Vs (nk x) (na x) (nb x) σ vx vy (Vt nk na nb σ vx vy x) := if_pos rfl
theorem VL_1 {x : Nat} (h : nk x = 1) : VL nk na nb σ vx vy x = (σ (na x).toNatClampNeg, vx (na x).toNatClampNeg, vy (na x).toNatClampNeg) := by
  rw [VL_eq]; exact if_pos h
theorem VL_2 {x : Nat} (h : nk x = 2) : VL nk na nb σ vx vy x = (0, na x, 0) := by
  rw [VL_eq]; unfold Vs; rw [h, if_neg (by decide), if_pos rfl]
theorem VL_3 {x : Nat} (h : nk x = 3) : VL nk na nb σ vx vy x = if na x = 1 then (2, 1, 0) else (1, 0, 0) := by
  rw [VL_eq]; unfold Vs; rw [h, if_neg (by decide), if_neg (by decide), if_pos rfl]
theorem VL_4 {x k a b : Nat} (h : nk x = nI k) (h4 : 4 ≤ k) (h14 : k ≤ 14) (ha : na x = nI a) (hb : nb x = nI b) (hax : a < x) (hbx : b < x) (hx : x < 2 ^ 31) :
    VL nk na nb σ vx vy x = if bn (nI k) = 0 then evU k (VL nk na nb σ vx vy a) else evB k (VL nk na nb σ vx vy a) (VL nk na nb σ vx vy b) := by
  rw [VL_eq]; unfold Vs
  rw [h, if_neg (show ¬ nI k = 1 from nI_ne (b := 1) (by omega) (by omega) (by omega)), if_neg (show ¬ nI k = 2 from nI_ne (b := 2) (by omega) (by omega) (by omega)), if_neg (show ¬ nI k = 3 from nI_ne (b := 3) (by omega) (by omega) (by omega)), ha, hb, nI_clamp (by omega), nI_clamp (by omega), nI_clamp (by omega), Vt_st x hax, Vt_st x hbx]
/-- booleans are 0 or 1 wherever they stand -/
def vok (s : Nat) (x y : Int32) : Prop := (s = 0 → y = 0) ∧ (s = 1 → x = 0 ∧ y = 0) ∧ (s = 2 → x = 1 ∧ y = 0) ∧ (s = 4 → y = 0 ∨ y = 1) ∧ (s = 5 → x = 0 ∨ x = 1) ∧ (s = 6 → (x = 0 ∨ x = 1) ∧ (y = 0 ∨ y = 1))
def tok (t : Tri) : Prop := t.1 ≤ 7 ∧ vok t.1 t.2.1 t.2.2
theorem tok_7 : tok (7, 0, 0) := ⟨by decide, by decide, by decide, by decide, by decide, by decide, by decide⟩
theorem tok_1 : tok (1, 0, 0) := ⟨by decide, by decide, by decide, by decide, by decide, by decide, by decide⟩
theorem tok_2 : tok (2, 1, 0) := ⟨by decide, by decide, by decide, by decide, by decide, by decide, by decide⟩
theorem vok_0 (x : Int32) : vok 0 x 0 := ⟨fun _ => rfl, fun z => absurd z (by decide), fun z => absurd z (by decide), fun z => absurd z (by decide), fun z => absurd z (by decide), fun z => absurd z (by decide)⟩
theorem vok_3 (x y : Int32) : vok 3 x y := ⟨fun z => absurd z (by decide), fun z => absurd z (by decide), fun z => absurd z (by decide), fun z => absurd z (by decide), fun z => absurd z (by decide), fun z => absurd z (by decide)⟩
theorem vok_4 {x y : Int32} (h : y = 0 ∨ y = 1) : vok 4 x y := ⟨fun z => absurd z (by decide), fun z => absurd z (by decide), fun z => absurd z (by decide), fun _ => h, fun z => absurd z (by decide), fun z => absurd z (by decide)⟩
theorem vok_5 {x y : Int32} (h : x = 0 ∨ x = 1) : vok 5 x y := ⟨fun z => absurd z (by decide), fun z => absurd z (by decide), fun z => absurd z (by decide), fun z => absurd z (by decide), fun _ => h, fun z => absurd z (by decide)⟩
theorem vok_6 {x y : Int32} (h : x = 0 ∨ x = 1) (g : y = 0 ∨ y = 1) : vok 6 x y := ⟨fun z => absurd z (by decide), fun z => absurd z (by decide), fun z => absurd z (by decide), fun z => absurd z (by decide), fun z => absurd z (by decide), fun _ => ⟨h, g⟩⟩
theorem tok_m {s : Nat} {x y : Int32} (h : s ≤ 7) (g : vok s x y) : tok (s, x, y) := ⟨h, g⟩
theorem tok_0 (x : Int32) : tok (0, x, 0) := tok_m (by decide) (vok_0 x)
theorem tok_i {c : Prop} [Decidable c] {a b : Tri} (ha : c → tok a) (hb : ¬ c → tok b) : tok (if c then a else b) := by
  by_cases h : c
  · rw [if_pos h]; exact ha h
  · rw [if_neg h]; exact hb h
theorem tok_B {k : Nat} {A B : Tri} (hA : tok A) (hB : tok B) : tok (evB k A B) := by
  unfold evB
  refine tok_i (fun _ => tok_i (fun _ => tok_1) fun _ => tok_i (fun _ => hB) fun _ => tok_7) fun _ => tok_i (fun _ => tok_i (fun _ => tok_2) fun _ => tok_i (fun _ => hB) fun _ => tok_7) fun _ => tok_i (fun _ => tok_i (fun h => ?_) fun _ => tok_7) fun _ => tok_i (fun _ => tok_i (fun _ => tok_0 _) fun _ => tok_i (fun _ => tok_1) fun _ => tok_2) fun _ => tok_7
  obtain ⟨h1, h2⟩ := h
  obtain ⟨_, a0, a1, a2, _⟩ := hA
  obtain ⟨_, b0, b1, b2, _⟩ := hB
  have xa : ¬ A.1 = 0 → A.2.1 = 0 ∨ A.2.1 = 1 := fun z => by
    rcases (by omega : A.1 = 1 ∨ A.1 = 2) with c | c
    · exact Or.inl (a1 c).1
    · exact Or.inr (a2 c).1
  have xb : ¬ B.1 = 0 → B.2.1 = 0 ∨ B.2.1 = 1 := fun z => by
    rcases (by omega : B.1 = 1 ∨ B.1 = 2) with c | c
    · exact Or.inl (b1 c).1
    · exact Or.inr (b2 c).1
  by_cases za : A.1 = 0
  · by_cases zb : B.1 = 0
    · rw [if_pos za, if_pos zb]; exact tok_m (by decide) (vok_3 _ _)
    · rw [if_pos za, if_neg zb]; exact tok_m (by decide) (vok_4 (xb zb))
  · by_cases zb : B.1 = 0
    · rw [if_neg za, if_pos zb]; exact tok_m (by decide) (vok_5 (xa za))
    · rw [if_neg za, if_neg zb]; exact tok_m (by decide) (vok_6 (xa za) (xb zb))
theorem tok_U {k : Nat} {A : Tri} (_hA : tok A) : tok (evU k A) := by
  unfold evU
  exact tok_i (fun _ => tok_i (fun _ => tok_2) fun _ => tok_i (fun _ => tok_1) fun _ => tok_7) fun _ =>
    tok_i (fun _ => tok_i (fun _ => tok_i (fun _ => tok_0 _) fun _ => tok_i (fun _ => tok_2) fun _ => tok_1) fun _ => tok_7) fun _ =>
    tok_i (fun _ => tok_i (fun _ => tok_i (fun _ => tok_0 _) fun _ => tok_i (fun _ => tok_2) fun _ => tok_1) fun _ => tok_7) fun _ =>
    tok_i (fun _ => tok_i (fun _ => tok_i (fun _ => tok_2) fun _ => tok_1) fun _ => tok_i (fun _ => tok_i (fun _ => tok_2) fun _ => tok_1) fun _ => tok_i (fun _ => tok_2) fun _ => tok_1) fun _ => tok_7
theorem VL_ok {V n : Nat} (hN : ∀ y, y < n → NW V nk na nb y) (hn : n ≤ 32) (hV : V ≤ 3) (hv : ∀ v, v < 3 → σ v < 7 ∧ vok (σ v) (vx v) (vy v)) : ∀ x, x < n → tok (VL nk na nb σ vx vy x) := by
  intro x
  induction x using Nat.strongRecOn with
  | _ x ih =>
    intro hx
    obtain ⟨k, h1, h14, hk, c1, c3, c4⟩ := hN x hx
    rcases (by omega : k = 1 ∨ k = 2 ∨ k = 3 ∨ 4 ≤ k) with rfl | rfl | rfl | h4
    · obtain ⟨v, a, b⟩ := c1 rfl
      rw [VL_1 hk, b, nI_clamp (by omega)]
      have := hv v (by omega)
      exact ⟨by dsimp only; omega, this.2⟩
    · rw [VL_2 hk]; exact tok_0 _
    · rw [VL_3 hk]; exact tok_i (fun _ => tok_2) fun _ => tok_1
    · obtain ⟨a, b, ha, hb, ea, eb, _⟩ := c4 h4
      rw [VL_4 hk h4 h14 ea eb ha hb (by omega)]
      exact tok_i (fun _ => tok_U (ih a ha (by omega))) fun _ => tok_B (ih a ha (by omega)) (ih b hb (by omega))
end NT28
end
section
section NT29
variable {vc mN mL nc lc dp pd vd ph pt nw : Int32} {de nk na nb us lk lv le ju el ol ow vs vx vy ws wx wy du ou ax ay ar dn ga : Nat → Int32} {gv er sn re : Nat → Int64}
variable {post : SX → Prop} {V n l : Nat} {x a b k : Nat}
def Wk (x : Nat) (t : Tri) (ws wx wy ws' wx' wy' : Nat → Int32) : Prop := (∀ z, z ≠ x → ws' z = ws z ∧ wx' z = wx z ∧ wy' z = wy z) ∧ ws' x = nI t.1 ∧ wx' x = t.2.1 ∧ wy' x = t.2.2
def T3 (ws wx wy : Nat → Int32) (x : Nat) (t : Tri) : Prop := ws x = nI t.1 ∧ wx x = t.2.1 ∧ wy x = t.2.2
theorem Wk_rf {x : Nat} {t : Tri} {ws wx wy : Nat → Int32} (h : T3 ws wx wy x t) : Wk x t ws wx wy ws wx wy := ⟨fun _ _ => ⟨rfl, rfl, rfl⟩, h⟩
theorem Wk_up {x : Nat} {t : Tri} {ws wx wy : Nat → Int32} {S : Int32} (e : S = nI t.1) : Wk x t ws wx wy (upd ws x S) (upd wx x t.2.1) (upd wy x t.2.2) :=
  ⟨fun _ h => ⟨pk_un h, pk_un h, pk_un h⟩, pk_us.trans e, pk_us, pk_us⟩
theorem Wk_tr {x : Nat} {t u : Tri} {ws wx wy ws1 wx1 wy1 ws2 wx2 wy2 : Nat → Int32} (h : Wk x t ws wx wy ws1 wx1 wy1) (g : Wk x u ws1 wx1 wy1 ws2 wx2 wy2) : Wk x u ws wx wy ws2 wx2 wy2 :=
  ⟨fun z hz => by obtain ⟨a, b, c⟩ := h.1 z hz; obtain ⟨d, e, f⟩ := g.1 z hz; exact ⟨d.trans a, e.trans b, f.trans c⟩, g.2⟩
def HW (post : SX → Prop) (x : Nat) (t : Tri) (f : (Nat → Int32) → (Nat → Int32) → (Nat → Int32) → SX) (ws wx wy : Nat → Int32) : Prop :=
  ∀ ws' wx' wy', Wk x t ws wx wy ws' wx' wy' → post (f ws' wx' wy')
theorem x_sw {s : Nat} {S X Y : Int32} (eS : S = nI s) (hx : x < 32) (h : HW post x (s, X, Y) (fun ws' wx' wy' => (vc, mN, mL, nc, lc, dp, pd, vd, ph, pt, de, nk, na, nb, us, lk, lv, le, ju, el, ol, gv, er, sn, re, ow, vs, vx, vy, ws', wx', wy')) ws wx wy) : wpX_setWork post (vc, mN, mL, nc, lc, dp, pd, vd, ph, pt, de, nk, na, nb, us, lk, lv, le, ju, el, ol, gv, er, sn, re, ow, vs, vx, vy, ws, wx, wy) (nI x) S X Y :=
  x_setWork hx (h _ _ _ (Wk_up (t := (s, X, Y)) eS))
theorem x_sb0 (hx : x < 32) (h : HW post x (1, 0, 0) (fun ws' wx' wy' => (vc, mN, mL, nc, lc, dp, pd, vd, ph, pt, de, nk, na, nb, us, lk, lv, le, ju, el, ol, gv, er, sn, re, ow, vs, vx, vy, ws', wx', wy')) ws wx wy) : wpX_setBool post (vc, mN, mL, nc, lc, dp, pd, vd, ph, pt, de, nk, na, nb, us, lk, lv, le, ju, el, ol, gv, er, sn, re, ow, vs, vx, vy, ws, wx, wy) (nI x) 0 := by
  refine br_t rfl (br_t rfl ?_)
  unfold wX_setBool_20
  exact x_sw (s := 1) rfl hx h
theorem x_sb1 (hx : x < 32) (h : HW post x (2, 1, 0) (fun ws' wx' wy' => (vc, mN, mL, nc, lc, dp, pd, vd, ph, pt, de, nk, na, nb, us, lk, lv, le, ju, el, ol, gv, er, sn, re, ow, vs, vx, vy, ws', wx', wy')) ws wx wy) : wpX_setBool post (vc, mN, mL, nc, lc, dp, pd, vd, ph, pt, de, nk, na, nb, us, lk, lv, le, ju, el, ol, gv, er, sn, re, ow, vs, vx, vy, ws, wx, wy) (nI x) 1 := by
  refine br_f i1_0 (br_f i1_0 ?_)
  unfold wX_setBool_20
  exact x_sw (s := 2) rfl hx h
theorem x_evalB {A B : Tri} {P Q : Int32} (hx : x < 32) (hk : nk x = nI k) (hbk : bN k) (ha : na x = nI a) (hb : nb x = nI b) (ha' : a < 32) (hb' : b < 32) (eP : P = nI A.1) (eQ : Q = nI B.1) (hA : T3 ws wx wy a A) (hB : T3 ws wx wy b B) (oA : A.1 ≤ 7) (oB : B.1 ≤ 7)
    (h7 : T3 ws wx wy x (7, 0, 0)) (h : HW post x (evB k A B) (fun ws' wx' wy' => (vc, mN, mL, nc, lc, dp, pd, vd, ph, pt, de, nk, na, nb, us, lk, lv, le, ju, el, ol, gv, er, sn, re, ow, vs, vx, vy, ws', wx', wy')) ws wx wy) : wpX_evalBinary post (vc, mN, mL, nc, lc, dp, pd, vd, ph, pt, de, nk, na, nb, us, lk, lv, le, ju, el, ol, gv, er, sn, re, ow, vs, vx, vy, ws, wx, wy) (nI x) P Q := by
  obtain ⟨s, xa, ya⟩ := A
  obtain ⟨t, xb, yb⟩ := B
  dsimp only at eP eQ oA oB
  subst eP; subst eQ
  have hi : vp_in (nI x) 32 := vp_in_nI hx (by decide)
  have hc : (nI x).toNatClampNeg = x := nI_clamp (by omega)
  have hia : vp_in (nI a) 32 := vp_in_nI ha' (by decide)
  have hca : (nI a).toNatClampNeg = a := nI_clamp (by omega)
  have hib : vp_in (nI b) 32 := vp_in_nI hb' (by decide)
  have hcb : (nI b).toNatClampNeg = b := nI_clamp (by omega)
  have ne : ∀ u c : Nat, u ≤ 7 → c ≤ 20 → u ≠ c → ¬ nI u = nI c := fun u c h1 h2 h3 => nI_ne h3 (by omega) (by omega)
  have stay : evB k (s, xa, ya) (t, xb, yb) = (7, 0, 0) → post (vc, mN, mL, nc, lc, dp, pd, vd, ph, pt, de, nk, na, nb, us, lk, lv, le, ju, el, ol, gv, er, sn, re, ow, vs, vx, vy, ws, wx, wy) := fun e => h _ _ _ (Wk_rf (by rw [e]; exact h7))
  refine And.intro hi (nm_r (e' := nI a) (by rw [hc]; exact ha) (And.intro hi (nm_r (e' := nI b) (by rw [hc]; exact hb) (And.intro hi (nm_r (e' := nI k) (by rw [hc]; exact hk) ?_)))))
  rcases hbk with rfl | rfl | rfl | rfl | rfl
  · refine br_f (by decide) (br_f (by decide) (br_f (by decide) ?_))
    by_cases s0 : s = 0
    · refine br_t (congrArg nI s0) ?_
      by_cases t0 : t = 0
      · refine br_t (congrArg nI t0) (br_t rfl (And.intro hia (And.intro hib (x_sw (s := 0) rfl hx ?_))))
        rw [hca, hcb, hA.2.1, hB.2.1]
        have e : evB 4 (s, xa, ya) (t, xb, yb) = (0, xa + xb, 0) := by
          show (if s = 0 ∧ t = 0 then _ else _) = _
          rw [if_pos ⟨s0, t0⟩]; rfl
        rw [e] at h; exact h
      · exact br_f (ne t 0 oB (by decide) t0) (stay (by show (if s = 0 ∧ t = 0 then _ else _) = _; rw [if_neg (fun z => t0 z.2)]))
    · exact br_f (ne s 0 oA (by decide) s0) (stay (by show (if s = 0 ∧ t = 0 then _ else _) = _; rw [if_neg (fun z => s0 z.1)]))
  · refine br_f (by decide) (br_f (by decide) (br_f (by decide) ?_))
    by_cases s0 : s = 0
    · refine br_t (congrArg nI s0) ?_
      by_cases t0 : t = 0
      · refine br_t (congrArg nI t0) (br_f (by decide) (And.intro hia (And.intro hib ?_)))
        rw [hca, hcb, hA.2.1, hB.2.1]
        have e : evB 5 (s, xa, ya) (t, xb, yb) = if xb ≤ xa then (1, 0, 0) else (2, 1, 0) := by
          show (if s = 0 ∧ t = 0 then _ else _) = _
          rw [if_pos ⟨s0, t0⟩]; rfl
        rw [e] at h
        by_cases c : xb ≤ xa
        · rw [if_pos c] at h
          refine br_t c ?_
          unfold wX_evalBinary_236
          exact x_sb0 hx h
        · rw [if_neg c] at h
          refine br_f c ?_
          unfold wX_evalBinary_236
          exact x_sb1 hx h
      · exact br_f (ne t 0 oB (by decide) t0) (stay (by show (if s = 0 ∧ t = 0 then _ else _) = _; rw [if_neg (fun z => t0 z.2)]))
    · exact br_f (ne s 0 oA (by decide) s0) (stay (by show (if s = 0 ∧ t = 0 then _ else _) = _; rw [if_neg (fun z => s0 z.1)]))
  · refine br_t rfl (br_t rfl ?_)
    by_cases s1 : s = 1
    · have e : evB 7 (s, xa, ya) (t, xb, yb) = (1, 0, 0) := by show (if s = 1 then _ else _) = _; rw [if_pos s1]
      rw [e] at h
      refine br_t (congrArg nI s1) (br_f (by decide) ?_)
      unfold wX_evalBinary_71
      exact x_sb0 hx h
    · refine br_f (ne s 1 oA (by decide) s1) ?_
      by_cases s2 : s = 2
      · have e : evB 7 (s, xa, ya) (t, xb, yb) = (t, xb, yb) := by show (if s = 1 then _ else if s = 2 then _ else _) = _; rw [if_neg s1, if_pos s2]
        rw [e] at h
        refine br_t (by rw [s2]; decide) (And.intro hib (And.intro hib (x_sw (s := t) rfl hx ?_)))
        rw [hcb, hB.2.1, hB.2.2]; exact h
      · refine br_f (fun z => ?_) (stay (by show (if s = 1 then _ else if s = 2 then _ else _) = _; rw [if_neg s1, if_neg s2]))
        exact ne s 2 oA (by decide) s2 (z.trans (by decide))
  · refine br_f (by decide) (br_t rfl (br_f (by decide) ?_))
    by_cases s2 : s = 2
    · have e : evB 8 (s, xa, ya) (t, xb, yb) = (2, 1, 0) := by show (if s = 2 then _ else _) = _; rw [if_pos s2]
      rw [e] at h
      refine br_t (congrArg nI s2) (br_t rfl ?_)
      unfold wX_evalBinary_71
      exact x_sb1 hx h
    · refine br_f (ne s 2 oA (by decide) s2) ?_
      by_cases s1 : s = 1
      · have e : evB 8 (s, xa, ya) (t, xb, yb) = (t, xb, yb) := by show (if s = 2 then _ else if s = 1 then _ else _) = _; rw [if_neg s2, if_pos s1]
        rw [e] at h
        refine br_t (by rw [s1]; decide) (And.intro hib (And.intro hib (x_sw (s := t) rfl hx ?_)))
        rw [hcb, hB.2.1, hB.2.2]; exact h
      · refine br_f (fun z => ?_) (stay (by show (if s = 2 then _ else if s = 1 then _ else _) = _; rw [if_neg s2, if_neg s1]))
        exact ne s 1 oA (by decide) s1 (z.trans (by decide))
  · refine br_f (by decide) (br_f (by decide) (br_t rfl ?_))
    by_cases s2 : s ≤ 2
    · refine br_f (nI_nlt (a := 2) s2 (by decide)) ?_
      by_cases t2 : t ≤ 2
      · refine br_t (nI_le (b := 2) t2 (by decide)) ?_
        have e : evB 9 (s, xa, ya) (t, xb, yb) = (3 + (if s = 0 then 0 else 2) + (if t = 0 then 0 else 1), xa, xb) := by show (if s ≤ 2 ∧ t ≤ 2 then _ else _) = _; rw [if_pos ⟨s2, t2⟩]
        rw [e] at h
        have fin : ∀ (u w : Int32) (r : Nat), (w + u) = nI r → r = 3 + (if s = 0 then 0 else 2) + (if t = 0 then 0 else 1) → wX_evalBinary_146 post (nI x) (nI a) (nI b) u w vc mN mL nc lc dp pd vd ph pt de nk na nb us lk lv le ju el ol gv er sn re ow vs vx vy ws wx wy := by
          intro u w r e1 e2
          refine nm_r e1 (And.intro hia (And.intro hib (x_sw (s := r) rfl hx ?_)))
          rw [hca, hcb, hA.2.1, hB.2.1, e2]; exact h
        by_cases s0 : s = 0
        · refine br_t (congrArg nI s0) ?_
          by_cases t0 : t = 0
          · exact br_t (congrArg nI t0) (fin _ _ 3 (by decide) (by rw [if_pos s0, if_pos t0]))
          · exact br_f (ne t 0 oB (by decide) t0) (fin _ _ 4 (by decide) (by rw [if_pos s0, if_neg t0]))
        · refine br_f (ne s 0 oA (by decide) s0) ?_
          by_cases t0 : t = 0
          · exact br_t (congrArg nI t0) (fin _ _ 5 (by decide) (by rw [if_neg s0, if_pos t0]))
          · exact br_f (ne t 0 oB (by decide) t0) (fin _ _ 6 (by decide) (by rw [if_neg s0, if_neg t0]))
      · exact br_f (nI_ge (a := 2) (by omega) (by omega)) (stay (by show (if s ≤ 2 ∧ t ≤ 2 then _ else _) = _; rw [if_neg (fun z => t2 z.2)]))
    · exact br_t (nI_lt (a := 2) (by omega) (by omega)) (stay (by show (if s ≤ 2 ∧ t ≤ 2 then _ else _) = _; rw [if_neg (fun z => s2 z.1)]))
theorem hb_0 : ∀ s, s < 7 → 3 ≤ s → ((((nI s - 3) >>> (((1 : Int32) - 0) &&& 31)) &&& 1) = 0 ↔ (s = 3 ∨ s = 4)) := by decide +kernel
theorem hb_1 : ∀ s, s < 7 → 3 ≤ s → ((((nI s - 3) >>> (((1 : Int32) - 1) &&& 31)) &&& 1) = 0 ↔ (s = 3 ∨ s = 5)) := by decide +kernel
theorem x_part29 {s : Nat} {Z W : Int32} {c : Prop} [Decidable c] (hx : x < 32) (hh : (((nI s - 3) >>> ((1 - W) &&& 31)) &&& 1) = 0 ↔ c)
    (h : HW post x (if c then (0, Z, 0) else if Z = 1 then (2, 1, 0) else (1, 0, 0)) (fun ws' wx' wy' => (vc, mN, mL, nc, lc, dp, pd, vd, ph, pt, de, nk, na, nb, us, lk, lv, le, ju, el, ol, gv, er, sn, re, ow, vs, vx, vy, ws', wx', wy')) ws wx wy) : wX_evalPart_29 post (nI x) (nI s) W Z vc mN mL nc lc dp pd vd ph pt de nk na nb us lk lv le ju el ol gv er sn re ow vs vx vy ws wx wy := by
  unfold wX_evalPart_29
  by_cases hc : c
  · rw [if_pos hc] at h
    exact br_t (hh.mpr hc) (br_t rfl (x_sw (s := 0) rfl hx h))
  · rw [if_neg hc] at h
    refine br_f (fun z => hc (hh.mp z)) (br_f i1_0 ?_)
    by_cases z : Z = 1
    · rw [if_pos z] at h
      refine br_t z ?_
      unfold wX_evalPart_53
      exact x_sb1 hx h
    · rw [if_neg z] at h
      refine br_f z ?_
      unfold wX_evalPart_53
      exact x_sb0 hx h
theorem x_evalU {A : Tri} {P : Int32} (hx : x < 32) (hk : nk x = nI k) (k4 : 4 ≤ k) (k14 : k ≤ 14) (hbk : ¬ bN k) (ha : na x = nI a) (ha' : a < 32) (eP : P = nI A.1) (hA : T3 ws wx wy a A) (oA : A.1 ≤ 7)
    (h7 : T3 ws wx wy x (7, 0, 0)) (h : HW post x (evU k A) (fun ws' wx' wy' => (vc, mN, mL, nc, lc, dp, pd, vd, ph, pt, de, nk, na, nb, us, lk, lv, le, ju, el, ol, gv, er, sn, re, ow, vs, vx, vy, ws', wx', wy')) ws wx wy) : wpX_evalUnary post (vc, mN, mL, nc, lc, dp, pd, vd, ph, pt, de, nk, na, nb, us, lk, lv, le, ju, el, ol, gv, er, sn, re, ow, vs, vx, vy, ws, wx, wy) (nI x) P := by
  obtain ⟨s, xa, ya⟩ := A
  dsimp only at eP oA
  subst eP
  have hi : vp_in (nI x) 32 := vp_in_nI hx (by decide)
  have hc : (nI x).toNatClampNeg = x := nI_clamp (by omega)
  have hca : (nI a).toNatClampNeg = a := nI_clamp (by omega)
  have eA : na (nI x).toNatClampNeg = nI a := by rw [hc]; exact ha
  have ne : ∀ u c : Nat, u ≤ 7 → c ≤ 20 → u ≠ c → ¬ nI u = nI c := fun u c h1 h2 h3 => nI_ne h3 (by omega) (by omega)
  have stay : evU k (s, xa, ya) = (7, 0, 0) → post (vc, mN, mL, nc, lc, dp, pd, vd, ph, pt, de, nk, na, nb, us, lk, lv, le, ju, el, ol, gv, er, sn, re, ow, vs, vx, vy, ws, wx, wy) := fun e => h _ _ _ (Wk_rf (by rw [e]; exact h7))
  have s140 : ∀ Bv : Int32, (Bv = 1 ∧ evU k (s, xa, ya) = (2, 1, 0)) ∨ (Bv = 0 ∧ evU k (s, xa, ya) = (1, 0, 0)) → wX_evalUnary_140 post Bv (nI x) vc mN mL nc lc dp pd vd ph pt de nk na nb us lk lv le ju el ol gv er sn re ow vs vx vy ws wx wy := by
    intro Bv hB
    unfold wX_evalUnary_140
    rcases hB with ⟨rfl, e⟩ | ⟨rfl, e⟩
    · rw [e] at h; exact x_sb1 hx h
    · rw [e] at h; exact x_sb0 hx h
  have s40 : ∀ I P : Int32, ((I = 1 ∧ (s = 1 ∨ s = 2)) ∨ (I = 0 ∧ ¬ (s = 1 ∨ s = 2))) → ((P = 1 ∧ (3 ≤ s ∧ s ≤ 6)) ∨ (P = 0 ∧ ¬ (3 ≤ s ∧ s ≤ 6))) → wX_evalUnary_40 post (nI x) (nI s) (nI k) I P vc mN mL nc lc dp pd vd ph pt de nk na nb us lk lv le ju el ol gv er sn re ow vs vx vy ws wx wy := by
    intro I P hI hP
    unfold bN at hbk
    rcases (by omega : k = 6 ∨ k = 10 ∨ k = 11 ∨ k = 12 ∨ k = 13 ∨ k = 14) with rfl | rfl | rfl | rfl | rfl | rfl
    · refine br_t rfl ?_
      rcases hI with ⟨rfl, c⟩ | ⟨rfl, c⟩
      · refine br_f i1_0 ?_
        by_cases s1 : s = 1
        · have e : evU 6 (s, xa, ya) = (2, 1, 0) := by show (if s = 1 then _ else _) = _; rw [if_pos s1]
          rw [e] at h
          refine br_t (congrArg nI s1) ?_
          unfold wX_evalUnary_65
          exact x_sb1 hx h
        · have e : evU 6 (s, xa, ya) = (1, 0, 0) := by show (if s = 1 then _ else if s = 2 then _ else _) = _; rw [if_neg s1, if_pos (by omega)]
          rw [e] at h
          refine br_f (ne s 1 oA (by decide) s1) ?_
          unfold wX_evalUnary_65
          exact x_sb0 hx h
      · exact br_t rfl (stay (by show (if s = 1 then _ else if s = 2 then _ else _) = _; rw [if_neg (by omega), if_neg (by omega)]))
    · refine br_f (by decide) (br_t rfl ?_)
      rcases hP with ⟨rfl, c⟩ | ⟨rfl, c⟩
      · refine br_f i1_0 (br_t (show nI 10 - 10 = 0 by decide) (And.intro hi ?_))
        rw [eA]
        refine And.intro (vp_in_nI ha' (by decide)) (x_part29 (c := s = 3 ∨ s = 4) hx (hb_0 s (by omega) c.1) ?_)
        have e : evU 10 (s, xa, ya) = if s = 3 ∨ s = 4 then (0, xa, 0) else if xa = 1 then (2, 1, 0) else (1, 0, 0) := by show (if 3 ≤ s ∧ s ≤ 6 then _ else _) = _; rw [if_pos c]
        rw [hca, hA.2.1, ← e]; exact h
      · exact br_t rfl (stay (by show (if 3 ≤ s ∧ s ≤ 6 then _ else _) = _; rw [if_neg c]))
    · refine br_f (by decide) (br_f (by decide) (br_t rfl ?_))
      rcases hP with ⟨rfl, c⟩ | ⟨rfl, c⟩
      · refine br_f i1_0 (br_f (show ¬ nI 11 - 10 = 0 by decide) (And.intro hi ?_))
        rw [eA]
        refine And.intro (vp_in_nI ha' (by decide)) (x_part29 (c := s = 3 ∨ s = 5) hx (hb_1 s (by omega) c.1) ?_)
        have e : evU 11 (s, xa, ya) = if s = 3 ∨ s = 5 then (0, ya, 0) else if ya = 1 then (2, 1, 0) else (1, 0, 0) := by show (if 3 ≤ s ∧ s ≤ 6 then _ else _) = _; rw [if_pos c]
        rw [hca, hA.2.2, ← e]; exact h
      · exact br_t rfl (stay (by show (if 3 ≤ s ∧ s ≤ 6 then _ else _) = _; rw [if_neg c]))
    · refine br_f (by decide) (br_f (by decide) (br_f (by decide) ?_))
      by_cases s6 : s ≤ 6
      · refine br_f (nI_nlt (a := 6) s6 (by decide)) (br_t rfl ?_)
        have e : evU 12 (s, xa, ya) = if s = 0 then (2, 1, 0) else (1, 0, 0) := by show (if s ≤ 6 then _ else _) = _; rw [if_pos s6]; rfl
        by_cases s0 : s = 0
        · exact br_t (congrArg nI s0) (s140 1 (Or.inl ⟨rfl, by rw [e, if_pos s0]⟩))
        · exact br_f (ne s 0 oA (by decide) s0) (s140 0 (Or.inr ⟨rfl, by rw [e, if_neg s0]⟩))
      · exact br_t (nI_lt (a := 6) (by omega) (by omega)) (stay (by show (if s ≤ 6 then _ else _) = _; rw [if_neg s6]))
    · refine br_f (by decide) (br_f (by decide) (br_f (by decide) ?_))
      by_cases s6 : s ≤ 6
      · refine br_f (nI_nlt (a := 6) s6 (by decide)) (br_f (by decide) (br_t rfl (s140 I ?_)))
        have e : evU 13 (s, xa, ya) = if s = 1 ∨ s = 2 then (2, 1, 0) else (1, 0, 0) := by show (if s ≤ 6 then _ else _) = _; rw [if_pos s6]; rfl
        rcases hI with ⟨rfl, c⟩ | ⟨rfl, c⟩
        · exact Or.inl ⟨rfl, by rw [e, if_pos c]⟩
        · exact Or.inr ⟨rfl, by rw [e, if_neg c]⟩
      · exact br_t (nI_lt (a := 6) (by omega) (by omega)) (stay (by show (if s ≤ 6 then _ else _) = _; rw [if_neg s6]))
    · refine br_f (by decide) (br_f (by decide) (br_f (by decide) ?_))
      by_cases s6 : s ≤ 6
      · refine br_f (nI_nlt (a := 6) s6 (by decide)) (br_f (by decide) (br_f (by decide) (s140 P ?_)))
        have e : evU 14 (s, xa, ya) = if 3 ≤ s then (2, 1, 0) else (1, 0, 0) := by show (if s ≤ 6 then _ else _) = _; rw [if_pos s6]; rfl
        rcases hP with ⟨rfl, c⟩ | ⟨rfl, c⟩
        · exact Or.inl ⟨rfl, by rw [e, if_pos c.1]⟩
        · exact Or.inr ⟨rfl, by rw [e, if_neg (by omega)]⟩
      · exact br_t (nI_lt (a := 6) (by omega) (by omega)) (stay (by show (if s ≤ 6 then _ else _) = _; rw [if_neg s6]))
  have s22 : ∀ I : Int32, ((I = 1 ∧ (s = 1 ∨ s = 2)) ∨ (I = 0 ∧ ¬ (s = 1 ∨ s = 2))) → wX_evalUnary_22 post (nI x) (nI s) (nI k) I vc mN mL nc lc dp pd vd ph pt de nk na nb us lk lv le ju el ol gv er sn re ow vs vx vy ws wx wy := by
    intro I hI
    by_cases s3 : s < 3
    · refine br_t (nI_lt (b := 3) s3 (by decide)) ?_
      unfold wX_evalUnary_39
      exact s40 I 0 hI (Or.inr ⟨rfl, by omega⟩)
    · refine br_f (nI_nlt (b := 3) (by omega) (by omega)) ?_
      by_cases s6 : s ≤ 6
      · exact br_f (nI_nlt (a := 6) s6 (by decide)) (s40 I 1 hI (Or.inl ⟨rfl, by omega⟩))
      · refine br_t (nI_lt (a := 6) (by omega) (by omega)) ?_
        unfold wX_evalUnary_39
        exact s40 I 0 hI (Or.inr ⟨rfl, by omega⟩)
  refine And.intro hi (nm_r (e' := nI k) (by rw [hc]; exact hk) ?_)
  by_cases s1 : s = 1
  · refine br_t (congrArg nI s1) ?_
    unfold wX_evalUnary_17
    exact s22 1 (Or.inl ⟨rfl, by omega⟩)
  · refine br_f (ne s 1 oA (by decide) s1) ?_
    by_cases s2 : s = 2
    · refine br_t (congrArg nI s2) ?_
      unfold wX_evalUnary_17
      exact s22 1 (Or.inl ⟨rfl, by omega⟩)
    · exact br_f (ne s 2 oA (by decide) s2) (s22 0 (Or.inr ⟨rfl, by omega⟩))
end NT29
end
section
section NT30
variable {vc mN mL nc lc dp pd vd ph pt nw : Int32} {de nk na nb us lk lv le ju el ol ow vs vx vy ws wx wy du ou ax ay ar dn ga : Nat → Int32} {gv er sn re : Nat → Int64}
variable {V n l : Nat} {σ : Nat → Nat}
theorem T3_w {x a : Nat} {t u : Tri} {ws wx wy ws' wx' wy' : Nat → Int32} (h : Wk x t ws wx wy ws' wx' wy') (ha : a ≠ x) (hT : T3 ws wx wy a u) : T3 ws' wx' wy' a u := by
  obtain ⟨e1, e2, e3⟩ := h.1 a ha
  exact ⟨e1.trans hT.1, e2.trans hT.2.1, e3.trans hT.2.2⟩
theorem x_evalNode {post : SX → Prop} {x : Nat} (hn : n ≤ 32) (hV : V ≤ 3) (hN : ∀ y, y < n → NW V nk na nb y) (hx : x < n) (hvs : ∀ v, v < 3 → vs v = nI (σ v)) (hok : ∀ y, y < n → tok (VL nk na nb σ vx vy y))
    (hch : ∀ k, nk x = nI k → 4 ≤ k → k ≤ 14 → T3 ws wx wy (na x).toNatClampNeg (VL nk na nb σ vx vy (na x).toNatClampNeg) ∧ (bN k → T3 ws wx wy (nb x).toNatClampNeg (VL nk na nb σ vx vy (nb x).toNatClampNeg)))
    (h : HW post x (VL nk na nb σ vx vy x) (fun ws' wx' wy' => (vc, mN, mL, nc, lc, dp, pd, vd, ph, pt, de, nk, na, nb, us, lk, lv, le, ju, el, ol, gv, er, sn, re, ow, vs, vx, vy, ws', wx', wy')) ws wx wy) : wpX_evalNode post (vc, mN, mL, nc, lc, dp, pd, vd, ph, pt, de, nk, na, nb, us, lk, lv, le, ju, el, ol, gv, er, sn, re, ow, vs, vx, vy, ws, wx, wy) (nI x) := by
  have hi : vp_in (nI x) 32 := vp_in_nI (by omega) (by decide)
  have hc : (nI x).toNatClampNeg = x := nI_clamp (by omega)
  obtain ⟨k, k1, k14, hk, c1, c3, c4⟩ := hN x hx
  refine And.intro hi (nm_r (e' := na x) (by rw [hc]) (And.intro hi (nm_r (e' := nI k) (by rw [hc]; exact hk) (x_sw (s := 7) rfl (by omega) fun ws1 wx1 wy1 hw => ?_))))
  have h' : HW post x (VL nk na nb σ vx vy x) (fun ws' wx' wy' => (vc, mN, mL, nc, lc, dp, pd, vd, ph, pt, de, nk, na, nb, us, lk, lv, le, ju, el, ol, gv, er, sn, re, ow, vs, vx, vy, ws', wx', wy')) ws1 wx1 wy1 := fun a b c g => h a b c (Wk_tr hw g)
  rcases (by omega : k = 1 ∨ k = 2 ∨ k = 3 ∨ 4 ≤ k) with rfl | rfl | rfl | h4
  · obtain ⟨v, hv, ev⟩ := c1 rfl
    have hiv : vp_in (nI v) 3 := vp_in_nI (by omega) (by decide)
    refine br_t rfl ?_
    rw [ev]
    refine And.intro hiv (And.intro hiv (And.intro hiv (x_sw (s := σ v) (by rw [nI_clamp (by omega)]; exact hvs v (by omega)) (by omega) ?_)))
    rw [VL_1 hk, ev] at h'
    rw [nI_clamp (by omega)] at h' ⊢
    exact h'
  · rw [VL_2 hk] at h'
    exact br_f (by decide) (br_t rfl (x_sw (s := 0) rfl (by omega) h'))
  · refine br_f (by decide) (br_f (by decide) (br_t rfl ?_))
    rw [VL_3 hk] at h'
    by_cases e : na x = 1
    · rw [if_pos e] at h'
      refine br_t e ?_
      unfold wX_evalNode_87
      exact x_sb1 (by omega) h'
    · rw [if_neg e] at h'
      refine br_f e ?_
      unfold wX_evalNode_87
      exact x_sb0 (by omega) h'
  · obtain ⟨a, b, ha, hb, ea, eb, _⟩ := c4 h4
    have ca : (na x).toNatClampNeg = a := by rw [ea, nI_clamp (by omega)]
    have cb : (nb x).toNatClampNeg = b := by rw [eb, nI_clamp (by omega)]
    obtain ⟨ta, tb⟩ := hch k hk h4 k14
    rw [ca] at ta
    rw [cb] at tb
    have ta1 := T3_w hw (by omega) ta
    rw [VL_4 hk h4 k14 ea eb ha hb (by omega)] at h'
    refine br_f (nI_ne (b := 1) (by omega) (by omega) (by decide)) (br_f (nI_ne (b := 2) (by omega) (by omega) (by decide)) (br_f (nI_ne (b := 3) (by omega) (by omega) (by decide)) (x_isBinary ?_)))
    have hia : vp_in (nI a) 32 := vp_in_nI (by omega) (by decide)
    by_cases hbk : bN k
    · rw [bn_b hbk] at h' ⊢
      rw [if_neg i1_0] at h'
      have tb1 := T3_w hw (by omega) (tb hbk)
      refine br_f i1_0 ?_
      rw [ea]
      refine And.intro hia (And.intro hi ?_)
      rw [hc, eb]
      refine And.intro (vp_in_nI (by omega) (by decide)) ?_
      rw [nI_clamp (show a < 2 ^ 31 by omega), nI_clamp (show b < 2 ^ 31 by omega)]
      exact x_evalB (by omega) hk hbk ea eb (by omega) (by omega) ta1.1 tb1.1 ta1 tb1 (hok a (by omega)).1 (hok b (by omega)).1 hw.2 h'
    · rw [bn_nb k14 hbk] at h' ⊢
      rw [if_pos rfl] at h'
      refine br_t rfl ?_
      rw [ea]
      refine And.intro hia ?_
      rw [nI_clamp (show a < 2 ^ 31 by omega)]
      exact x_evalU (by omega) hk h4 k14 hbk ea (by omega) ta1.1 ta1 (hok a (by omega)).1 hw.2 h'
theorem x_evaluate {post : SX → Prop} {p e : Nat} (hn : n ≤ 32) (hV : V ≤ 3) (hN : ∀ y, y < n → NW V nk na nb y) (he : e < n) (hvs : ∀ v, v < 3 → vs v = nI (σ v)) (hok : ∀ y, y < n → tok (VL nk na nb σ vx vy y))
    (how : ∀ x k, x < n → nk x = nI k → 4 ≤ k → k ≤ 14 → ow (na x).toNatClampNeg = ow x ∧ (bN k → ow (nb x).toNatClampNeg = ow x))
    (h : ∀ ws' wx' wy', (∀ x, x ≤ e → ow x = nI p → T3 ws' wx' wy' x (VL nk na nb σ vx vy x)) → post (vc, mN, mL, nc, lc, dp, pd, vd, ph, pt, de, nk, na, nb, us, lk, lv, le, ju, el, ol, gv, er, sn, re, ow, vs, vx, vy, ws', wx', wy')) : wpX_evaluate post (vc, mN, mL, nc, lc, dp, pd, vd, ph, pt, de, nk, na, nb, us, lk, lv, le, ju, el, ol, gv, er, sn, re, ow, vs, vx, vy, ws, wx, wy) (nI p) (nI e) := by
  refine loop_0 (fun m i (t : (Nat → Int32) × (Nat → Int32) × (Nat → Int32)) => wX_evaluate_2 post (nI p) (nI e) m (nI i) vc mN mL nc lc dp pd vd ph pt de nk na nb us lk lv le ju el ol gv er sn re ow vs vx vy t.1 t.2.1 t.2.2) (fun i t => ∀ x, x < i → ow x = nI p → T3 t.1 t.2.1 t.2.2 x (VL nk na nb σ vx vy x)) (e + 1) (ws, wx, wy) (fun x hx => absurd hx (Nat.not_lt_zero x)) ?_ ?_
  · rintro m ⟨t1, t2, t3⟩ hI
    exact br_t (nI_lt (Nat.lt_succ_self e) (by omega)) (h t1 t2 t3 fun x hx => hI x (by omega))
  · rintro m i ⟨t1, t2, t3⟩ hi hI K
    dsimp only at hI ⊢
    have hii : vp_in (nI i) 32 := vp_in_nI (by omega) (by decide)
    have hc : (nI i).toNatClampNeg = i := nI_clamp (by omega)
    refine br_f (nI_nlt (by omega) (by omega)) (And.intro hii ?_)
    rw [hc]
    by_cases ho : ow i = nI p
    · refine br_t ho (x_evalNode hn hV hN (by omega) hvs hok (fun k hk k4 k14 => ?_) fun a b c g => nm_r (nI_1 i) (K (a, b, c) fun x hx hox => ?_))
      · obtain ⟨kk, _, _, hk', _, _, c4⟩ := hN i (by omega)
        have : kk = k := na_inj (hk'.symm.trans hk) (by omega) (by omega)
        subst this
        obtain ⟨a, b, ha, hb, ea, eb, _⟩ := c4 k4
        have ca : (na i).toNatClampNeg = a := by rw [ea, nI_clamp (by omega)]
        have cb : (nb i).toNatClampNeg = b := by rw [eb, nI_clamp (by omega)]
        obtain ⟨o1, o2⟩ := how i kk (by omega) hk k4 k14
        rw [ca] at o1 ⊢
        rw [cb] at o2 ⊢
        exact ⟨hI a (by omega) (o1.trans ho), fun hbk => hI b (by omega) ((o2 hbk).trans ho)⟩
      · by_cases e1 : x = i
        · subst e1; exact g.2
        · exact T3_w g e1 (hI x (by omega) hox)
    · refine br_f ho (nm_r (nI_1 i) (K (t1, t2, t3) fun x hx hox => ?_))
      by_cases e1 : x = i
      · subst e1; exact absurd hox ho
      · exact hI x (by omega) hox
def okS (lk : Nat → Int32) (p : Nat) (t : Tri) : Prop := (lk p = 1 ∧ t.1 ≤ 6) ∨ (opk (lk p) = true ∧ (t.1 = 1 ∨ t.1 = 2))
theorem x_execute {post : Int32 → SX → Prop} {p : Nat} {P : Int32} (eP : P = nI p) (hn : n ≤ 32) (hV : V ≤ 3) (hl : l ≤ 16) (hlc : lc = nI l) (hN : ∀ y, y < n → NW V nk na nb y) (hL : ∀ p, p < l → LW V n lk lv le p) (hp : p < l) (hj : ju p = nI (gJ lk l p)) (hvs : ∀ v, v < 3 → vs v = nI (σ v)) (hok : ∀ y, y < n → tok (VL nk na nb σ vx vy y))
    (how : ∀ x k, x < n → nk x = nI k → 4 ≤ k → k ≤ 14 → ow (na x).toNatClampNeg = ow x ∧ (bN k → ow (nb x).toNatClampNeg = ow x)) (hor : tk (lk p) = 1 → ow (le p).toNatClampNeg = nI p)
    (h0 : tk (lk p) = 1 → ¬ okS lk p (VL nk na nb σ vx vy (le p).toNatClampNeg) → ∀ ws' wx' wy', post 0 (vc, mN, mL, nc, lc, dp, pd, vd, ph, pt, de, nk, na, nb, us, lk, lv, le, ju, el, ol, gv, er, sn, re, ow, vs, vx, vy, ws', wx', wy'))
    (hnn : tk (lk p) = 0 → post 1 (vc, mN, mL, nc, lc, dp, pd, vd, ph, nI (gl lk l p), de, nk, na, nb, us, lk, lv, le, ju, el, ol, gv, er, sn, re, ow, vs, vx, vy, ws, wx, wy))
    (hs : lk p = 1 → (VL nk na nb σ vx vy (le p).toNatClampNeg).1 ≤ 6 → ∀ ws' wx' wy', post 1 (vc, mN, mL, nc, lc, dp, pd, vd, ph, nI (gl lk l p), de, nk, na, nb, us, lk, lv, le, ju, el, ol, gv, er, sn, re, ow, upd vs (lv p).toNatClampNeg (nI (VL nk na nb σ vx vy (le p).toNatClampNeg).1), upd vx (lv p).toNatClampNeg (VL nk na nb σ vx vy (le p).toNatClampNeg).2.1, upd vy (lv p).toNatClampNeg (VL nk na nb σ vx vy (le p).toNatClampNeg).2.2, ws', wx', wy'))
    (hcd : opk (lk p) = true → ∀ s, s = (VL nk na nb σ vx vy (le p).toNatClampNeg).1 → s = 1 ∨ s = 2 → ∀ ws' wx' wy', post 1 (vc, mN, mL, nc, lc, dp, pd, vd, ph, nI (sto lk l p s), de, nk, na, nb, us, lk, lv, le, ju, el, ol, gv, er, sn, re, ow, vs, vx, vy, ws', wx', wy')) : wpX_execute post (vc, mN, mL, nc, lc, dp, pd, vd, ph, pt, de, nk, na, nb, us, lk, lv, le, ju, el, ol, gv, er, sn, re, ow, vs, vx, vy, ws, wx, wy) P := by
  subst eP
  have hi : vp_in (nI p) 16 := vp_in_nI (by omega) (by decide)
  have hc : (nI p).toNatClampNeg = p := nI_clamp (by omega)
  obtain ⟨k, k1, k6, hk, hv, e, e32, he, hen⟩ := hL p hp
  have hce : (le p).toNatClampNeg = e := by rw [he, nI_clamp (by omega)]
  rw [hce] at h0 hs hcd hor
  unfold wpX_execute
  refine x_target (by omega) ?_
  rw [gl_I hlc hj]
  refine And.intro hi (x_takesNode ?_)
  rw [hc]
  by_cases kt : k = 1 ∨ k = 2 ∨ k = 5
  · have ht : tk (lk p) = 1 := by rw [hk]; exact tk_1 k6 kt
    have en := hen kt
    have hie : vp_in (nI e) 32 := vp_in_nI e32 (by decide)
    have hcc : (nI e).toNatClampNeg = e := nI_clamp (by omega)
    refine br_f (by rw [ht]; exact i1_0) (And.intro hi (nm_r he (x_evaluate hn hV hN en hvs hok how fun ws' wx' wy' hT => And.intro hie ?_)))
    obtain ⟨w1, w2, w3⟩ := hT e (Nat.le_refl e) (hor ht)
    refine nm_r (e' := nI (VL nk na nb σ vx vy e).1) (by rw [hcc]; exact w1) ?_
    have o7 := (hok e en).1
    by_cases s6 : (VL nk na nb σ vx vy e).1 ≤ 6
    · refine br_t (nI_le (b := 6) s6 (by decide)) (And.intro hi ?_)
      by_cases c1 : k = 1
      · obtain ⟨v, vV, ev⟩ := hv c1
        have cv : (lv p).toNatClampNeg = v := by rw [ev, nI_clamp (by omega)]
        have hk1 : lk p = 1 := by rw [hk, c1]; rfl
        refine br_t hk1 (And.intro hi (And.intro hie (And.intro hie ?_)))
        rw [hcc, w2, w3, ev]
        have := hs hk1 s6 ws' wx' wy'
        rw [cv] at this
        exact x_setVar (by omega) this
      · have hop : opk (lk p) = true := by rw [hk]; exact opk_25 (by omega)
        have hk1 : ¬ lk p = 1 := by rw [hk]; exact nI_ne (b := 1) c1 (by omega) (by decide)
        refine br_f hk1 ?_
        by_cases s1 : (VL nk na nb σ vx vy e).1 = 1
        · refine br_t (congrArg nI s1) (br_f (by rw [s1]; decide) ?_)
          have := hcd hop 1 s1.symm (Or.inl rfl) ws' wx' wy'
          unfold sto at this
          rw [if_neg (fun z => absurd z.2 (by decide))] at this
          exact this
        · refine br_f (nI_ne (b := 1) s1 (by omega) (by decide)) ?_
          by_cases s2 : (VL nk na nb σ vx vy e).1 = 2
          · refine br_t (congrArg nI s2) (br_t (congrArg nI s2) (nm_r (nI_1 p) ?_))
            have := hcd hop 2 s2.symm (Or.inr rfl) ws' wx' wy'
            unfold sto at this
            rw [if_pos ⟨hop, rfl⟩] at this
            exact this
          · exact br_f (nI_ne (b := 2) s2 (by omega) (by decide)) (h0 ht (fun z => by
              rcases z with z | z
              · exact hk1 z.1
              · exact z.2.elim s1 s2) ws' wx' wy')
    · exact br_f (nI_ge (a := 6) (by omega) (by omega)) (h0 ht (fun z => by
        rcases z with z | z
        · exact s6 z.2
        · have := z.2; omega) ws' wx' wy')
  · have ht : tk (lk p) = 0 := by rw [hk]; exact tk_0 k1 k6 kt
    exact br_t ht (hnn ht)
end NT30
end
section
section NT31
variable {vc mN mL nc lc dp pd vd ph pt nw : Int32} {de nk na nb us lk lv le ju el ol ow vs vx vy ws wx wy du ou ax ay ar dn ga : Nat → Int32} {gv er sn re : Nat → Int64}
variable {post : SY → Prop} {V n l : Nat} {i a b : Nat}
def yx (k : Nat) (A : Int32) (a b : Nat) (vx ax ay : Nat → Int32) : Int32 :=
  if k = 1 then vx a else if k = 2 then A else if k = 4 then ax a + ax b else if k = 5 then (if ax b ≤ ax a then 0 else 1) else if k = 7 then ax b else if k = 8 then ax b else if k = 9 then ax a else if k = 10 then ax a else if k = 11 then ay a else 0
def yy (k : Nat) (a b : Nat) (vy ax ay : Nat → Int32) : Int32 :=
  if k = 1 then vy a else if k = 7 then ay b else if k = 8 then ay b else if k = 9 then ax b else 0
theorem y_value {k : Nat} {K A B : Int32} (eK : K = nI k) (k1 : 1 ≤ k) (k14 : k ≤ 14) (h1 : k = 1 → A = nI a ∧ a < 3) (h4 : 4 ≤ k → A = nI a ∧ B = nI b ∧ a < 32 ∧ b < 32)
    (h : wY_value_180 post (nI i) (yx k A a b vx ax ay) (yy k a b vy ax ay) vc mN mL nc lc ph pt nw de vx vy nk na nb us du lk lv le ou ax ay ar dn ga) : wpY_value post (vc, mN, mL, nc, lc, ph, pt, nw, de, vx, vy, nk, na, nb, us, du, lk, lv, le, ou, ax, ay, ar, dn, ga) (nI i) K A B := by
  subst eK
  rcases (by omega : k = 1 ∨ k = 2 ∨ k = 3 ∨ k = 4 ∨ k = 5 ∨ k = 6 ∨ k = 7 ∨ k = 8 ∨ k = 9 ∨ k = 10 ∨ k = 11 ∨ k = 12 ∨ k = 13 ∨ k = 14) with rfl | rfl | rfl | rfl | rfl | rfl | rfl | rfl | rfl | rfl | rfl | rfl | rfl | rfl
  · obtain ⟨rfl, ha3⟩ := h1 rfl
    have hca : (nI a).toNatClampNeg = a := nI_clamp (by omega)
    have hiv : vp_in (nI a) 3 := vp_in_nI ha3 (by decide)
    exact br_t rfl (And.intro hiv (nm_r (e' := vx a) (by rw [hca]) (br_t rfl (And.intro hiv (nm_r (e' := vy a) (by rw [hca]) (br_f (by decide) (br_f (by decide) (br_f (by decide) (br_f (by decide) (br_f (by decide) (br_f (by decide) (br_f (by decide) (br_f (by decide) (br_f (by decide) (br_f (by decide) (br_f (by decide) (h)))))))))))))))))
  · have h := h
    exact br_f (by decide) (br_f (by decide) (br_t rfl (br_f (by decide) (br_f (by decide) (br_f (by decide) (br_f (by decide) (br_f (by decide) (br_f (by decide) (br_f (by decide) (br_f (by decide) (br_f (by decide) (br_f (by decide) (h)))))))))))))
  · have h := h
    exact br_f (by decide) (br_f (by decide) (br_f (by decide) (br_f (by decide) (br_f (by decide) (br_f (by decide) (br_f (by decide) (br_f (by decide) (br_f (by decide) (br_f (by decide) (br_f (by decide) (br_f (by decide) (br_f (by decide) (h)))))))))))))
  · obtain ⟨rfl, rfl, ha', hb'⟩ := h4 (by decide)
    have hca : (nI a).toNatClampNeg = a := nI_clamp (by omega)
    have hcb : (nI b).toNatClampNeg = b := nI_clamp (by omega)
    have hia : vp_in (nI a) 32 := vp_in_nI ha' (by decide)
    have hib : vp_in (nI b) 32 := vp_in_nI hb' (by decide)
    exact br_f (by decide) (br_f (by decide) (br_f (by decide) (br_t rfl (And.intro hia (And.intro hib (nm_r (e' := ax a + ax b) (by rw [hca, hcb]) (br_f (by decide) (br_f (by decide) (br_f (by decide) (br_f (by decide) (br_f (by decide) (br_f (by decide) (br_f (by decide) (br_f (by decide) (br_f (by decide) (h))))))))))))))))
  · obtain ⟨rfl, rfl, ha', hb'⟩ := h4 (by decide)
    have hca : (nI a).toNatClampNeg = a := nI_clamp (by omega)
    have hcb : (nI b).toNatClampNeg = b := nI_clamp (by omega)
    have hia : vp_in (nI a) 32 := vp_in_nI ha' (by decide)
    have hib : vp_in (nI b) 32 := vp_in_nI hb' (by decide)
    have hT : ax b ≤ ax a → wY_value_180 post (nI i) 0 0 vc mN mL nc lc ph pt nw de vx vy nk na nb us du lk lv le ou ax ay ar dn ga := fun c => by
      have e : yx 5 (nI a) a b vx ax ay = 0 := by show (if ax b ≤ ax a then (0 : Int32) else 1) = 0; rw [if_pos c]
      rw [e] at h; exact h
    have hF : ¬ ax b ≤ ax a → wY_value_180 post (nI i) 1 0 vc mN mL nc lc ph pt nw de vx vy nk na nb us du lk lv le ou ax ay ar dn ga := fun c => by
      have e : yx 5 (nI a) a b vx ax ay = 1 := by show (if ax b ≤ ax a then (0 : Int32) else 1) = 1; rw [if_neg c]
      rw [e] at h; exact h
    exact br_f (by decide) (br_f (by decide) (br_f (by decide) (br_f (by decide) (br_t rfl (And.intro hia (And.intro hib (by rw [hca, hcb]; exact br_c (fun c => br_f (by decide) (br_f (by decide) (br_f (by decide) (br_f (by decide) (br_f (by decide) (br_f (by decide) (br_f (by decide) (br_f (by decide) (hT c))))))))) (fun c => br_f (by decide) (br_f (by decide) (br_f (by decide) (br_f (by decide) (br_f (by decide) (br_f (by decide) (br_f (by decide) (br_f (by decide) (hF c))))))))))))))))
  · obtain ⟨rfl, rfl, ha', hb'⟩ := h4 (by decide)
    have hca : (nI a).toNatClampNeg = a := nI_clamp (by omega)
    have hcb : (nI b).toNatClampNeg = b := nI_clamp (by omega)
    have hia : vp_in (nI a) 32 := vp_in_nI ha' (by decide)
    have hib : vp_in (nI b) 32 := vp_in_nI hb' (by decide)
    exact br_f (by decide) (br_f (by decide) (br_f (by decide) (br_f (by decide) (br_f (by decide) (br_f (by decide) (br_f (by decide) (br_f (by decide) (br_f (by decide) (br_f (by decide) (br_f (by decide) (br_f (by decide) (br_f (by decide) (h)))))))))))))
  · obtain ⟨rfl, rfl, ha', hb'⟩ := h4 (by decide)
    have hca : (nI a).toNatClampNeg = a := nI_clamp (by omega)
    have hcb : (nI b).toNatClampNeg = b := nI_clamp (by omega)
    have hia : vp_in (nI a) 32 := vp_in_nI ha' (by decide)
    have hib : vp_in (nI b) 32 := vp_in_nI hb' (by decide)
    exact br_f (by decide) (br_f (by decide) (br_f (by decide) (br_f (by decide) (br_f (by decide) (br_t rfl (And.intro hib (nm_r (e' := ax b) (by rw [hcb]) (br_t rfl (And.intro hib (nm_r (e' := ay b) (by rw [hcb]) (br_f (by decide) (br_f (by decide) (br_f (by decide) (br_f (by decide) (h)))))))))))))))
  · obtain ⟨rfl, rfl, ha', hb'⟩ := h4 (by decide)
    have hca : (nI a).toNatClampNeg = a := nI_clamp (by omega)
    have hcb : (nI b).toNatClampNeg = b := nI_clamp (by omega)
    have hia : vp_in (nI a) 32 := vp_in_nI ha' (by decide)
    have hib : vp_in (nI b) 32 := vp_in_nI hb' (by decide)
    exact br_f (by decide) (br_f (by decide) (br_f (by decide) (br_f (by decide) (br_f (by decide) (br_f (by decide) (br_t rfl (And.intro hib (nm_r (e' := ax b) (by rw [hcb]) (br_f (by decide) (br_t rfl (And.intro hib (nm_r (e' := ay b) (by rw [hcb]) (br_f (by decide) (br_f (by decide) (br_f (by decide) (br_f (by decide) (h)))))))))))))))))
  · obtain ⟨rfl, rfl, ha', hb'⟩ := h4 (by decide)
    have hca : (nI a).toNatClampNeg = a := nI_clamp (by omega)
    have hcb : (nI b).toNatClampNeg = b := nI_clamp (by omega)
    have hia : vp_in (nI a) 32 := vp_in_nI ha' (by decide)
    have hib : vp_in (nI b) 32 := vp_in_nI hb' (by decide)
    exact br_f (by decide) (br_f (by decide) (br_f (by decide) (br_f (by decide) (br_f (by decide) (br_f (by decide) (br_f (by decide) (br_f (by decide) (br_f (by decide) (br_t rfl (And.intro hia (nm_r (e' := ax a) (by rw [hca]) (br_t rfl (And.intro hib (nm_r (e' := ax b) (by rw [hcb]) (br_f (by decide) (h))))))))))))))))
  · obtain ⟨rfl, rfl, ha', hb'⟩ := h4 (by decide)
    have hca : (nI a).toNatClampNeg = a := nI_clamp (by omega)
    have hcb : (nI b).toNatClampNeg = b := nI_clamp (by omega)
    have hia : vp_in (nI a) 32 := vp_in_nI ha' (by decide)
    have hib : vp_in (nI b) 32 := vp_in_nI hb' (by decide)
    exact br_f (by decide) (br_f (by decide) (br_f (by decide) (br_f (by decide) (br_f (by decide) (br_f (by decide) (br_f (by decide) (br_f (by decide) (br_f (by decide) (br_f (by decide) (br_t rfl (And.intro hia (nm_r (e' := ax a) (by rw [hca]) (br_f (by decide) (br_f (by decide) (h)))))))))))))))
  · obtain ⟨rfl, rfl, ha', hb'⟩ := h4 (by decide)
    have hca : (nI a).toNatClampNeg = a := nI_clamp (by omega)
    have hcb : (nI b).toNatClampNeg = b := nI_clamp (by omega)
    have hia : vp_in (nI a) 32 := vp_in_nI ha' (by decide)
    have hib : vp_in (nI b) 32 := vp_in_nI hb' (by decide)
    exact br_f (by decide) (br_f (by decide) (br_f (by decide) (br_f (by decide) (br_f (by decide) (br_f (by decide) (br_f (by decide) (br_f (by decide) (br_f (by decide) (br_f (by decide) (br_f (by decide) (br_f (by decide) (br_t rfl (And.intro hia (nm_r (e' := ay a) (by rw [hca]) (h)))))))))))))))
  · obtain ⟨rfl, rfl, ha', hb'⟩ := h4 (by decide)
    have hca : (nI a).toNatClampNeg = a := nI_clamp (by omega)
    have hcb : (nI b).toNatClampNeg = b := nI_clamp (by omega)
    have hia : vp_in (nI a) 32 := vp_in_nI ha' (by decide)
    have hib : vp_in (nI b) 32 := vp_in_nI hb' (by decide)
    exact br_f (by decide) (br_f (by decide) (br_f (by decide) (br_f (by decide) (br_f (by decide) (br_f (by decide) (br_f (by decide) (br_f (by decide) (br_f (by decide) (br_f (by decide) (br_f (by decide) (br_f (by decide) (br_f (by decide) (h)))))))))))))
  · obtain ⟨rfl, rfl, ha', hb'⟩ := h4 (by decide)
    have hca : (nI a).toNatClampNeg = a := nI_clamp (by omega)
    have hcb : (nI b).toNatClampNeg = b := nI_clamp (by omega)
    have hia : vp_in (nI a) 32 := vp_in_nI ha' (by decide)
    have hib : vp_in (nI b) 32 := vp_in_nI hb' (by decide)
    exact br_f (by decide) (br_f (by decide) (br_f (by decide) (br_f (by decide) (br_f (by decide) (br_f (by decide) (br_f (by decide) (br_f (by decide) (br_f (by decide) (br_f (by decide) (br_f (by decide) (br_f (by decide) (br_f (by decide) (h)))))))))))))
  · obtain ⟨rfl, rfl, ha', hb'⟩ := h4 (by decide)
    have hca : (nI a).toNatClampNeg = a := nI_clamp (by omega)
    have hcb : (nI b).toNatClampNeg = b := nI_clamp (by omega)
    have hia : vp_in (nI a) 32 := vp_in_nI ha' (by decide)
    have hib : vp_in (nI b) 32 := vp_in_nI hb' (by decide)
    exact br_f (by decide) (br_f (by decide) (br_f (by decide) (br_f (by decide) (br_f (by decide) (br_f (by decide) (br_f (by decide) (br_f (by decide) (br_f (by decide) (br_f (by decide) (br_f (by decide) (br_f (by decide) (br_f (by decide) (h)))))))))))))
end NT31
end
section
section NT32
variable {vc mN mL nc lc dp pd vd ph pt nw : Int32} {de nk na nb us lk lv le ju el ol ow vs vx vy ws wx wy du ou ax ay ar dn ga : Nat → Int32} {gv er sn re : Nat → Int64}
variable {V n l : Nat} {σ : Nat → Nat}
def Yv (ou ax ay : Nat → Int32) (x : Nat) (t : Tri) : Prop := (∀ j, j < 32 → bt (ou x) j = decide (j = t.1)) ∧ (t.1 ≤ 6 → ax x = t.2.1 ∧ ay x = t.2.2)
def Rs (M X Y : Int32) (r : Tri) : Prop := (M = 6 ∧ r = if X = 0 then (1, 0, 0) else (2, 1, 0)) ∨
  (r.1 ≤ 7 ∧ M = nI (2 ^ r.1) ∧ (r.1 = 1 → r.2 = (0, 0)) ∧ (r.1 = 2 → r.2 = (1, 0)) ∧ (r.1 ≤ 6 → r.1 ≠ 1 → r.1 ≠ 2 → r.2 = (X, Y)))
theorem b_pw : ∀ s, s < 8 → ∀ j, j < 32 → bt (nI (2 ^ s)) j = decide (j = s) := by decide +kernel
theorem pw_6 : ∀ s, s < 8 → ¬ nI (2 ^ s) = 6 := by decide +kernel
theorem pw_s : ∀ s, s < 8 → (1 : Int32) <<< (nI s &&& 31) = nI (2 ^ s) := by decide +kernel
theorem y_v207 {post : SY → Prop} {i s : Nat} {X Y : Int32} (hi : i < 32) (ho : ∀ j, j < 32 → bt (ou i) j = decide (j = s))
    (h : post (vc, mN, mL, nc, lc, ph, pt, nw, de, vx, vy, nk, na, nb, us, du, lk, lv, le, ou, upd ax i (if s = 1 then 0 else if s = 2 then 1 else X), upd ay i (if s = 1 then 0 else if s = 2 then 0 else Y), ar, dn, ga)) : wY_value_207 post (nI i) X Y vc mN mL nc lc ph pt nw de vx vy nk na nb us du lk lv le ou ax ay ar dn ga := by
  have hii : vp_in (nI i) 32 := vp_in_nI hi (by decide)
  have hc : (nI i).toNatClampNeg = i := nI_clamp (by omega)
  refine And.intro hii ?_
  rw [hc]
  refine y_has (s := 2) rfl (by decide) (fun b2 => br_f i1_0 ?_) (fun b2 => br_t rfl (And.intro hii ?_))
  · rw [ho 2 (by decide), decide_eq_true_iff] at b2
    rw [← b2] at h
    unfold wY_value_239
    exact br_f i1_0 (br_f i1_0 (And.intro hii (nm_r (by rw [hc]; rfl) (br_f i1_0 (And.intro hii (nm_r (by rw [hc]; rfl) h))))))
  · refine y_has (s := 1) rfl (by decide) (fun b1 => br_f i1_0 ?_) (fun b1 => br_t rfl ?_)
    · rw [ho 1 (by decide), decide_eq_true_iff] at b1
      rw [← b1] at h
      unfold wY_value_239
      exact br_f i1_0 (br_t rfl (And.intro hii (nm_r (by rw [hc]; rfl) (br_f i1_0 (And.intro hii (nm_r (by rw [hc]; rfl) h))))))
    · rw [ho 2 (by decide), decide_eq_false_iff_not] at b2
      rw [ho 1 (by decide), decide_eq_false_iff_not] at b1
      rw [if_neg (fun z => b1 z.symm), if_neg (fun z => b2 z.symm), if_neg (fun z => b1 z.symm), if_neg (fun z => b2 z.symm)] at h
      exact br_t rfl (And.intro hii (nm_r (by rw [hc]) (br_t rfl (And.intro hii (nm_r (by rw [hc]) h)))))
theorem y_v180 {post : SY → Prop} {i : Nat} {X Y : Int32} {r : Tri} (hi : i < 32) (hR : Rs (ou i) X Y r)
    (h : ∀ ou' ax' ay', (∀ z, z ≠ i → ou' z = ou z ∧ ax' z = ax z ∧ ay' z = ay z) → Yv ou' ax' ay' i r → post (vc, mN, mL, nc, lc, ph, pt, nw, de, vx, vy, nk, na, nb, us, du, lk, lv, le, ou', ax', ay', ar, dn, ga)) : wY_value_180 post (nI i) X Y vc mN mL nc lc ph pt nw de vx vy nk na nb us du lk lv le ou ax ay ar dn ga := by
  have hii : vp_in (nI i) 32 := vp_in_nI hi (by decide)
  have hc : (nI i).toNatClampNeg = i := nI_clamp (by omega)
  refine And.intro hii ?_
  rw [hc]
  rcases hR with ⟨e6, er⟩ | ⟨r7, eM, r1, r2, r3⟩
  · refine br_t e6 ?_
    by_cases x0 : X = 0
    · rw [if_pos x0] at er
      refine br_t x0 (And.intro hii (nm_r (e' := upd ou i 2) (by rw [hc]) (y_v207 (s := 1) hi (fun j hj => by rw [pk_us]; exact b_pw 1 (by decide) j hj) (h _ _ _ (fun z hz => ⟨pk_un hz, pk_un hz, pk_un hz⟩) ?_))))
      rw [er]
      exact ⟨fun j hj => by rw [pk_us]; exact b_pw 1 (by decide) j hj, fun _ => ⟨pk_us, pk_us⟩⟩
    · rw [if_neg x0] at er
      refine br_f x0 (And.intro hii (nm_r (e' := upd ou i 4) (by rw [hc]) (y_v207 (s := 2) hi (fun j hj => by rw [pk_us]; exact b_pw 2 (by decide) j hj) (h _ _ _ (fun z hz => ⟨pk_un hz, pk_un hz, pk_un hz⟩) ?_))))
      rw [er]
      exact ⟨fun j hj => by rw [pk_us]; exact b_pw 2 (by decide) j hj, fun _ => ⟨pk_us, pk_us⟩⟩
  · have hb : ∀ j, j < 32 → bt (ou i) j = decide (j = r.1) := fun j hj => by rw [eM]; exact b_pw r.1 (by omega) j hj
    refine br_f (by rw [eM]; exact pw_6 r.1 (by omega)) (y_v207 (s := r.1) hi hb (h _ _ _ (fun z hz => ⟨rfl, pk_un hz, pk_un hz⟩) ⟨hb, fun l6 => ?_⟩))
    rw [pk_us, pk_us]
    by_cases c1 : r.1 = 1
    · rw [if_pos c1, if_pos c1, r1 c1]; exact ⟨rfl, rfl⟩
    · by_cases c2 : r.1 = 2
      · rw [if_neg c1, if_pos c2, if_neg c1, if_pos c2, r2 c2]; exact ⟨rfl, rfl⟩
      · rw [if_neg c1, if_neg c2, if_neg c1, if_neg c2, r3 l6 c1 c2]; exact ⟨rfl, rfl⟩
/-! the reference's masks against the values -/
theorem oc_4 : ∀ s, s < 8 → ∀ t, t < 8 → oc (nI 4) (nI s) (nI t) = if s = 0 ∧ t = 0 then 1 else 128 := by decide +kernel
theorem oc_5 : ∀ s, s < 8 → ∀ t, t < 8 → oc (nI 5) (nI s) (nI t) = if s = 0 ∧ t = 0 then 6 else 128 := by decide +kernel
theorem oc_6 : ∀ s, s < 8 → ∀ t, t < 8 → oc (nI 6) (nI s) (nI t) = if s = 1 then 4 else if s = 2 then 2 else 128 := by decide +kernel
theorem oc_7 : ∀ s, s < 8 → ∀ t, t < 8 → oc (nI 7) (nI s) (nI t) = if s = 1 then 2 else if s = 2 then nI (2 ^ t) else 128 := by decide +kernel
theorem oc_8 : ∀ s, s < 8 → ∀ t, t < 8 → oc (nI 8) (nI s) (nI t) = if s = 2 then 4 else if s = 1 then nI (2 ^ t) else 128 := by decide +kernel
theorem oc_9 : ∀ s, s < 8 → ∀ t, t < 8 → oc (nI 9) (nI s) (nI t) = if s ≤ 2 ∧ t ≤ 2 then nI (2 ^ (3 + (if s = 0 then 0 else 2) + (if t = 0 then 0 else 1))) else 128 := by decide +kernel
theorem oc_10 : ∀ s, s < 8 → ∀ t, t < 8 → oc (nI 10) (nI s) (nI t) = if 3 ≤ s ∧ s ≤ 6 then (if s = 3 ∨ s = 4 then 1 else 6) else 128 := by decide +kernel
theorem oc_11 : ∀ s, s < 8 → ∀ t, t < 8 → oc (nI 11) (nI s) (nI t) = if 3 ≤ s ∧ s ≤ 6 then (if s = 3 ∨ s = 5 then 1 else 6) else 128 := by decide +kernel
theorem oc_12 : ∀ s, s < 8 → ∀ t, t < 8 → oc (nI 12) (nI s) (nI t) = if s ≤ 6 then (if s = 0 then 4 else 2) else 128 := by decide +kernel
theorem oc_13 : ∀ s, s < 8 → ∀ t, t < 8 → oc (nI 13) (nI s) (nI t) = if s ≤ 6 then (if s = 1 ∨ s = 2 then 4 else 2) else 128 := by decide +kernel
theorem oc_14 : ∀ s, s < 8 → ∀ t, t < 8 → oc (nI 14) (nI s) (nI t) = if s ≤ 6 then (if 3 ≤ s then 4 else 2) else 128 := by decide +kernel
theorem rs_7 {X Y : Int32} : Rs 128 X Y (7, 0, 0) := Or.inr ⟨Nat.le_refl 7, by decide, fun z => absurd z (by decide), fun z => absurd z (by decide), fun z => absurd z (by decide)⟩
theorem rs_1 {X Y : Int32} : Rs 2 X Y (1, 0, 0) := Or.inr ⟨by decide, by decide, fun _ => rfl, fun z => absurd z (by decide), fun _ z => absurd rfl z⟩
theorem rs_2 {X Y : Int32} : Rs 4 X Y (2, 1, 0) := Or.inr ⟨by decide, by decide, fun z => absurd z (by decide), fun _ => rfl, fun _ _ z => absurd rfl z⟩
theorem rs_0 {X Y : Int32} (h : Y = 0) : Rs 1 X Y (0, X, 0) := Or.inr ⟨Nat.zero_le 7, (by decide : (1 : Int32) = nI (2 ^ 0)), fun z => absurd z (by decide : ¬ (0 : Nat) = 1), fun z => absurd z (by decide : ¬ (0 : Nat) = 2), fun _ _ _ => by rw [h]⟩
theorem rs_6 {X Y : Int32} {r : Tri} (h : r = if X = 0 then (1, 0, 0) else (2, 1, 0)) : Rs 6 X Y r := Or.inl ⟨rfl, h⟩
theorem rs_B {X Y xb yb : Int32} {t : Nat} (ht : t ≤ 7) (ok : vok t xb yb) (hv : t ≤ 6 → X = xb ∧ Y = yb) : Rs (nI (2 ^ t)) X Y (t, xb, yb) := by
  refine Or.inr ⟨ht, rfl, fun z => ?_, fun z => ?_, fun z _ _ => ?_⟩
  · obtain ⟨e1, e2⟩ := ok.2.1 z; show (xb, yb) = _; rw [e1, e2]
  · obtain ⟨e1, e2⟩ := ok.2.2.1 z; show (xb, yb) = _; rw [e1, e2]
  · obtain ⟨e1, e2⟩ := hv z; rw [e1, e2]
theorem rs_ite {M N X Y : Int32} {r u : Tri} {c : Prop} [d : Decidable c] (f : c → Rs M X Y r) (g : ¬ c → Rs N X Y u) : Rs (if c then M else N) X Y (if c then r else u) := by
  by_cases h : c
  · rw [if_pos h, if_pos h]; exact f h
  · rw [if_neg h, if_neg h]; exact g h
theorem z01 {z : Int32} (h : z = 0 ∨ z = 1) : (if z = 1 then ((2, 1, 0) : Tri) else (1, 0, 0)) = if z = 0 then (1, 0, 0) else (2, 1, 0) := by rcases h with rfl | rfl <;> rfl
theorem rs_bin {k a b : Nat} {NA : Int32} {A B : Tri} (hbk : bN k) (oA : tok A) (oB : tok B) (hA : A.1 ≤ 6 → ax a = A.2.1 ∧ ay a = A.2.2) (hB : B.1 ≤ 6 → ax b = B.2.1 ∧ ay b = B.2.2) :
    Rs (oc (nI k) (nI A.1) (nI B.1)) (yx k NA a b vx ax ay) (yy k a b vy ax ay) (evB k A B) := by
  obtain ⟨s, xa, ya⟩ := A
  obtain ⟨t, xb, yb⟩ := B
  obtain ⟨s7, sv⟩ := oA
  obtain ⟨t7, tv⟩ := oB
  dsimp only at s7 t7 hA hB sv tv ⊢
  rcases hbk with rfl | rfl | rfl | rfl | rfl
  · rw [oc_4 s (by omega) t (by omega)]
    refine rs_ite (fun c => ?_) (fun _ => rs_7)
    have e : yx 4 NA a b vx ax ay = xa + xb := by show ax a + ax b = _; rw [(hA (by omega)).1, (hB (by omega)).1]
    rw [e]; exact rs_0 rfl
  · rw [oc_5 s (by omega) t (by omega)]
    refine rs_ite (fun c => rs_6 ?_) (fun _ => rs_7)
    show (if xb ≤ xa then _ else _) = if (if ax b ≤ ax a then (0 : Int32) else 1) = 0 then _ else _
    rw [(hA (by omega)).1, (hB (by omega)).1]
    by_cases z : xb ≤ xa
    · rw [if_pos z, if_pos z, if_pos rfl]
    · rw [if_neg z, if_neg z, if_neg i1_0]
  · rw [oc_7 s (by omega) t (by omega)]
    exact rs_ite (fun _ => rs_1) (fun _ => rs_ite (fun _ => rs_B t7 tv hB) (fun _ => rs_7))
  · rw [oc_8 s (by omega) t (by omega)]
    exact rs_ite (fun _ => rs_2) (fun _ => rs_ite (fun _ => rs_B t7 tv hB) (fun _ => rs_7))
  · rw [oc_9 s (by omega) t (by omega)]
    refine rs_ite (fun c => ?_) (fun _ => rs_7)
    have e1 : yx 9 NA a b vx ax ay = xa := (hA (by omega)).1
    have e2 : yy 9 a b vy ax ay = xb := (hB (by omega)).1
    rw [e1, e2]
    refine Or.inr ⟨?_, rfl, fun z => ?_, fun z => ?_, fun _ _ _ => rfl⟩
    · show 3 + (if s = 0 then 0 else 2) + (if t = 0 then 0 else 1) ≤ 7; split <;> split <;> decide
    · exfalso; have z : 3 + (if s = 0 then 0 else 2) + (if t = 0 then 0 else 1) = 1 := z; omega
    · exfalso; have z : 3 + (if s = 0 then 0 else 2) + (if t = 0 then 0 else 1) = 2 := z; omega
theorem rs_una {k a b t : Nat} {NA : Int32} {A : Tri} (k4 : 4 ≤ k) (k14 : k ≤ 14) (hbk : ¬ bN k) (oA : tok A) (ht : t ≤ 7) (hA : A.1 ≤ 6 → ax a = A.2.1 ∧ ay a = A.2.2) :
    Rs (oc (nI k) (nI A.1) (nI t)) (yx k NA a b vx ax ay) (yy k a b vy ax ay) (evU k A) := by
  obtain ⟨s, xa, ya⟩ := A
  obtain ⟨s7, sv⟩ := oA
  dsimp only at s7 hA sv ⊢
  unfold bN at hbk
  rcases (by omega : k = 6 ∨ k = 10 ∨ k = 11 ∨ k = 12 ∨ k = 13 ∨ k = 14) with rfl | rfl | rfl | rfl | rfl | rfl
  · rw [oc_6 s (by omega) t (by omega)]
    exact rs_ite (fun _ => rs_2) (fun _ => rs_ite (fun _ => rs_1) (fun _ => rs_7))
  · rw [oc_10 s (by omega) t (by omega)]
    refine rs_ite (fun c => ?_) (fun _ => rs_7)
    have e : yx 10 NA a b vx ax ay = xa := (hA (by omega)).1
    rw [e]
    refine rs_ite (fun _ => rs_0 rfl) (fun c2 => rs_6 (z01 ?_))
    rcases (by omega : s = 5 ∨ s = 6) with z | z
    · exact sv.2.2.2.2.1 z
    · exact (sv.2.2.2.2.2 z).1
  · rw [oc_11 s (by omega) t (by omega)]
    refine rs_ite (fun c => ?_) (fun _ => rs_7)
    have e : yx 11 NA a b vx ax ay = ya := (hA (by omega)).2
    rw [e]
    refine rs_ite (fun _ => rs_0 rfl) (fun c2 => rs_6 (z01 ?_))
    rcases (by omega : s = 4 ∨ s = 6) with z | z
    · exact sv.2.2.2.1 z
    · exact (sv.2.2.2.2.2 z).2
  · rw [oc_12 s (by omega) t (by omega)]
    exact rs_ite (fun _ => rs_ite (fun _ => rs_2) (fun _ => rs_1)) (fun _ => rs_7)
  · rw [oc_13 s (by omega) t (by omega)]
    exact rs_ite (fun _ => rs_ite (fun _ => rs_2) (fun _ => rs_1)) (fun _ => rs_7)
  · rw [oc_14 s (by omega) t (by omega)]
    exact rs_ite (fun _ => rs_ite (fun _ => rs_2) (fun _ => rs_1)) (fun _ => rs_7)
theorem y_evalR {post : SY → Prop} {e q : Nat} {E Q : Int32} (eE : E = nI e) (eQ : Q = nI q) (hn : n ≤ 32) (hV : V ≤ 3) (hN : ∀ y, y < n → NW V nk na nb y) (he : e < n) (hq : q < 343) (hvk : ∀ v, v < 3 → vok (shq q v) (vx v) (vy v)) (hok : ∀ y, y < n → tok (VL nk na nb (shq q) vx vy y))
    (h : ∀ ou' ax' ay', Yv ou' ax' ay' e (VL nk na nb (shq q) vx vy e) → post (vc, mN, mL, nc, lc, ph, pt, nw, de, vx, vy, nk, na, nb, us, du, lk, lv, le, ou', ax', ay', ar, dn, ga)) : wpY_evaluate post (vc, mN, mL, nc, lc, ph, pt, nw, de, vx, vy, nk, na, nb, us, du, lk, lv, le, ou, ax, ay, ar, dn, ga) E Q 1 := by
  subst eE; subst eQ
  refine loop_0 (fun m i (t : (Nat → Int32) × (Nat → Int32) × (Nat → Int32)) => wY_evaluate_3 post (nI e) (nI q) 1 m (nI i) vc mN mL nc lc ph pt nw de vx vy nk na nb us du lk lv le t.1 t.2.1 t.2.2 ar dn ga) (fun i t => ∀ x, x < i → Yv t.1 t.2.1 t.2.2 x (VL nk na nb (shq q) vx vy x)) (e + 1) (ou, ax, ay) (fun x hx => absurd hx (Nat.not_lt_zero x)) ?_ ?_
  · rintro m ⟨o, X, Y⟩ ho
    exact br_t (nI_lt (Nat.lt_succ_self e) (by omega)) (h o X Y (ho e (by omega)))
  · rintro m i ⟨o, X, Y⟩ hi ho K
    dsimp only at ho ⊢
    have hii : vp_in (nI i) 32 := vp_in_nI (by omega) (by decide)
    have hc : (nI i).toNatClampNeg = i := nI_clamp (by omega)
    obtain ⟨k, k1, k14, hk, c1, c3, c4⟩ := hN i (by omega)
    refine br_f (nI_nlt (by omega) (by omega)) (And.intro hii (nm_r (e' := nI k) (by rw [hc]; exact hk) (And.intro hii (nm_r (e' := na i) (by rw [hc]) (And.intro hii (nm_r (e' := nb i) (by rw [hc]) ?_))))))
    have fin : ∀ (M : Int32) (a b : Nat), (k = 1 → na i = nI a ∧ a < 3) → (4 ≤ k → na i = nI a ∧ nb i = nI b ∧ a < 32 ∧ b < 32) → Rs M (yx k (na i) a b vx X Y) (yy k a b vy X Y) (VL nk na nb (shq q) vx vy i) →
        wY_evaluate_93 post (wY_evaluate_3 post (nI e) (nI q) 1 m) (nI e) (nI q) 1 (nI i) (nI k) (na i) (nb i) M (nI i) vc mN mL nc lc ph pt nw de vx vy nk na nb us du lk lv le o X Y ar dn ga := by
      intro M a b g1 g4 hR
      refine And.intro hii (nm_r (e' := upd o i M) (by rw [hc]) (br_f i1_0 (y_value rfl k1 k14 g1 g4 (y_v180 (by omega) (by rw [pk_us]; exact hR) fun o' X' Y' same hY => nm_r (nI_1 i) (K (o', X', Y') fun x hx => ?_)))))
      by_cases z : x = i
      · subst z; exact hY
      · obtain ⟨s1, s2, s3⟩ := same x z
        obtain ⟨y1, y2⟩ := ho x (by omega)
        refine ⟨fun j hj => ?_, fun l6 => ?_⟩
        · dsimp only; rw [s1, pk_un z]; exact y1 j hj
        · dsimp only; rw [s2, s3]; exact y2 l6
    rcases (by omega : k = 1 ∨ k = 2 ∨ k = 3 ∨ 4 ≤ k) with rfl | rfl | rfl | h4
    · obtain ⟨v, hv, ev⟩ := c1 rfl
      have s7 := sq_lt (v := v) hq
      refine br_t rfl (y_shape rfl ev hq (by omega) (fin _ v 0 (fun _ => ⟨ev, by omega⟩) (fun z => by omega) ?_))
      rw [VL_1 hk, ev, nI_clamp (by omega), pw_s _ (by omega)]
      exact rs_B (by omega) (hvk v (by omega)) (fun _ => ⟨rfl, rfl⟩)
    · refine br_f (by decide) (br_t rfl (fin _ 0 0 (fun z => absurd z (by decide)) (fun z => by omega) ?_))
      rw [VL_2 hk]
      exact rs_0 rfl
    · refine br_f (by decide) (br_f (by decide) (br_t rfl (fin _ 0 0 (fun z => absurd z (by decide)) (fun z => by omega) ?_)))
      rw [VL_3 hk]
      rcases c3 rfl with z | z
      · rw [z, if_neg (by decide)]
        exact rs_1
      · rw [z, if_pos rfl]
        exact rs_2
    · obtain ⟨a, b, ha, hb, ea, eb, _⟩ := c4 h4
      obtain ⟨a1, a2⟩ := ho a (by omega)
      obtain ⟨b1, b2⟩ := ho b (by omega)
      have oa := hok a (by omega)
      have ob := hok b (by omega)
      refine br_f (nI_ne (b := 1) (by omega) (by omega) (by decide)) (br_f (nI_ne (b := 2) (by omega) (by omega) (by decide)) (br_f (nI_ne (b := 3) (by omega) (by omega) (by decide)) (y_combine ea eb (by omega) (by omega) fun M hM => ?_)))
      have eM : M = oc (nI k) (nI (VL nk na nb (shq q) vx vy a).1) (nI (VL nk na nb (shq q) vx vy b).1) := by
        apply b_ext
        intro j hj
        apply bo_eq
        rw [hM j hj]
        constructor
        · rintro ⟨s, hs, z1, t, ht, z2, z3⟩
          rw [a1 s (by omega), decide_eq_true_iff] at z1
          rw [b1 t (by omega), decide_eq_true_iff] at z2
          rw [z1, z2] at z3; exact z3
        · intro z
          have := oa.1
          have := ob.1
          exact ⟨_, by omega, by rw [a1 _ (by omega)]; exact decide_eq_true rfl, _, by omega, by rw [b1 _ (by omega)]; exact decide_eq_true rfl, z⟩
      refine fin M a b (fun z => by omega) (fun _ => ⟨ea, eb, by omega, by omega⟩) ?_
      rw [eM, VL_4 hk h4 k14 ea eb ha hb (by omega)]
      by_cases hbk : bN k
      · rw [bn_b hbk, if_neg i1_0]
        exact rs_bin hbk oa ob a2 b2
      · rw [bn_nb k14 hbk, if_pos rfl]
        exact rs_una h4 k14 hbk oa ob.1 a2
end NT32
end
section
section NT33
variable {vc mN mL nc lc dp pd vd ph pt nw : Int32} {de nk na nb us lk lv le ju el ol ow vs vx vy ws wx wy du ou ax ay ar dn ga : Nat → Int32} {gv er sn re : Nat → Int64}
variable {V n l D : Nat} {p0 p1 p2 : Int32}
/-! Y: node -/
theorem fr_vp {n : Nat} {us : Nat → Int32} {x : Int32} (hn : n ≤ 32) (h : ¬ fr (nI n) us x = 0) : vp_in x 32 := by
  obtain ⟨j, hj, e, _⟩ := fr_of (by omega) h
  exact na_in e (by omega) (by decide)
def nps (nc : Int32) (us : Nat → Int32) (k a b : Int32) : Prop := (k < 4 ∨ ¬ fr nc us a = 0) ∧ (bn k = 0 ∨ (¬ fr nc us b = 0 ∧ ¬ a = b))
theorem fit_iff {vc nc : Int32} {us : Nat → Int32} {k a b : Int32} : ¬ fitI vc nc us k a b = 0 ↔ ¬ k < 1 ∧ k ≤ 14 ∧ (k = 1 → ¬ iv vc a = 0) ∧ (k = 3 → a = 0 ∨ a = 1) ∧ nps nc us k a b := by
  unfold fitI nps
  by_cases c1 : k < 1
  · rw [if_pos c1]; exact ⟨fun z => absurd rfl z, fun z => absurd c1 z.1⟩
  rw [if_neg c1]
  by_cases c14 : k ≤ 14
  · rw [if_pos c14]
    by_cases k1 : k = 1
    · rw [if_pos k1]
      exact ⟨fun z => ⟨c1, c14, fun _ => z, fun y => absurd (k1.symm.trans y) (by decide), Or.inl (by rw [k1]; decide), Or.inl (by rw [k1]; decide)⟩, fun z => z.2.2.1 k1⟩
    · rw [if_neg k1]
      by_cases k2 : k = 2
      · rw [if_pos k2]
        exact ⟨fun _ => ⟨c1, c14, fun y => absurd y k1, fun y => absurd (k2.symm.trans y) (by decide), Or.inl (by rw [k2]; decide), Or.inl (by rw [k2]; decide)⟩, fun _ => i1_0⟩
      · rw [if_neg k2]
        by_cases k3 : k = 3
        · rw [if_pos k3]
          have rest : (k < 4 ∨ ¬ fr nc us a = 0) ∧ (bn k = 0 ∨ (¬ fr nc us b = 0 ∧ ¬ a = b)) := ⟨Or.inl (by rw [k3]; decide), Or.inl (by rw [k3]; decide)⟩
          by_cases a0 : a = 0
          · rw [if_pos a0]; exact ⟨fun _ => ⟨c1, c14, fun y => absurd y k1, fun _ => Or.inl a0, rest⟩, fun _ => i1_0⟩
          · rw [if_neg a0]
            by_cases a1 : a = 1
            · rw [if_pos a1]; exact ⟨fun _ => ⟨c1, c14, fun y => absurd y k1, fun _ => Or.inr a1, rest⟩, fun _ => i1_0⟩
            · rw [if_neg a1]; exact ⟨fun z => absurd rfl z, fun z => absurd (z.2.2.2.1 k3) (fun y => y.elim a0 a1)⟩
        · rw [if_neg k3]
          have k4 : ¬ k < 4 := by
            intro z
            rw [Int32.lt_iff_toInt_lt] at z c1
            have e4 : (4 : Int32).toInt = 4 := by decide
            have e1 : (1 : Int32).toInt = 1 := by decide
            rw [e4] at z; rw [e1] at c1
            have f1 : k.toInt ≠ 1 := fun y => k1 (Int32.toInt_inj.mp (y.trans e1.symm))
            have f2 : k.toInt ≠ 2 := fun y => k2 (Int32.toInt_inj.mp (y.trans (by decide)))
            have f3 : k.toInt ≠ 3 := fun y => k3 (Int32.toInt_inj.mp (y.trans (by decide)))
            omega
          by_cases fa : fr nc us a = 0
          · rw [if_pos fa]; exact ⟨fun z => absurd rfl z, fun z => absurd z.2.2.2.2.1 (fun y => y.elim k4 (fun y => y fa))⟩
          · rw [if_neg fa]
            by_cases b0 : bn k = 0
            · rw [if_pos b0]; exact ⟨fun _ => ⟨c1, c14, fun y => absurd y k1, fun y => absurd y k3, Or.inr fa, Or.inl b0⟩, fun _ => i1_0⟩
            · rw [if_neg b0]
              by_cases ab : a = b
              · rw [if_pos ab]; exact ⟨fun z => absurd rfl z, fun z => absurd z.2.2.2.2.2 (fun y => y.elim b0 (fun y => y.2 ab))⟩
              · rw [if_neg ab]
                by_cases fb : fr nc us b = 0
                · rw [if_pos fb]; exact ⟨fun z => absurd rfl z, fun z => absurd z.2.2.2.2.2 (fun y => y.elim b0 (fun y => y.1 fb))⟩
                · rw [if_neg fb]; exact ⟨fun _ => ⟨c1, c14, fun y => absurd y k1, fun y => absurd y k3, Or.inr fa, Or.inr ⟨fb, ab⟩⟩, fun _ => i1_0⟩
  · rw [if_neg c14]; exact ⟨fun z => absurd rfl z, fun z => absurd z.2.1 c14⟩
theorem y_node93 {post : Int32 → SY → Prop} {z : Int32} (hn : nc = nI n) (h32 : n ≤ 32) (hz : z = bn p0) (h1 : nps nc us p0 p1 p2 → wY_node_128 post p0 p1 p2 z vc mN mL nc lc ph pt nw de vx vy nk na nb us du lk lv le ou ax ay ar dn ga) (h0 : ¬ nps nc us p0 p1 p2 → post (-1) (vc, mN, mL, nc, lc, ph, pt, nw, de, vx, vy, nk, na, nb, us, du, lk, lv, le, ou, ax, ay, ar, dn, ga)) : wY_node_93 post p0 p1 p2 z vc mN mL nc lc ph pt nw de vx vy nk na nb us du lk lv le ou ax ay ar dn ga := by
  have g108 : (p0 < 4 ∨ ¬ fr nc us p1 = 0) → wY_node_108 post p0 p1 p2 z vc mN mL nc lc ph pt nw de vx vy nk na nb us du lk lv le ou ax ay ar dn ga := fun hc => by
    by_cases b0 : z = 0
    · exact br_t b0 (h1 ⟨hc, Or.inl (hz ▸ b0)⟩)
    · refine br_f b0 (y_unused hn h32 ?_)
      by_cases fb : fr nc us p2 = 0
      · exact br_t fb (h0 fun y => y.2.elim (fun y => b0 (hz.trans y)) (fun y => y.1 fb))
      · refine br_f fb ?_
        by_cases ab : p1 = p2
        · exact br_t ab (h0 fun y => y.2.elim (fun y => b0 (hz.trans y)) (fun y => y.2 ab))
        · exact br_f ab (h1 ⟨hc, Or.inr ⟨fb, ab⟩⟩)
  by_cases k4 : p0 < 4
  · exact br_t k4 (g108 (Or.inl k4))
  · refine br_f k4 (y_unused hn h32 ?_)
    by_cases fa : fr nc us p1 = 0
    · exact br_t fa (h0 fun y => y.1.elim k4 (fun y => y fa))
    · exact br_f fa (g108 (Or.inr fa))
theorem y_node60 {post : Int32 → SY → Prop} (hn : nc = nI n) (h32 : n ≤ 32) (h1 : nps nc us p0 p1 p2 → wY_node_128 post p0 p1 p2 (bn p0) vc mN mL nc lc ph pt nw de vx vy nk na nb us du lk lv le ou ax ay ar dn ga) (h0 : ¬ nps nc us p0 p1 p2 → post (-1) (vc, mN, mL, nc, lc, ph, pt, nw, de, vx, vy, nk, na, nb, us, du, lk, lv, le, ou, ax, ay, ar, dn, ga)) : wY_node_60 post p0 p1 p2 vc mN mL nc lc ph pt nw de vx vy nk na nb us du lk lv le ou ax ay ar dn ga := by
  have go : bn p0 = 1 → wY_node_88 post p0 p1 p2 vc mN mL nc lc ph pt nw de vx vy nk na nb us du lk lv le ou ax ay ar dn ga := fun e => by
    unfold wY_node_88
    rw [e] at h1
    exact y_node93 hn h32 e.symm h1 h0
  by_cases k4 : p0 = 4
  · exact br_t k4 (go (by rw [k4]; decide))
  · by_cases k5 : p0 = 5
    · exact br_f k4 (br_t k5 (go (by rw [k5]; decide)))
    · by_cases k7 : p0 = 7
      · exact br_f k4 (br_f k5 (br_t k7 (go (by rw [k7]; decide))))
      · by_cases k8 : p0 = 8
        · exact br_f k4 (br_f k5 (br_f k7 (br_t k8 (go (by rw [k8]; decide)))))
        · by_cases k9 : p0 = 9
          · exact br_f k4 (br_f k5 (br_f k7 (br_f k8 (br_t k9 (go (by rw [k9]; decide))))))
          · have e : bn p0 = 0 := by unfold bn; rw [if_neg k4, if_neg k5, if_neg k7, if_neg k8, if_neg k9]
            rw [e] at h1
            exact br_f k4 (br_f k5 (br_f k7 (br_f k8 (br_f k9 (y_node93 hn h32 e.symm h1 h0)))))
theorem y_nodeC {post : Int32 → SY → Prop} (hn : nc = nI n) (h32 : n ≤ 32) (hph : ph = 0) (hm : ¬ mN ≤ nc) (h1 : ¬ fitI vc nc us p0 p1 p2 = 0 → wY_node_128 post p0 p1 p2 (bn p0) vc mN mL nc lc ph pt nw de vx vy nk na nb us du lk lv le ou ax ay ar dn ga) (h0 : fitI vc nc us p0 p1 p2 = 0 → post (-1) (vc, mN, mL, nc, lc, ph, pt, nw, de, vx, vy, nk, na, nb, us, du, lk, lv, le, ou, ax, ay, ar, dn, ga)) : wpY_node post (vc, mN, mL, nc, lc, ph, pt, nw, de, vx, vy, nk, na, nb, us, du, lk, lv, le, ou, ax, ay, ar, dn, ga) p0 p1 p2 := by
  have no : (¬ (¬ p0 < 1 ∧ p0 ≤ 14 ∧ (p0 = 1 → ¬ iv vc p1 = 0) ∧ (p0 = 3 → p1 = 0 ∨ p1 = 1) ∧ nps nc us p0 p1 p2)) → post (-1) (vc, mN, mL, nc, lc, ph, pt, nw, de, vx, vy, nk, na, nb, us, du, lk, lv, le, ou, ax, ay, ar, dn, ga) := fun z => h0 (Classical.byContradiction fun y => z (fit_iff.mp y))
  refine br_t hph (br_f hm ?_)
  by_cases c1 : p0 < 1
  · exact br_t c1 (no fun z => z.1 c1)
  · refine br_f c1 ?_
    by_cases c14 : p0 ≤ 14
    · refine br_t c14 ?_
      have g44 : (p0 = 1 → ¬ iv vc p1 = 0) → wY_node_44 post p0 p1 p2 vc mN mL nc lc ph pt nw de vx vy nk na nb us du lk lv le ou ax ay ar dn ga := fun hv => by
        have g60 : (p0 = 3 → p1 = 0 ∨ p1 = 1) → wY_node_60 post p0 p1 p2 vc mN mL nc lc ph pt nw de vx vy nk na nb us du lk lv le ou ax ay ar dn ga := fun hb =>
          y_node60 hn h32 (fun z => h1 (fit_iff.mpr ⟨c1, c14, hv, hb, z⟩)) (fun z => no fun y => z y.2.2.2.2)
        by_cases k3 : p0 = 3
        · refine br_t k3 ?_
          by_cases a0 : p1 = 0
          · exact br_t a0 (g60 fun _ => Or.inl a0)
          · refine br_f a0 ?_
            by_cases a1 : p1 = 1
            · exact br_t a1 (g60 fun _ => Or.inr a1)
            · exact br_f a1 (no fun y => (y.2.2.2.1 k3).elim a0 a1)
        · exact br_f k3 (g60 fun z => absurd z k3)
      by_cases k1 : p0 = 1
      · refine br_t k1 (y_isVar ?_)
        by_cases iv0 : iv vc p1 = 0
        · exact br_t iv0 (no fun y => y.2.2.1 k1 iv0)
        · exact br_f iv0 (g44 fun _ => iv0)
      · exact br_f k1 (g44 fun z => absurd z k1)
    · exact br_f c14 (no fun z => c14 z.2.1)
theorem y_node128 {post : Int32 → SY → Prop} (hn : nc = nI n) (h32 : n < 32) (ha : ¬ p0 < 4 → vp_in p1 32) (hb : ¬ bn p0 = 0 → vp_in p2 32)
    (h : post (nI n) (vc, mN, mL, nI (n + 1), lc, ph, pt, nw, de, vx, vy, upd nk n p0, upd na n p1, upd nb n (if bn p0 = 0 then 0 else p2), if bn p0 = 0 then (if p0 < 4 then us else upd us p1.toNatClampNeg (vp_nar .boolean 1)) else upd (if p0 < 4 then us else upd us p1.toNatClampNeg (vp_nar .boolean 1)) p2.toNatClampNeg (vp_nar .boolean 1), du, lk, lv, le, ou, ax, ay, ar, dn, ga)) : wY_node_128 post p0 p1 p2 (bn p0) vc mN mL nc lc ph pt nw de vx vy nk na nb us du lk lv le ou ax ay ar dn ga := by
  subst hn
  have hc : (nI n).toNatClampNeg = n := nI_clamp (by omega)
  have hi : vp_in (nI n) 32 := vp_in_nI h32 (by decide)
  have e1 : nI (n + 1) - 1 = nI n := nI_pred n
  have fin : ∀ us' : Nat → Int32, us' = (if bn p0 = 0 then (if p0 < 4 then us else upd us p1.toNatClampNeg (vp_nar .boolean 1)) else upd (if p0 < 4 then us else upd us p1.toNatClampNeg (vp_nar .boolean 1)) p2.toNatClampNeg (vp_nar .boolean 1)) → wY_node_152 post p0 p1 p2 (bn p0) vc mN mL (nI n) lc ph pt nw de vx vy nk na nb us' du lk lv le ou ax ay ar dn ga := by
    intro us' e
    rw [← e] at h
    refine And.intro hi (nm_r (e' := upd nk n p0) (by rw [hc]) (And.intro hi (nm_r (e' := upd na n p1) (by rw [hc]) ?_)))
    by_cases b0 : bn p0 = 0
    · rw [if_pos b0] at h
      refine br_t b0 (And.intro hi (nm_r (e' := upd nb n 0) (by rw [hc]) (nm_r (nI_1 n) ?_)))
      rw [e1]; exact h
    · rw [if_neg b0] at h
      refine br_f b0 (And.intro hi (nm_r (e' := upd nb n p2) (by rw [hc]) (nm_r (nI_1 n) ?_)))
      rw [e1]; exact h
  have g140 : ∀ us1 : Nat → Int32, us1 = (if p0 < 4 then us else upd us p1.toNatClampNeg (vp_nar .boolean 1)) → wY_node_140 post p0 p1 p2 (bn p0) vc mN mL (nI n) lc ph pt nw de vx vy nk na nb us1 du lk lv le ou ax ay ar dn ga := by
    intro us1 e
    by_cases b0 : bn p0 = 0
    · exact br_t b0 (fin us1 (by rw [if_pos b0]; exact e))
    · exact br_f b0 (And.intro (hb b0) (nm_e (fin _ (by rw [if_neg b0, e]))))
  by_cases k4 : p0 < 4
  · exact br_t k4 (g140 us (by rw [if_pos k4]))
  · exact br_f k4 (And.intro (ha k4) (nm_e (g140 _ (by rw [if_neg k4]))))
/-! what a node more means -/
theorem k_of {k : Int32} (h1 : ¬ k < 1) (h14 : k ≤ 14) : ∃ kk : Nat, 1 ≤ kk ∧ kk ≤ 14 ∧ k = nI kk := by
  have h0 : ¬ k < 0 := fun z => h1 (Int32.lt_of_lt_of_le z (by decide))
  obtain ⟨j, hj, e⟩ := nI_of2 (M := 14) (n := 14) (by decide) h0 h14
  refine ⟨j, ?_, hj, e⟩
  rcases Nat.eq_zero_or_pos j with z | z
  · exfalso; rw [e, z] at h1; exact h1 (by decide)
  · exact z
theorem us_ne {us : Nat → Int32} {i c : Nat} (h : ¬ us c = 0) : ¬ upd us i (vp_nar .boolean 1) c = 0 := by
  by_cases e : c = i
  · rw [e, pk_us]; exact nr_1
  · rw [pk_un e]; exact h
theorem NW_ext {V n : Nat} {nk na nb : Nat → Int32} {k a b : Int32} {y : Nat} (hy : y < n) (h : NW V nk na nb y) : NW V (upd nk n k) (upd na n a) (upd nb n b) y := by
  unfold NW at h ⊢
  rw [pk_un (show y ≠ n by omega), pk_un (show y ≠ n by omega), pk_un (show y ≠ n by omega)]
  exact h
theorem node_ok {V n l : Nat} {vc : Int32} {nk na nb us lk lv le : Nat → Int32} {par : Nat → Nat} {k a b : Int32} (hvc : vc = nI V) (hV : V ≤ 3) (hn : n < 32) (hN : ∀ y, y < n → NW V nk na nb y) (hP : PU n l nk na nb us lk le par) (hL : ∀ p, p < l → LW V n lk lv le p)
    (hf : ¬ fitI vc (nI n) us k a b = 0) :
    (∀ y, y < n + 1 → NW V (upd nk n k) (upd na n a) (upd nb n (if bn k = 0 then 0 else b)) y) ∧ (∀ p, p < l → LW V (n + 1) lk lv le p) ∧
    ∃ par', PU (n + 1) l (upd nk n k) (upd na n a) (upd nb n (if bn k = 0 then 0 else b)) (if bn k = 0 then (if k < 4 then us else upd us a.toNatClampNeg (vp_nar .boolean 1)) else upd (if k < 4 then us else upd us a.toNatClampNeg (vp_nar .boolean 1)) b.toNatClampNeg (vp_nar .boolean 1)) lk le par' := by
  obtain ⟨f1, f14, fv, fb, fp1, fp2⟩ := fit_iff.mp hf
  obtain ⟨kk, k1, k14, ek⟩ := k_of f1 f14
  subst ek
  have k4i : nI kk < 4 ↔ kk < 4 := nI_ltI (b := 4) (by omega) (by decide)
  rw [k4i] at fp1
  have bi : bn (nI kk) = 0 ↔ ¬ bN kk := ⟨fun z y => by rw [bn_b y] at z; exact i1_0 z, fun z => bn_nb k14 z⟩
  rw [bi] at fp2
  have A : 4 ≤ kk → ∃ aa, aa < n ∧ a = nI aa ∧ us aa = 0 := fun z => fr_of (by omega) (fp1.resolve_left (by omega))
  have B : bN kk → (∃ bb, bb < n ∧ b = nI bb ∧ us bb = 0) ∧ ¬ a = b := fun z => by
    rcases fp2 with y | y
    · exact absurd z y
    · exact ⟨fr_of (by omega) y.1, y.2⟩
  refine ⟨fun y hy => ?_, fun p hp => ?_, ?_⟩
  · by_cases e : y = n
    · subst e
      refine ⟨kk, k1, k14, pk_us, fun z => ?_, fun z => ?_, fun z => ?_⟩
      · obtain ⟨v, hv, ev⟩ := iv_of (n := V) (by omega) (by rw [← hvc]; exact fv (by rw [z]; rfl))
        exact ⟨v, hv, by rw [pk_us]; exact ev⟩
      · rw [pk_us]; exact fb (by rw [z]; rfl)
      · obtain ⟨aa, ha, ea, _⟩ := A z
        rw [pk_us, pk_us]
        by_cases c : bN kk
        · obtain ⟨⟨bb, hb, eb, _⟩, _⟩ := B c
          exact ⟨aa, bb, ha, hb, ea, by rw [if_neg (fun w => (bi.mp w) c)]; exact eb, fun w => absurd c w⟩
        · exact ⟨aa, 0, ha, by omega, ea, by rw [if_pos (bi.mpr c)]; rfl, fun _ => rfl⟩
    · exact NW_ext (by omega) (hN y (by omega))
  · obtain ⟨k, h1, h6, hk, hv, e, e32, he, hen⟩ := hL p hp
    exact ⟨k, h1, h6, hk, hv, e, e32, he, fun z => by have := hen z; omega⟩
  · rcases Nat.lt_or_ge kk 4 with c4 | c4
    · have cb : ¬ bN kk := by unfold bN; omega
      rw [if_pos (bi.mpr cb), if_pos (k4i.mpr c4), if_pos (bi.mpr cb)]
      refine ⟨par, fun x k hx hk k4 k14' => ?_, hP.2⟩
      have hxn : x ≠ n := fun e => by
        subst e; rw [pk_us] at hk
        have := na_inj hk (by omega) (by omega); omega
      rw [pk_un hxn] at hk
      rw [pk_un hxn, pk_un hxn]
      exact hP.1 x k (by omega) hk k4 k14'
    · obtain ⟨aa, ha, ea, ua⟩ := A c4
      subst ea
      have ca : (nI aa).toNatClampNeg = aa := nI_clamp (by omega)
      rw [if_neg (show ¬ nI kk < 4 from fun w => by have := k4i.mp w; omega), ca]
      by_cases c : bN kk
      · obtain ⟨⟨bb, hb, eb, ub⟩, ab⟩ := B c
        subst eb
        have cbb : (nI bb).toNatClampNeg = bb := nI_clamp (by omega)
        have nbi : ¬ bn (nI kk) = 0 := fun w => (bi.mp w) c
        have hne : aa ≠ bb := fun w => ab (by rw [w])
        rw [if_neg nbi, if_neg nbi, cbb]
        refine ⟨fun z => if z = aa then 2 * n else if z = bb then 2 * n + 1 else par z, fun x k hx hk k4 k14' => ?_, fun p hp ht => ?_⟩
        · by_cases hxn : x = n
          · subst hxn
            rw [pk_us] at hk
            have := na_inj hk (by omega) (by omega)
            subst this
            rw [pk_us, pk_us, ca, cbb]
            refine ⟨if_pos rfl, us_ne (by rw [pk_us]; exact nr_1), fun _ => ⟨by dsimp only; rw [if_neg (Ne.symm hne), if_pos rfl], by rw [pk_us]; exact nr_1⟩⟩
          · rw [pk_un hxn] at hk
            rw [pk_un hxn, pk_un hxn]
            obtain ⟨q1, q2, q3⟩ := hP.1 x k (by omega) hk k4 k14'
            have d1 : ∀ c, ¬ us c = 0 → (if c = aa then 2 * n else if c = bb then 2 * n + 1 else par c) = par c := fun c hc => by
              rw [if_neg (fun e => hc (by rw [e]; exact ua)), if_neg (fun e => hc (by rw [e]; exact ub))]
            exact ⟨(d1 _ q2).trans q1, us_ne (us_ne q2), fun hbk => ⟨(d1 _ (q3 hbk).2).trans (q3 hbk).1, us_ne (us_ne (q3 hbk).2)⟩⟩
        · obtain ⟨q1, q2⟩ := hP.2 p hp ht
          refine ⟨?_, us_ne (us_ne q2)⟩
          dsimp only
          rw [if_neg (fun e => q2 (by rw [e]; exact ua)), if_neg (fun e => q2 (by rw [e]; exact ub))]
          exact q1
      · have nbi := bi.mpr c
        rw [if_pos nbi, if_pos nbi]
        refine ⟨fun z => if z = aa then 2 * n else par z, fun x k hx hk k4 k14' => ?_, fun p hp ht => ?_⟩
        · by_cases hxn : x = n
          · subst hxn
            rw [pk_us] at hk
            have := na_inj hk (by omega) (by omega)
            subst this
            rw [pk_us, ca]
            exact ⟨if_pos rfl, by rw [pk_us]; exact nr_1, fun w => absurd w c⟩
          · rw [pk_un hxn] at hk
            rw [pk_un hxn, pk_un hxn]
            obtain ⟨q1, q2, q3⟩ := hP.1 x k (by omega) hk k4 k14'
            have d1 : ∀ c, ¬ us c = 0 → (if c = aa then 2 * n else par c) = par c := fun c hc => if_neg (fun e => hc (by rw [e]; exact ua))
            exact ⟨(d1 _ q2).trans q1, us_ne q2, fun hbk => ⟨(d1 _ (q3 hbk).2).trans (q3 hbk).1, us_ne (q3 hbk).2⟩⟩
        · obtain ⟨q1, q2⟩ := hP.2 p hp ht
          exact ⟨(if_neg (fun e => q2 (by rw [e]; exact ua))).trans q1, us_ne q2⟩
end NT33
end
section
section NT34
variable {vc mN mL nc lc dp pd vd ph pt nw : Int32} {de nk na nb us lk lv le ju el ol ow vs vx vy ws wx wy du ou ax ay ar dn ga : Nat → Int32} {gv er sn re : Nat → Int64}
variable {V n l D : Nat} {p0 p1 p2 : Int32}
def LA (vc nc : Int32) (us lk el : Nat → Int32) (l D : Nat) (k v e : Int32) : Prop := ¬ k < 1 ∧ k ≤ 6 ∧ (k = 1 → ¬ iv vc v = 0) ∧ (tk k = 0 ∨ ¬ fr nc us e = 0) ∧ (k = 4 → 0 < D) ∧ (k = 3 → ∃ o, opn lk l 0 = some o ∧ lk o = 2 ∧ el o = 0)
theorem LN_top {K ju el ol : Nat → Int32} (h : LN l K D ju el ol) (hD : 0 < D) : ∃ o, opn K l 0 = some o ∧ ol (D - 1) = nI o ∧ o < l := by
  obtain ⟨o, a, b⟩ := h.1 0 hD
  exact ⟨o, a, by rw [← b]; rfl, op_lt l 0 a⟩
theorem LN_0 {K ju el ol : Nat → Int32} (h : LN l K D ju el ol) (hD : ¬ 0 < D) : opn K l 0 = none := by
  have := h.2.1
  rw [show D = 0 by omega] at this; exact this
theorem x_lineFits {post : Int32 → Prop} (hn : nc = nI n) (h32 : n ≤ 32) (hl : l ≤ 16) (hdp : dp = nI D) (hLN : LN l lk D ju el ol) (h1 : LA vc nc us lk el l D p0 p1 p2 → post 1) (h0 : ¬ LA vc nc us lk el l D p0 p1 p2 → post 0) : wpX_lineFits post (vc, mN, mL, nc, lc, dp, pd, vd, ph, pt, de, nk, na, nb, us, lk, lv, le, ju, el, ol, gv, er, sn, re, ow, vs, vx, vy, ws, wx, wy) p0 p1 p2 := by
  have hD := hLN.2.2.1
  by_cases c1 : p0 < 1
  · exact br_t c1 (h0 fun z => z.1 c1)
  refine br_f c1 ?_
  by_cases c6 : p0 ≤ 6
  · refine br_t c6 ?_
    have dz : dp ≤ 0 ↔ ¬ 0 < D := by
      rw [hdp, ← nI_0, nI_leI (by omega) (by decide)]; omega
    by_cases k4 : p0 = 4
    · refine br_t k4 ?_
      by_cases d0 : dp ≤ 0
      · exact br_t d0 (h0 fun z => dz.mp d0 (z.2.2.2.2.1 k4))
      · refine br_f d0 (h1 ⟨c1, c6, fun z => absurd (k4.symm.trans z) (by decide), Or.inl (by rw [k4]; decide), fun _ => ?_, fun z => absurd (k4.symm.trans z) (by decide)⟩)
        exact Classical.byContradiction fun y => d0 (dz.mpr y)
    · refine br_f k4 ?_
      by_cases k3 : p0 = 3
      · refine br_t k3 ?_
        by_cases d0 : dp ≤ 0
        · refine br_t d0 (h0 fun z => ?_)
          obtain ⟨o, a, _⟩ := z.2.2.2.2.2 k3
          rw [LN_0 hLN (dz.mp d0)] at a; cases a
        · have hD0 : 0 < D := Classical.byContradiction fun y => d0 (dz.mpr y)
          obtain ⟨o, a, b, c⟩ := LN_top hLN hD0
          have e : dp - 1 = nI (D - 1) := by
            rw [hdp]
            obtain ⟨m, rfl⟩ : ∃ m, D = m + 1 := ⟨D - 1, by omega⟩
            exact nI_pred m
          have hio : vp_in (nI o) 16 := vp_in_nI (by omega) (by decide)
          have hco : (nI o).toNatClampNeg = o := nI_clamp (by omega)
          refine br_f d0 ?_
          rw [e]
          refine And.intro (vp_in_nI (by omega) (by decide)) ?_
          rw [nI_clamp (by omega), b]
          have ok : (lk o = 2 ∧ el o = 0) → LA vc nc us lk el l D p0 p1 p2 := fun z => ⟨c1, c6, fun y => absurd (k3.symm.trans y) (by decide), Or.inl (by rw [k3]; decide), fun y => absurd y k4, fun _ => ⟨o, a, z⟩⟩
          have no : ¬ (lk o = 2 ∧ el o = 0) → ¬ LA vc nc us lk el l D p0 p1 p2 := fun z y => by
            obtain ⟨o', a', b'⟩ := y.2.2.2.2.2 k3
            rw [a] at a'; cases a'; exact z b'
          refine And.intro hio ?_
          rw [hco]
          by_cases k2 : lk o = 2
          · refine br_t k2 (And.intro hio ?_)
            by_cases e0 : el o = 0
            · exact br_t e0 (br_f i1_0 (h1 (ok ⟨k2, e0⟩)))
            · exact br_f e0 (br_t rfl (h0 (no fun z => e0 z.2)))
          · exact br_f k2 (br_t rfl (h0 (no fun z => k2 z.1)))
      · refine br_f k3 ?_
        have g82 : (p0 = 1 → ¬ iv vc p1 = 0) → wX_lineFits_82 post p0 p2 vc mN mL nc lc dp pd vd ph pt de nk na nb us lk lv le ju el ol gv er sn re ow vs vx vy ws wx wy := fun hv => by
          unfold wX_lineFits_82
          refine x_takesNode ?_
          by_cases t0 : tk p0 = 0
          · exact br_t t0 (h1 ⟨c1, c6, hv, Or.inl t0, fun z => absurd z k4, fun z => absurd z k3⟩)
          · refine br_f t0 (x_isFree hn h32 ?_)
            by_cases f0 : fr nc us p2 = 0
            · exact br_t f0 (h0 fun z => z.2.2.2.1.elim t0 (fun y => y f0))
            · exact br_f f0 (h1 ⟨c1, c6, hv, Or.inr f0, fun z => absurd z k4, fun z => absurd z k3⟩)
        by_cases k1 : p0 = 1
        · refine br_t k1 (x_isVar ?_)
          by_cases i0 : iv vc p1 = 0
          · exact br_t i0 (h0 fun z => z.2.2.1 k1 i0)
          · exact br_f i0 (g82 fun _ => i0)
        · exact br_f k1 (g82 fun z => absurd z k1)
  · exact br_f c6 (h0 fun z => c6 z.2.1)
theorem y_lineC {post : Int32 → SY → Prop} (hn : nc = nI n) (h32 : n ≤ 32) (hl : l ≤ 16) (hlc : lc = nI l) (hph : ph = 0) (hm : ¬ mL ≤ lc) (hLN : LN l lk D ju el ol)
    (h1 : LA vc nc us lk el l D p0 p1 p2 → wY_line_121 post p0 p1 p2 vc mN mL nc lc ph pt nw de vx vy nk na nb us du lk lv le ou ax ay ar dn ga) (h0 : ¬ LA vc nc us lk el l D p0 p1 p2 → post (-1) (vc, mN, mL, nc, lc, ph, pt, nw, de, vx, vy, nk, na, nb, us, du, lk, lv, le, ou, ax, ay, ar, dn, ga)) : wpY_line post (vc, mN, mL, nc, lc, ph, pt, nw, de, vx, vy, nk, na, nb, us, du, lk, lv, le, ou, ax, ay, ar, dn, ga) p0 p1 p2 := by
  refine br_t hph (br_f hm ?_)
  by_cases c1 : p0 < 1
  · exact br_t c1 (h0 fun z => z.1 c1)
  refine br_f c1 ?_
  by_cases c6 : p0 ≤ 6
  · refine br_t c6 ?_
    have g62 : (p0 = 1 → ¬ iv vc p1 = 0) → (tk p0 = 0 ∨ ¬ fr nc us p2 = 0) → wY_line_62 post p0 p1 p2 vc mN mL nc lc ph pt nw de vx vy nk na nb us du lk lv le ou ax ay ar dn ga := fun hv hf => by
      unfold wY_line_62
      refine y_opener hlc hl (Nat.le_refl l) ?_
      by_cases k4 : p0 = 4
      · refine br_t k4 ?_
        by_cases hD : 0 < D
        · obtain ⟨o, a, b, c⟩ := LN_top hLN hD
          rw [a]
          exact br_t (nI_pos' (by omega)) (br_f (by rw [k4]; decide) (h1 ⟨c1, c6, hv, hf, fun _ => hD, fun z => absurd (k4.symm.trans z) (by decide)⟩))
        · rw [LN_0 hLN hD]
          exact br_f (by decide) (h0 fun z => hD (z.2.2.2.2.1 k4))
      · refine br_f k4 ?_
        by_cases k3 : p0 = 3
        · refine br_t k3 ?_
          by_cases hD : 0 < D
          · obtain ⟨o, a, b, c⟩ := LN_top hLN hD
            have hop := op_k l 0 a
            have hio : vp_in (nI o) 16 := vp_in_nI (by omega) (by decide)
            have hco : (nI o).toNatClampNeg = o := nI_clamp (by omega)
            have no : ¬ (lk o = 2 ∧ el o = 0) → ¬ LA vc nc us lk el l D p0 p1 p2 := fun z y => by
              obtain ⟨o', a', b'⟩ := y.2.2.2.2.2 k3
              rw [a] at a'; cases a'; exact z b'
            rw [a, show oI (some o) = nI o from rfl]
            refine br_t (nI_pos' (by omega)) (br_t k3 (And.intro hio ?_))
            rw [hco]
            by_cases k5 : lk o = 5
            · exact br_t k5 (h0 (no fun z => by rw [k5] at z; exact absurd z.1 (by decide)))
            · have k2 : lk o = 2 := (opk_t hop).resolve_right k5
              have hel := hLN.2.2.2.2.1 o c k2
              refine br_f k5 (y_match (e := true) rfl hlc hl c ⟨fun z => absurd z (by decide), fun z => absurd z.symm Bool.false_ne_true⟩ ?_)
              rcases top_t hop a with hm | ⟨hm1, hm2, _⟩
              · have e0 : el o = 0 := by
                  rw [hel]; unfold elv; rw [hm, if_neg (fun z => Nat.lt_irrefl _ z.1)]; rfl
                refine br_t (by rw [hlc, hm]; exact nI_le (Nat.le_refl l) (by omega)) (h1 ⟨c1, c6, hv, hf, fun z => absurd z k4, fun _ => ⟨o, a, k2, e0⟩⟩)
              · refine br_f (by rw [hlc]; exact nI_ge hm1 (by omega)) (h0 (no fun z => ?_))
                have := z.2
                rw [hel] at this
                unfold elv at this
                rw [if_pos ⟨hm1, hm2⟩] at this
                have := na_inj (b := 0) this (by omega) (by decide)
                have := (mt_ge (K := lk) (e := true) (l - (o + 1)) (o + 1) 0).1
                unfold mm at *; omega
          · rw [LN_0 hLN hD]
            refine br_f (by decide) (h0 fun z => ?_)
            obtain ⟨o, a, _⟩ := z.2.2.2.2.2 k3
            rw [LN_0 hLN hD] at a; cases a
        · exact br_f k3 (br_f k3 (h1 ⟨c1, c6, hv, hf, fun z => absurd z k4, fun z => absurd z k3⟩))
    have g44 : (p0 = 1 → ¬ iv vc p1 = 0) → wY_line_44 post p0 p1 p2 vc mN mL nc lc ph pt nw de vx vy nk na nb us du lk lv le ou ax ay ar dn ga := fun hv => by
      unfold wY_line_44
      refine y_takesNode ?_
      by_cases t0 : tk p0 = 0
      · exact br_t t0 (g62 hv (Or.inl t0))
      · refine br_f t0 (y_unused hn h32 ?_)
        by_cases f0 : fr nc us p2 = 0
        · exact br_t f0 (h0 fun z => z.2.2.2.1.elim t0 (fun y => y f0))
        · exact br_f f0 (g62 hv (Or.inr f0))
    by_cases k1 : p0 = 1
    · refine br_t k1 (y_isVar ?_)
      by_cases i0 : iv vc p1 = 0
      · exact br_t i0 (h0 fun z => z.2.2.1 k1 i0)
      · exact br_f i0 (g44 fun _ => i0)
    · exact br_f k1 (g44 fun z => absurd z k1)
  · exact br_f c6 (h0 fun z => c6 z.2.1)
theorem y_line121 {post : Int32 → SY → Prop} (hl : l < 16) (hlc : lc = nI l) (he : ¬ tk p0 = 0 → vp_in p2 32)
    (h : post (nI l) (vc, mN, mL, nc, nI (l + 1), ph, pt, nw, de, vx, vy, nk, na, nb, if tk p0 = 0 then us else upd us p2.toNatClampNeg (vp_nar .boolean 1), du, upd lk l p0, upd lv l (if p0 = 1 then p1 else 0), upd le l (if tk p0 = 0 then 0 else p2), ou, ax, ay, ar, dn, ga)) : wY_line_121 post p0 p1 p2 vc mN mL nc lc ph pt nw de vx vy nk na nb us du lk lv le ou ax ay ar dn ga := by
  subst hlc
  have hi : vp_in (nI l) 16 := vp_in_nI hl (by decide)
  have hc : (nI l).toNatClampNeg = l := nI_clamp (by omega)
  have e1 : nI (l + 1) - 1 = nI l := nI_pred l
  refine And.intro hi (nm_r (e' := upd lk l p0) (by rw [hc]) ?_)
  have g149 : ∀ z : Int32, z = (if p0 = 1 then p1 else 0) → wY_line_149 post p0 p2 z (nI l) vc mN mL nc (nI l) ph pt nw de vx vy nk na nb us du (upd lk l p0) lv le ou ax ay ar dn ga := by
    intro z hz
    rw [← hz] at h
    refine And.intro hi (nm_r (e' := upd lv l z) (by rw [hc]) (y_takesNode ?_))
    by_cases t0 : tk p0 = 0
    · rw [if_pos t0, if_pos t0] at h
      refine br_t t0 (And.intro hi (nm_r (e' := upd le l 0) (by rw [hc]) (y_takesNode (br_t t0 (nm_r (nI_1 l) ?_)))))
      rw [e1]; exact h
    · rw [if_neg t0, if_neg t0] at h
      refine br_f t0 (And.intro hi (nm_r (e' := upd le l p2) (by rw [hc]) (y_takesNode (br_f t0 (And.intro (he t0) (nm_e (nm_r (nI_1 l) ?_)))))))
      rw [e1]; exact h
  by_cases k1 : p0 = 1
  · exact br_t k1 (g149 _ (by rw [if_pos k1]))
  · exact br_f k1 (g149 _ (by rw [if_neg k1]))
theorem x_link {post : SX → Prop} {K : Nat → Int32} {kk : Nat} (hl : l < 16) (hLN : LN l K D ju el ol) (hK : lk = upd K l (nI kk)) (hdp : dp = nI D) (k1 : 1 ≤ kk) (k6 : kk ≤ 6) (h4 : kk = 4 → 0 < D) (h3 : kk = 3 → ∃ o, opn K l 0 = some o ∧ K o = 2 ∧ el o = 0)
    (h : ∀ D' ju' el' ol', LN (l + 1) lk D' ju' el' ol' → post (vc, mN, mL, nc, lc, nI D', pd, vd, ph, pt, de, nk, na, nb, us, lk, lv, le, ju', el', ol', gv, er, sn, re, ow, vs, vx, vy, ws, wx, wy)) : wpX_link post (vc, mN, mL, nc, lc, dp, pd, vd, ph, pt, de, nk, na, nb, us, lk, lv, le, ju, el, ol, gv, er, sn, re, ow, vs, vx, vy, ws, wx, wy) (nI l) := by
  have hi : vp_in (nI l) 16 := vp_in_nI hl (by decide)
  have hc : (nI l).toNatClampNeg = l := nI_clamp (by omega)
  have hkl : lk l = nI kk := by rw [hK, pk_us]
  have hD := hLN.2.2.1
  subst hK
  subst hdp
  refine And.intro hi (nm_r (e' := nI kk) (by rw [hc]; exact hkl) (And.intro hi (nm_r (e' := upd ju l (nI (l + 1))) (by rw [hc, nI_1]) ?_)))
  have eD : 0 < D → nI D - 1 = nI (D - 1) := fun z => by
    obtain ⟨m, rfl⟩ : ∃ m, D = m + 1 := ⟨D - 1, by omega⟩
    exact nI_pred m
  have op : opk (nI kk) = true → wX_link_26 post (nI l) vc mN mL nc lc (nI D) pd vd ph pt de nk na nb us (upd K l (nI kk)) lv le (upd ju l (nI (l + 1))) el ol gv er sn re ow vs vx vy ws wx wy := fun ho =>
    And.intro (vp_in_nI (by omega) (by decide)) (nm_r (e' := upd ol D (nI l)) (by rw [nI_clamp (by omega)]) (nm_r (nI_1 D) (h _ _ _ _ (LN_open hLN ho))))
  rcases (by omega : kk = 1 ∨ kk = 2 ∨ kk = 3 ∨ kk = 4 ∨ kk = 5 ∨ kk = 6) with rfl | rfl | rfl | rfl | rfl | rfl
  · exact br_f (by decide) (br_f (by decide) (br_f (by decide) (br_f (by decide) (h _ _ _ _ (LN_plain hLN (by decide) (by decide) (by decide) (by decide))))))
  · exact br_t rfl (op (by decide))
  · obtain ⟨o, a, b, c⟩ := h3 rfl
    have hD0 : 0 < D := Classical.byContradiction fun z => by rw [LN_0 hLN z] at a; cases a
    obtain ⟨o', a', b', c'⟩ := LN_top hLN hD0
    rw [a] at a'; cases a'
    have hio : vp_in (nI o) 16 := vp_in_nI (by omega) (by decide)
    have hco : (nI o).toNatClampNeg = o := nI_clamp (by omega)
    refine br_f (by decide) (br_f (by decide) (br_t rfl ?_))
    rw [eD hD0]
    refine And.intro (vp_in_nI (by omega) (by decide)) (nm_r (e' := nI o) (by rw [nI_clamp (by omega)]; exact b') (And.intro hio (nm_r (e' := upd el o (nI l)) (by rw [hco]) (And.intro hio (nm_r (e' := upd (upd ju l (nI (l + 1))) o (nI (l + 1))) (by rw [hco, nI_1]) (h _ _ _ _ (LN_else hLN a b c (by omega))))))))
  · have hD0 := h4 rfl
    obtain ⟨o, a, b, c⟩ := LN_top hLN hD0
    have hio : vp_in (nI o) 16 := vp_in_nI (by omega) (by decide)
    have hco : (nI o).toNatClampNeg = o := nI_clamp (by omega)
    have hop := op_k l 0 a
    have hKo : upd K l (nI 4) o = K o := pk_un (by omega)
    refine br_f (by decide) (br_f (by decide) (br_f (by decide) (br_t rfl (nm_r (eD hD0) (And.intro (vp_in_nI (by omega) (by decide)) (nm_r (e' := nI o) (by rw [nI_clamp (by omega)]; exact b) (And.intro hio ?_)))))))
    rw [hco, hKo]
    by_cases k5 : K o = 5
    · refine br_t k5 (And.intro hio (nm_r (e' := upd (upd ju l (nI (l + 1))) o (nI (l + 1))) (by rw [nI_1]) (And.intro hi (nm_r (e' := upd (upd (upd ju l (nI (l + 1))) o (nI (l + 1))) l (nI o)) (by rw [hc]) (h _ _ _ _ (LN_end hLN a hD0 ?_ ?_ ?_ ?_))))))
      · rw [pk_us, if_pos k5]
      · intro _
        refine ⟨by rw [pk_un (by omega), pk_us], fun p hp hpo => ?_⟩
        rw [pk_un (by omega), pk_un hpo, pk_un (by omega)]
      · intro z; rw [k5] at z; exact absurd z (by decide)
      · intro z; rw [k5] at z; exact absurd z (by decide)
    · have k2 : K o = 2 := (opk_t hop).resolve_right k5
      have hel := hLN.2.2.2.2.1 o c k2
      have hlt : elv K l o < l := by
        unfold elv; split
        · rename_i z; exact z.1
        · omega
      refine br_f k5 (And.intro hio ?_)
      by_cases e0 : el o = 0
      · have ez : elv K l o = 0 := na_inj (b := 0) (hel.symm.trans e0) (by omega) (by decide)
        refine br_t e0 (And.intro hio (nm_r (e' := upd (upd ju l (nI (l + 1))) o (nI l)) rfl (h _ _ _ _ (LN_end hLN a hD0 ?_ ?_ ?_ ?_))))
        · rw [pk_un (by omega), pk_us, if_neg k5]
        · intro z; exact absurd z k5
        · intro _ _
          exact ⟨pk_us, fun p hp hpo => by rw [pk_un hpo, pk_un (by omega)]⟩
        · intro _ z; exact absurd ez z
      · have ez : ¬ elv K l o = 0 := fun z => e0 (by rw [hel, z]; rfl)
        refine br_f e0 (And.intro hio ?_)
        rw [hel]
        refine And.intro (vp_in_nI (by omega) (by decide)) (nm_r (e' := upd (upd ju l (nI (l + 1))) (elv K l o) (nI l)) (by rw [nI_clamp (by omega)]) (h _ _ _ _ (LN_end hLN a hD0 ?_ ?_ ?_ ?_)))
        · rw [pk_un (by omega), pk_us, if_neg k5]
        · intro z; exact absurd z k5
        · intro _ z; exact absurd z ez
        · intro _ _
          exact ⟨pk_us, fun p hp hpo => by rw [pk_un hpo, pk_un (by omega)]⟩
  · exact br_f (by decide) (br_t rfl (op (by decide)))
  · exact br_f (by decide) (br_f (by decide) (br_f (by decide) (br_f (by decide) (h _ _ _ _ (LN_plain hLN (by decide) (by decide) (by decide) (by decide))))))
theorem x_lineOk {post : Int32 → SX → Prop} {kk : Nat} (hn : nc = nI n) (h32 : n ≤ 32) (hl : l < 16) (hlc : lc = nI l) (hph : ph = 0) (hm : ¬ mL ≤ lc) (hdp : dp = nI D) (hLN : LN l lk D ju el ol) (hA : LA vc nc us lk el l D (nI kk) p1 p2) (k1 : 1 ≤ kk) (k6 : kk ≤ 6)
    (h : ∀ D' ju' el' ol', LN (l + 1) (upd lk l (nI kk)) D' ju' el' ol' → post (nI l) (vc, mN, mL, nc, nI (l + 1), nI D', pd, vd, ph, pt, de, nk, na, nb, if tk (nI kk) = 0 then us else upd us p2.toNatClampNeg (vp_nar .boolean 1), upd lk l (nI kk), upd lv l (if nI kk = 1 then p1 else 0), upd le l (if tk (nI kk) = 0 then 0 else p2), ju', el', ol', gv, er, sn, re, ow, vs, vx, vy, ws, wx, wy)) : wpX_line post (vc, mN, mL, nc, lc, dp, pd, vd, ph, pt, de, nk, na, nb, us, lk, lv, le, ju, el, ol, gv, er, sn, re, ow, vs, vx, vy, ws, wx, wy) (nI kk) p1 p2 := by
  subst hlc
  have hi : vp_in (nI l) 16 := vp_in_nI hl (by decide)
  have hc : (nI l).toNatClampNeg = l := nI_clamp (by omega)
  refine br_t hph (br_f hm (x_lineFits hn h32 (by omega) hdp hLN (fun _ => br_f i1_0 ?_) (fun z => absurd hA z)))
  refine x_takesNode (And.intro hi (nm_r (e' := upd lk l (nI kk)) (by rw [hc]) ?_))
  have g67 : ∀ z : Int32, z = (if nI kk = 1 then p1 else 0) → wX_line_67 post p2 (tk (nI kk)) (nI l) z (nI l) vc mN mL nc (nI l) dp pd vd ph pt de nk na nb us (upd lk l (nI kk)) lv le ju el ol gv er sn re ow vs vx vy ws wx wy := by
    intro z hz
    rw [← hz] at h
    refine And.intro hi (nm_r (e' := upd lv l z) (by rw [hc]) ?_)
    by_cases t0 : tk (nI kk) = 0
    · rw [if_pos t0, if_pos t0] at h
      refine br_t t0 (And.intro hi (nm_r (e' := upd le l 0) (by rw [hc]) (br_t t0 (nm_r (nI_1 l) ?_))))
      exact x_link hl hLN rfl hdp k1 k6 (fun z => hA.2.2.2.2.1 (by rw [z]; rfl)) (fun z => hA.2.2.2.2.2 (by rw [z]; rfl)) h
    · rw [if_neg t0, if_neg t0] at h
      rw [hn] at hA
      refine br_f t0 (And.intro hi (nm_r (e' := upd le l p2) (by rw [hc]) (br_f t0 (And.intro (fr_vp h32 (hA.2.2.2.1.resolve_left t0)) (nm_e (nm_r (nI_1 l) ?_))))))
      exact x_link hl hLN rfl hdp k1 k6 (fun z => hA.2.2.2.2.1 (by rw [z]; rfl)) (fun z => hA.2.2.2.2.2 (by rw [z]; rfl)) h
  by_cases c1 : nI kk = 1
  · exact br_t c1 (g67 _ (by rw [if_pos c1]))
  · exact br_f c1 (g67 _ (by rw [if_neg c1]))
/-! what a line more means -/
theorem line_ok {vc : Int32} {nk na nb us lk lv le el : Nat → Int32} {par : Nat → Nat} {kk : Nat} {v e : Int32} (hvc : vc = nI V) (hV : V ≤ 3) (hn : n ≤ 32) (hl : l < 16) (hP : PU n l nk na nb us lk le par) (hL : ∀ p, p < l → LW V n lk lv le p) (hA : LA vc (nI n) us lk el l D (nI kk) v e) (k1 : 1 ≤ kk) (k6 : kk ≤ 6) :
    (∀ p, p < l + 1 → LW V n (upd lk l (nI kk)) (upd lv l (if nI kk = 1 then v else 0)) (upd le l (if tk (nI kk) = 0 then 0 else e)) p) ∧
    ∃ par', PU n (l + 1) nk na nb (if tk (nI kk) = 0 then us else upd us e.toNatClampNeg (vp_nar .boolean 1)) (upd lk l (nI kk)) (upd le l (if tk (nI kk) = 0 then 0 else e)) par' := by
  have e1 : nI kk = 1 ↔ kk = 1 := nI_eq (b := 1) (by omega) (by decide)
  have hcl : (0 : Int32).toNatClampNeg = 0 := by decide
  constructor
  · intro p hp
    by_cases c : p = l
    · subst c
      refine ⟨kk, k1, k6, pk_us, fun z => ?_, ?_⟩
      · obtain ⟨j, hj, ej⟩ := iv_of (n := V) (by omega) (by rw [← hvc]; exact hA.2.2.1 (e1.mpr z))
        exact ⟨j, hj, by rw [pk_us, if_pos (e1.mpr z)]; exact ej⟩
      · rw [pk_us]
        by_cases t0 : tk (nI kk) = 0
        · rw [if_pos t0]
          exact ⟨0, by omega, rfl, fun z => by rw [tk_1 k6 z] at t0; exact absurd t0 (by decide)⟩
        · obtain ⟨j, hj, ej, _⟩ := fr_of (by omega) (hA.2.2.2.1.resolve_left t0)
          exact ⟨j, by omega, by rw [if_neg t0]; exact ej, fun _ => hj⟩
    · obtain ⟨k, a1, a6, ak, av, e', e32, ae, aen⟩ := hL p (by omega)
      exact ⟨k, a1, a6, by rw [pk_un c]; exact ak, fun z => by rw [pk_un c]; exact av z, e', e32, by rw [pk_un c]; exact ae, aen⟩
  · by_cases t0 : tk (nI kk) = 0
    · rw [if_pos t0, if_pos t0]
      refine ⟨par, hP.1, fun p hp ht => ?_⟩
      by_cases c : p = l
      · subst c; rw [pk_us, t0] at ht; exact absurd ht (by decide)
      · rw [pk_un c] at ht ⊢; exact hP.2 p (by omega) ht
    · obtain ⟨j, hj, ej, uj⟩ := fr_of (by omega) (hA.2.2.2.1.resolve_left t0)
      subst ej
      rw [if_neg t0, if_neg t0, nI_clamp (show j < 2 ^ 31 by omega)]
      have d1 : ∀ c, ¬ us c = 0 → (if c = j then 64 + l else par c) = par c := fun c hc => if_neg (fun e => hc (by rw [e]; exact uj))
      refine ⟨fun z => if z = j then 64 + l else par z, fun x k hx hk k4 k14 => ?_, fun p hp ht => ?_⟩
      · obtain ⟨q1, q2, q3⟩ := hP.1 x k hx hk k4 k14
        exact ⟨(d1 _ q2).trans q1, us_ne q2, fun hb => ⟨(d1 _ (q3 hb).2).trans (q3 hb).1, us_ne (q3 hb).2⟩⟩
      · by_cases c : p = l
        · subst c
          rw [pk_us, nI_clamp (show j < 2 ^ 31 by omega), pk_us]
          exact ⟨if_pos rfl, nr_1⟩
        · rw [pk_un c] at ht ⊢
          obtain ⟨q1, q2⟩ := hP.2 p (by omega) ht
          exact ⟨(d1 _ q2).trans q1, us_ne q2⟩
end NT34
end
section
section NT35
variable {vc mN mL nc lc dp pd vd ph pt nw : Int32} {de nk na nb us lk lv le ju el ol ow vs vx vy ws wx wy du ou ax ay ar dn ga : Nat → Int32} {gv er sn re : Nat → Int64}
variable {V N L n l D : Nat} {par : Nat → Nat}
def VR (vs vx vy : Nat → Int32) (nw : Int32) : Prop := ∃ q, q < 343 ∧ nw = nI q ∧ (∀ v, v < 3 → vs v = nI (shq q v)) ∧ (∀ v, v < 3 → vok (shq q v) (vx v) (vy v))
def OP (pd pt : Int32) (gv er sn re : Nat → Int64) (ow ar dn ga : Nat → Int32) : Prop :=
  pd = 0 ∧ pt = 0 ∧ (∀ i, gv i = 0) ∧ (∀ i, er i = 0) ∧ (∀ i, sn i = 0) ∧ (∀ i, re i = 0) ∧ (∀ z, z < 32 → ow z = -1) ∧ (∀ i, ar i = 0) ∧ (∀ i, dn i = 0) ∧ (∀ i, ga i = 0)
def PF (vc mN mL nc lc dp : Int32) (de nk na nb us lk lv le ju el ol : Nat → Int32) (V N L n l D : Nat) (par : Nat → Nat) : Prop :=
  (vc = nI V ∧ 1 ≤ V ∧ V ≤ 3) ∧ (mN = nI N ∧ N ≤ 32) ∧ (mL = nI L ∧ L ≤ 16) ∧ (nc = nI n ∧ n ≤ N) ∧ (lc = nI l ∧ l ≤ L) ∧ dp = nI D ∧
  (∀ y, y < n → NW V nk na nb y) ∧ (∀ p, p < l → LW V n lk lv le p) ∧ PU n l nk na nb us lk le par ∧ LN l lk D ju el ol ∧ DC de
def PS (pd vd ph pt : Int32) (nk na nb lk le ow ar dn ga : Nat → Int32) (gv er sn re : Nat → Int64) (n l D : Nat) : Prop :=
  (ph = 0 ∧ OP pd pt gv er sn re ow ar dn ga) ∨ (¬ ph = 0 ∧ D = 0 ∧ AN n l nk na nb lk le gv er sn re ow ar ga ∧ VD l lk le gv er re vd ∧ ∃ P, P ≤ l ∧ pt = nI P)
def RR (vc : Int32) (mN : Int32) (mL : Int32) (nc : Int32) (lc : Int32) (dp : Int32) (pd : Int32) (vd : Int32) (ph : Int32) (pt : Int32) (nw : Int32) (de : Nat → Int32) (nk : Nat → Int32) (na : Nat → Int32) (nb : Nat → Int32) (us : Nat → Int32) (lk : Nat → Int32) (lv : Nat → Int32) (le : Nat → Int32) (ju : Nat → Int32) (el : Nat → Int32) (ol : Nat → Int32) (ow : Nat → Int32) (vs : Nat → Int32) (vx : Nat → Int32) (vy : Nat → Int32) (ar : Nat → Int32) (dn : Nat → Int32) (ga : Nat → Int32) (gv : Nat → Int64) (er : Nat → Int64) (sn : Nat → Int64) (re : Nat → Int64) : Prop :=
  ∃ V N L n l D : Nat, ∃ par : Nat → Nat, PF vc mN mL nc lc dp de nk na nb us lk lv le ju el ol V N L n l D par ∧ VR vs vx vy nw ∧ PS pd vd ph pt nk na nb lk le ow ar dn ga gv er sn re n l D
/-- the relation: the same program, the same values; before a check nothing is analysed, after it both hold the same sets -/
def i_Rel (_ : Nat) (u : SX) (v : SY) : Prop := ∃ vc : Int32, ∃ mN : Int32, ∃ mL : Int32, ∃ nc : Int32, ∃ lc : Int32, ∃ dp : Int32, ∃ pd : Int32, ∃ vd : Int32, ∃ ph : Int32, ∃ pt : Int32, ∃ nw : Int32, ∃ de : Nat → Int32, ∃ nk : Nat → Int32, ∃ na : Nat → Int32, ∃ nb : Nat → Int32, ∃ us : Nat → Int32, ∃ lk : Nat → Int32, ∃ lv : Nat → Int32, ∃ le : Nat → Int32, ∃ ju : Nat → Int32, ∃ el : Nat → Int32, ∃ ol : Nat → Int32, ∃ ow : Nat → Int32, ∃ vs : Nat → Int32, ∃ vx : Nat → Int32, ∃ vy : Nat → Int32, ∃ ws : Nat → Int32, ∃ wx : Nat → Int32, ∃ wy : Nat → Int32, ∃ du : Nat → Int32, ∃ ou : Nat → Int32, ∃ ax : Nat → Int32, ∃ ay : Nat → Int32, ∃ ar : Nat → Int32, ∃ dn : Nat → Int32, ∃ ga : Nat → Int32, ∃ gv : Nat → Int64, ∃ er : Nat → Int64, ∃ sn : Nat → Int64, ∃ re : Nat → Int64, u = (vc, mN, mL, nc, lc, dp, pd, vd, ph, pt, de, nk, na, nb, us, lk, lv, le, ju, el, ol, gv, er, sn, re, ow, vs, vx, vy, ws, wx, wy) ∧ v = (vc, mN, mL, nc, lc, ph, pt, nw, de, vx, vy, nk, na, nb, us, du, lk, lv, le, ou, ax, ay, ar, dn, ga) ∧ RR vc mN mL nc lc dp pd vd ph pt nw de nk na nb us lk lv le ju el ol ow vs vx vy ar dn ga gv er sn re 
theorem i_up {k : Nat} {u : SX} {v : SY} (h : i_Rel k u v) : i_Rel (k + 5) u v := h
theorem zz_el {P : SX → SY → Prop} (h : ∀ (vc : Int32) (mN : Int32) (mL : Int32) (nc : Int32) (lc : Int32) (dp : Int32) (pd : Int32) (vd : Int32) (ph : Int32) (pt : Int32) (nw : Int32) (de : Nat → Int32) (nk : Nat → Int32) (na : Nat → Int32) (nb : Nat → Int32) (us : Nat → Int32) (lk : Nat → Int32) (lv : Nat → Int32) (le : Nat → Int32) (ju : Nat → Int32) (el : Nat → Int32) (ol : Nat → Int32) (ow : Nat → Int32) (vs : Nat → Int32) (vx : Nat → Int32) (vy : Nat → Int32) (ws : Nat → Int32) (wx : Nat → Int32) (wy : Nat → Int32) (du : Nat → Int32) (ou : Nat → Int32) (ax : Nat → Int32) (ay : Nat → Int32) (ar : Nat → Int32) (dn : Nat → Int32) (ga : Nat → Int32) (gv : Nat → Int64) (er : Nat → Int64) (sn : Nat → Int64) (re : Nat → Int64) , RR vc mN mL nc lc dp pd vd ph pt nw de nk na nb us lk lv le ju el ol ow vs vx vy ar dn ga gv er sn re → P (vc, mN, mL, nc, lc, dp, pd, vd, ph, pt, de, nk, na, nb, us, lk, lv, le, ju, el, ol, gv, er, sn, re, ow, vs, vx, vy, ws, wx, wy) (vc, mN, mL, nc, lc, ph, pt, nw, de, vx, vy, nk, na, nb, us, du, lk, lv, le, ou, ax, ay, ar, dn, ga)) {k : Nat} {u : SX} {v : SY} (I : i_Rel k u v) : P u v :=
  Exists.elim I fun vc I => Exists.elim I fun mN I => Exists.elim I fun mL I => Exists.elim I fun nc I => Exists.elim I fun lc I => Exists.elim I fun dp I => Exists.elim I fun pd I => Exists.elim I fun vd I => Exists.elim I fun ph I => Exists.elim I fun pt I => Exists.elim I fun nw I => Exists.elim I fun de I => Exists.elim I fun nk I => Exists.elim I fun na I => Exists.elim I fun nb I => Exists.elim I fun us I => Exists.elim I fun lk I => Exists.elim I fun lv I => Exists.elim I fun le I => Exists.elim I fun ju I => Exists.elim I fun el I => Exists.elim I fun ol I => Exists.elim I fun ow I => Exists.elim I fun vs I => Exists.elim I fun vx I => Exists.elim I fun vy I => Exists.elim I fun ws I => Exists.elim I fun wx I => Exists.elim I fun wy I => Exists.elim I fun du I => Exists.elim I fun ou I => Exists.elim I fun ax I => Exists.elim I fun ay I => Exists.elim I fun ar I => Exists.elim I fun dn I => Exists.elim I fun ga I => Exists.elim I fun gv I => Exists.elim I fun er I => Exists.elim I fun sn I => Exists.elim I fun re I =>  I.1.symm ▸ I.2.1.symm ▸ h vc mN mL nc lc dp pd vd ph pt nw de nk na nb us lk lv le ju el ol ow vs vx vy ws wx wy du ou ax ay ar dn ga gv er sn re I.2.2
theorem zz_in {k : Nat} (h : RR vc mN mL nc lc dp pd vd ph pt nw de nk na nb us lk lv le ju el ol ow vs vx vy ar dn ga gv er sn re ) : i_Rel k (vc, mN, mL, nc, lc, dp, pd, vd, ph, pt, de, nk, na, nb, us, lk, lv, le, ju, el, ol, gv, er, sn, re, ow, vs, vx, vy, ws, wx, wy) (vc, mN, mL, nc, lc, ph, pt, nw, de, vx, vy, nk, na, nb, us, du, lk, lv, le, ou, ax, ay, ar, dn, ga) := ⟨vc, mN, mL, nc, lc, dp, pd, vd, ph, pt, nw, de, nk, na, nb, us, lk, lv, le, ju, el, ol, ow, vs, vx, vy, ws, wx, wy, du, ou, ax, ay, ar, dn, ga, gv, er, sn, re, rfl, rfl, h⟩
/-! methods that read -/
theorem i_vc_phase {k : Nat} {u : SX} {v : SY} (I : i_Rel k u v) (hk : k + 5 ≤ 2563) : wpX_phase (fun r => wpY_phase (fun r' => r' = r ∧ i_Rel (k + 5) u v) v) u := by
  refine zz_el (P := fun u v => wpX_phase (fun r => wpY_phase (fun r' => r' = r ∧ i_Rel (k + 5) u v) v) u) ?_ I
  intro vc mN mL nc lc dp pd vd ph pt nw de nk na nb us lk lv le ju el ol ow vs vx vy ws wx wy du ou ax ay ar dn ga gv er sn re h
  exact ⟨rfl, zz_in h⟩
theorem i_vc_position {k : Nat} {u : SX} {v : SY} (I : i_Rel k u v) (hk : k + 5 ≤ 2563) : wpX_position (fun r => wpY_position (fun r' => r' = r ∧ i_Rel (k + 5) u v) v) u := by
  refine zz_el (P := fun u v => wpX_position (fun r => wpY_position (fun r' => r' = r ∧ i_Rel (k + 5) u v) v) u) ?_ I
  intro vc mN mL nc lc dp pd vd ph pt nw de nk na nb us lk lv le ju el ol ow vs vx vy ws wx wy du ou ax ay ar dn ga gv er sn re h
  by_cases p : ph = 0
  · exact br_t p (br_t p ⟨rfl, zz_in h⟩)
  · exact br_f p (br_f p ⟨rfl, zz_in h⟩)
end NT35
end
section
section NT36
theorem i_vc_shapeOf {k : Nat} {u : SX} {v : SY} (I : i_Rel k u v) (hk : k + 5 ≤ 2563) (v1 : Int32) : wpX_shapeOf (fun r => wpY_shapeOf (fun r' => r' = r ∧ i_Rel (k + 5) u v) v v1) u v1 := by
  refine zz_el (P := fun u v => wpX_shapeOf (fun r => wpY_shapeOf (fun r' => r' = r ∧ i_Rel (k + 5) u v) v v1) u v1) ?_ I
  intro vc mN mL nc lc dp pd vd ph pt nw de nk na nb us lk lv le ju el ol ow vs vx vy ws wx wy du ou ax ay ar dn ga gv er sn re h
  have I' : i_Rel (k + 5) (vc, mN, mL, nc, lc, dp, pd, vd, ph, pt, de, nk, na, nb, us, lk, lv, le, ju, el, ol, gv, er, sn, re, ow, vs, vx, vy, ws, wx, wy) (vc, mN, mL, nc, lc, ph, pt, nw, de, vx, vy, nk, na, nb, us, du, lk, lv, le, ou, ax, ay, ar, dn, ga) := zz_in h
  obtain ⟨V, N, L, n, l, D, par, ⟨⟨hvc, _, hV⟩, _⟩, ⟨q, hq, hnw, hvs, _⟩, _⟩ := h
  by_cases p : ph = 0
  · exact br_t p (br_t p ⟨rfl, I'⟩)
  · refine br_f p (x_isVar ?_)
    by_cases i0 : iv vc v1 = 0
    · exact br_t i0 (br_f p (y_isVar (br_t i0 ⟨rfl, I'⟩)))
    · obtain ⟨j, hj, e⟩ := iv_of (n := V) (by omega) (by rw [← hvc]; exact i0)
      refine br_f i0 (And.intro (na_in e (by omega) (by decide)) (br_f p (y_isVar (br_f i0 (y_shape hnw e hq (by omega) ⟨?_, I'⟩)))))
      rw [na_cl e (by omega), hvs j (by omega)]
theorem i_vc_part {k : Nat} {u : SX} {v : SY} (I : i_Rel k u v) (hk : k + 5 ≤ 2563) (v1 : Int32) (v2 : Int32) : wpX_part (fun r => wpY_part (fun r' => r' = r ∧ i_Rel (k + 5) u v) v v1 v2) u v1 v2 := by
  refine zz_el (P := fun u v => wpX_part (fun r => wpY_part (fun r' => r' = r ∧ i_Rel (k + 5) u v) v v1 v2) u v1 v2) ?_ I
  intro vc mN mL nc lc dp pd vd ph pt nw de nk na nb us lk lv le ju el ol ow vs vx vy ws wx wy du ou ax ay ar dn ga gv er sn re h
  have I' : i_Rel (k + 5) (vc, mN, mL, nc, lc, dp, pd, vd, ph, pt, de, nk, na, nb, us, lk, lv, le, ju, el, ol, gv, er, sn, re, ow, vs, vx, vy, ws, wx, wy) (vc, mN, mL, nc, lc, ph, pt, nw, de, vx, vy, nk, na, nb, us, du, lk, lv, le, ou, ax, ay, ar, dn, ga) := zz_in h
  obtain ⟨V, N, L, n, l, D, par, ⟨⟨hvc, _, hV⟩, _⟩, _⟩ := h
  by_cases p : ph = 0
  · exact br_t p (br_t p ⟨rfl, I'⟩)
  · refine br_f p (x_isVar ?_)
    by_cases i0 : iv vc v1 = 0
    · exact br_t i0 (br_f p (y_isVar (br_t i0 ⟨rfl, I'⟩)))
    · obtain ⟨j, hj, e⟩ := iv_of (n := V) (by omega) (by rw [← hvc]; exact i0)
      have hi : vp_in v1 3 := na_in e (by omega) (by decide)
      refine br_f i0 ?_
      by_cases c0 : v2 = 0
      · subst c0
        exact br_f (by decide) (br_t (by decide) (br_t rfl (And.intro hi (br_f p (y_isVar (br_f i0 (br_t rfl (And.intro hi ⟨rfl, I'⟩))))))))
      · by_cases c1 : v2 = 1
        · subst c1
          exact br_f (by decide) (br_t (by decide) (br_f c0 (And.intro hi (br_f p (y_isVar (br_f i0 (br_f c0 (br_t rfl (And.intro hi ⟨rfl, I'⟩)))))))))
        · have fin : wpY_part (fun r' => r' = 0 ∧ i_Rel (k + 5) (vc, mN, mL, nc, lc, dp, pd, vd, ph, pt, de, nk, na, nb, us, lk, lv, le, ju, el, ol, gv, er, sn, re, ow, vs, vx, vy, ws, wx, wy) (vc, mN, mL, nc, lc, ph, pt, nw, de, vx, vy, nk, na, nb, us, du, lk, lv, le, ou, ax, ay, ar, dn, ga)) (vc, mN, mL, nc, lc, ph, pt, nw, de, vx, vy, nk, na, nb, us, du, lk, lv, le, ou, ax, ay, ar, dn, ga) v1 v2 := br_f p (y_isVar (br_f i0 (br_f c0 (br_f c1 ⟨rfl, I'⟩))))
          by_cases n0 : v2 < 0
          · exact br_t n0 fin
          · refine br_f n0 (br_f (fun z => ?_) fin)
            obtain ⟨m, hm, e2⟩ := nI_of2 (M := 1) (n := 1) (by decide) n0 z
            rcases (by omega : m = 0 ∨ m = 1) with y | y
            · exact c0 (by rw [e2, y]; rfl)
            · exact c1 (by rw [e2, y]; rfl)
theorem i_vc_cell {k : Nat} {u : SX} {v : SY} (I : i_Rel k u v) (hk : k + 5 ≤ 2563) (v1 : Int32) (v2 : Int32) (v3 : Int32) : wpX_cell (fun r => wpY_cell (fun r' => r' = r ∧ i_Rel (k + 5) u v) v v1 v2 v3) u v1 v2 v3 := by
  refine zz_el (P := fun u v => wpX_cell (fun r => wpY_cell (fun r' => r' = r ∧ i_Rel (k + 5) u v) v v1 v2 v3) u v1 v2 v3) ?_ I
  intro vc mN mL nc lc dp pd vd ph pt nw de nk na nb us lk lv le ju el ol ow vs vx vy ws wx wy du ou ax ay ar dn ga gv er sn re h
  have I' : i_Rel (k + 5) (vc, mN, mL, nc, lc, dp, pd, vd, ph, pt, de, nk, na, nb, us, lk, lv, le, ju, el, ol, gv, er, sn, re, ow, vs, vx, vy, ws, wx, wy) (vc, mN, mL, nc, lc, ph, pt, nw, de, vx, vy, nk, na, nb, us, du, lk, lv, le, ou, ax, ay, ar, dn, ga) := zz_in h
  obtain ⟨V, N, L, n, l, D, par, ⟨⟨hvc, _, hV⟩, ⟨_, hN⟩, ⟨_, hL⟩, ⟨hnc, hn⟩, ⟨hlc, hl⟩, _⟩, _⟩ := h
  let Q : Int32 → Int32 → Prop := fun r r' => r' = r ∧ i_Rel (k + 5) (vc, mN, mL, nc, lc, dp, pd, vd, ph, pt, de, nk, na, nb, us, lk, lv, le, ju, el, ol, gv, er, sn, re, ow, vs, vx, vy, ws, wx, wy) (vc, mN, mL, nc, lc, ph, pt, nw, de, vx, vy, nk, na, nb, us, du, lk, lv, le, ou, ax, ay, ar, dn, ga)
  have last : ∀ W : (Int32 → Prop) → Prop, (∀ post : Int32 → Prop, wY_cell_137 post v1 v2 v3 vc mN mL nc lc ph pt nw de vx vy nk na nb us du lk lv le ou ax ay ar dn ga → W post) → wX_cell_43 (fun r => W (Q r)) v1 v2 v3 vc mN mL nc lc dp pd vd ph pt de nk na nb us lk lv le ju el ol gv er sn re ow vs vx vy ws wx wy := by
    intro W hW
    by_cases k2 : v1 = 2
    · refine br_t k2 ?_
      by_cases f0 : v3 = 0
      · refine br_t f0 (x_isVar ?_)
        by_cases i0 : iv vc v2 = 0
        · exact br_t i0 (hW _ (br_t k2 (br_t f0 (y_isVar (br_t i0 ⟨rfl, I'⟩)))))
        · obtain ⟨j, hj, e⟩ := iv_of (n := V) (by omega) (by rw [← hvc]; exact i0)
          have hi : vp_in v2 3 := na_in e (by omega) (by decide)
          exact br_f i0 (And.intro hi (hW _ (br_t k2 (br_t f0 (y_isVar (br_f i0 (And.intro hi ⟨rfl, I'⟩)))))))
      · exact br_f f0 (hW _ (br_t k2 (br_f f0 ⟨rfl, I'⟩)))
    · exact br_f k2 (hW _ (br_f k2 ⟨rfl, I'⟩))
  have mid : ∀ W : (Int32 → Prop) → Prop, (∀ post : Int32 → Prop, wY_cell_77 post v1 v2 v3 vc mN mL nc lc ph pt nw de vx vy nk na nb us du lk lv le ou ax ay ar dn ga → W post) → wX_cell_19 (fun r => W (Q r)) v1 v2 v3 vc mN mL nc lc dp pd vd ph pt de nk na nb us lk lv le ju el ol gv er sn re ow vs vx vy ws wx wy := by
    intro W hW
    by_cases k1 : v1 = 1
    · refine br_t k1 ?_
      by_cases n0 : v2 < 0
      · exact br_t n0 (last W fun post z => hW post (br_t k1 (br_t n0 z)))
      · refine br_f n0 ?_
        by_cases b0 : lc ≤ v2
        · exact br_t b0 (last W fun post z => hW post (br_t k1 (br_f n0 (br_t b0 z))))
        · obtain ⟨j, hj, e⟩ := nI_of n0
          have hjl : j < l := by rw [hlc, e, nI_leI (by omega) hj] at b0; omega
          have hi : vp_in v2 16 := na_in e (by omega) (by decide)
          have go : ∀ post : Int32 → Prop, _ → W post := fun post z => hW post (br_t k1 (br_f n0 (br_f b0 z)))
          refine br_f b0 ?_
          by_cases f0 : v3 = 0
          · exact br_t f0 (And.intro hi (go _ (br_t f0 (And.intro hi ⟨rfl, I'⟩))))
          · by_cases f1 : v3 = 1
            · exact br_f f0 (br_t f1 (And.intro hi (go _ (br_f f0 (br_t f1 (And.intro hi ⟨rfl, I'⟩))))))
            · by_cases f2 : v3 = 2
              · exact br_f f0 (br_f f1 (br_t f2 (And.intro hi (go _ (br_f f0 (br_f f1 (br_t f2 (And.intro hi ⟨rfl, I'⟩))))))))
              · exact br_f f0 (br_f f1 (br_f f2 (go _ (br_f f0 (br_f f1 (br_f f2 ⟨rfl, I'⟩))))))
    · exact br_f k1 (last W fun post z => hW post (br_f k1 z))
  let WY : (Int32 → Prop) → Prop := fun post => wpY_cell post (vc, mN, mL, nc, lc, ph, pt, nw, de, vx, vy, nk, na, nb, us, du, lk, lv, le, ou, ax, ay, ar, dn, ga) v1 v2 v3
  by_cases k0 : v1 = 0
  · refine br_t k0 (x_isNode ?_)
    by_cases i0 : iv nc v2 = 0
    · refine br_t i0 (mid WY fun post z => br_t k0 ?_)
      by_cases n0 : v2 < 0
      · exact br_t n0 z
      · refine br_f n0 (br_t ?_ z)
        unfold iv at i0
        rw [if_neg n0] at i0
        by_cases c : nc ≤ v2
        · exact c
        · rw [if_neg c] at i0; exact absurd i0 i1_0
    · obtain ⟨j, hj, e⟩ := iv_of (n := n) (by omega) (by rw [← hnc]; exact i0)
      have hi : vp_in v2 32 := na_in e (by omega) (by decide)
      have n0 : ¬ v2 < 0 := by rw [e]; exact nI_pos (by omega)
      have b0 : ¬ nc ≤ v2 := by rw [hnc, e]; exact nI_ge hj (by omega)
      have go : ∀ post : Int32 → Prop, _ → WY post := fun post z => br_t k0 (br_f n0 (br_f b0 z))
      refine br_f i0 ?_
      by_cases f0 : v3 = 0
      · exact br_t f0 (And.intro hi (go _ (br_t f0 (And.intro hi ⟨rfl, I'⟩))))
      · by_cases f1 : v3 = 1
        · exact br_f f0 (br_t f1 (And.intro hi (go _ (br_f f0 (br_t f1 (And.intro hi ⟨rfl, I'⟩))))))
        · by_cases f2 : v3 = 2
          · exact br_f f0 (br_f f1 (br_t f2 (And.intro hi (go _ (br_f f0 (br_f f1 (br_t f2 (And.intro hi ⟨rfl, I'⟩))))))))
          · by_cases f3 : v3 = 3
            · refine br_f f0 (br_f f1 (br_f f2 (br_t f3 (And.intro hi ?_))))
              by_cases z : us v2.toNatClampNeg = 0
              · exact br_t z (go _ (br_f f0 (br_f f1 (br_f f2 (br_t f3 (And.intro hi (br_t z ⟨rfl, I'⟩)))))))
              · exact br_f z (go _ (br_f f0 (br_f f1 (br_f f2 (br_t f3 (And.intro hi (br_f z ⟨rfl, I'⟩)))))))
            · exact br_f f0 (br_f f1 (br_f f2 (br_f f3 (go _ (br_f f0 (br_f f1 (br_f f2 (br_f f3 ⟨rfl, I'⟩))))))))
  · exact br_f k0 (mid WY fun post z => br_f k0 z)
theorem i_vc_mayFail {k : Nat} {u : SX} {v : SY} (I : i_Rel k u v) (hk : k + 5 ≤ 2563) (v1 : Int32) : wpX_mayFail (fun r => wpY_mayFail (fun r' => r' = r ∧ i_Rel (k + 5) u v) v v1) u v1 := by
  refine zz_el (P := fun u v => wpX_mayFail (fun r => wpY_mayFail (fun r' => r' = r ∧ i_Rel (k + 5) u v) v v1) u v1) ?_ I
  intro vc mN mL nc lc dp pd vd ph pt nw de nk na nb us lk lv le ju el ol ow vs vx vy ws wx wy du ou ax ay ar dn ga gv er sn re h
  have I' : i_Rel (k + 5) (vc, mN, mL, nc, lc, dp, pd, vd, ph, pt, de, nk, na, nb, us, lk, lv, le, ju, el, ol, gv, er, sn, re, ow, vs, vx, vy, ws, wx, wy) (vc, mN, mL, nc, lc, ph, pt, nw, de, vx, vy, nk, na, nb, us, du, lk, lv, le, ou, ax, ay, ar, dn, ga) := zz_in h
  obtain ⟨V, N, L, n, l, D, par, ⟨⟨hvc, _, hV⟩, ⟨_, hN⟩, ⟨_, hL⟩, ⟨hnc, hn⟩, ⟨hlc, hl⟩, _, _, hLW, _⟩, _, hPS⟩ := h
  by_cases p : ph = 0
  · exact br_t p (br_t p ⟨rfl, I'⟩)
  · obtain ⟨_, _, hAN, _⟩ := hPS.resolve_left (fun z => p z.1)
    refine br_f p ?_
    by_cases n0 : v1 < 0
    · exact br_t n0 (br_f p (br_t n0 ⟨rfl, I'⟩))
    · refine br_f n0 ?_
      by_cases b0 : v1 < lc
      · obtain ⟨j, hj, e⟩ := nI_of n0
        have hjl : j < l := by rw [hlc, e, nI_ltI hj (by omega)] at b0; omega
        obtain ⟨kk, _, _, _, _, e', e32, he, _⟩ := hLW j hjl
        subst e
        exact br_t b0 (x_lineFails (by omega) he e32 hAN.1 (fun z => br_f i1_0 (y_mayFail rfl p hlc (by omega) (by omega) hLW hAN hjl (fun _ => ⟨rfl, I'⟩) (fun y => absurd z y))) (fun z => br_t rfl (y_mayFail rfl p hlc (by omega) (by omega) hLW hAN hjl (fun y => absurd y z) (fun _ => ⟨rfl, I'⟩))))
      · exact br_f b0 (br_f p (br_f n0 (br_f b0 ⟨rfl, I'⟩)))
theorem i_vc_unionAt {k : Nat} {u : SX} {v : SY} (I : i_Rel k u v) (hk : k + 5 ≤ 2563) (v1 : Int32) (v2 : Int32) : wpX_unionAt (fun r => wpY_unionAt (fun r' => r' = r ∧ i_Rel (k + 5) u v) v v1 v2) u v1 v2 := by
  refine zz_el (P := fun u v => wpX_unionAt (fun r => wpY_unionAt (fun r' => r' = r ∧ i_Rel (k + 5) u v) v v1 v2) u v1 v2) ?_ I
  intro vc mN mL nc lc dp pd vd ph pt nw de nk na nb us lk lv le ju el ol ow vs vx vy ws wx wy du ou ax ay ar dn ga gv er sn re h
  have I' : i_Rel (k + 5) (vc, mN, mL, nc, lc, dp, pd, vd, ph, pt, de, nk, na, nb, us, lk, lv, le, ju, el, ol, gv, er, sn, re, ow, vs, vx, vy, ws, wx, wy) (vc, mN, mL, nc, lc, ph, pt, nw, de, vx, vy, nk, na, nb, us, du, lk, lv, le, ou, ax, ay, ar, dn, ga) := zz_in h
  obtain ⟨V, N, L, n, l, D, par, ⟨⟨hvc, _, hV⟩, ⟨_, hN⟩, ⟨_, hL⟩, ⟨hnc, hn⟩, ⟨hlc, hl⟩, _⟩, _, hPS⟩ := h
  by_cases p : ph = 0
  · exact br_t p (br_t p ⟨rfl, I'⟩)
  · obtain ⟨_, _, hAN, _⟩ := hPS.resolve_left (fun z => p z.1)
    refine br_f p ?_
    by_cases n0 : v1 < 0
    · exact br_t n0 (br_f p (br_t n0 ⟨rfl, I'⟩))
    · refine br_f n0 ?_
      by_cases b0 : lc < v1
      · exact br_t b0 (br_f p (br_f n0 (br_t b0 ⟨rfl, I'⟩)))
      · refine br_f b0 (x_isVar ?_)
        by_cases i0 : iv vc v2 = 0
        · exact br_t i0 (br_f p (br_f n0 (br_f b0 (y_isVar (br_t i0 ⟨rfl, I'⟩)))))
        · obtain ⟨j, hj, e⟩ := nI_of n0
          have hjl : j ≤ l := by rw [hlc, e, nI_ltI (by omega) hj] at b0; omega
          obtain ⟨w, hw, e2⟩ := iv_of (n := V) (by omega) (by rw [← hvc]; exact i0)
          subst e; subst e2
          refine br_f i0 (x_union (by omega) (by omega) hAN.1 fun r hr => br_f p (br_f n0 (br_f b0 (y_isVar (br_f i0 (y_union rfl rfl (by omega) (by omega) fun r' hr' => ⟨?_, I'⟩))))))
          apply b_ext
          intro i hi
          apply bo_eq
          rw [hr i hi, hr' i hi]
          constructor
          · rintro ⟨q, hq, a, b⟩; exact ⟨q, hq, (hAN.2.2.1 j q (by omega) hq).mp a, b⟩
          · rintro ⟨q, hq, a, b⟩; exact ⟨q, hq, (hAN.2.2.1 j q (by omega) hq).mpr a, b⟩
theorem i_vc_typeOf {k : Nat} {u : SX} {v : SY} (I : i_Rel k u v) (hk : k + 5 ≤ 2563) (v1 : Int32) : wpX_typeOf (fun r => wpY_typeOf (fun r' => r' = r ∧ i_Rel (k + 5) u v) v v1) u v1 := by
  refine zz_el (P := fun u v => wpX_typeOf (fun r => wpY_typeOf (fun r' => r' = r ∧ i_Rel (k + 5) u v) v v1) u v1) ?_ I
  intro vc mN mL nc lc dp pd vd ph pt nw de nk na nb us lk lv le ju el ol ow vs vx vy ws wx wy du ou ax ay ar dn ga gv er sn re h
  have I' : i_Rel (k + 5) (vc, mN, mL, nc, lc, dp, pd, vd, ph, pt, de, nk, na, nb, us, lk, lv, le, ju, el, ol, gv, er, sn, re, ow, vs, vx, vy, ws, wx, wy) (vc, mN, mL, nc, lc, ph, pt, nw, de, vx, vy, nk, na, nb, us, du, lk, lv, le, ou, ax, ay, ar, dn, ga) := zz_in h
  obtain ⟨V, N, L, n, l, D, par, ⟨⟨hvc, _, hV⟩, ⟨_, hN⟩, ⟨_, hL⟩, ⟨hnc, hn⟩, ⟨hlc, hl⟩, _⟩, _, hPS⟩ := h
  by_cases p : ph = 0
  · exact br_t p (br_t p ⟨rfl, I'⟩)
  · obtain ⟨_, _, hAN, _⟩ := hPS.resolve_left (fun z => p z.1)
    refine br_f p (x_isNode ?_)
    by_cases i0 : iv nc v1 = 0
    · refine br_t i0 (br_f p ?_)
      unfold iv at i0
      by_cases n0 : v1 < 0
      · exact br_t n0 ⟨rfl, I'⟩
      · rw [if_neg n0] at i0
        refine br_f n0 (br_f (fun z => ?_) ⟨rfl, I'⟩)
        rw [if_neg (Int32.not_le.mpr z)] at i0
        exact absurd i0 i1_0
    · obtain ⟨j, hj, e⟩ := iv_of (n := n) (by omega) (by rw [← hnc]; exact i0)
      subst e
      refine br_f i0 (x_type hj (by omega) hAN.2.1 fun r hr => br_f p (br_f (nI_pos (by omega)) (br_t (by rw [hnc]; exact nI_lt hj (by omega)) (y_type rfl (by omega) fun r' hr' => ⟨?_, I'⟩))))
      apply b_ext
      intro i hi
      apply bo_eq
      rw [hr i hi, hr' i hi]
      constructor
      · rintro ⟨i7, q, hq, a⟩
        have := (AN_ga hAN hj hq hi).mp a
        exact ⟨i7, q, hq, this.1, this.2.2⟩
      · rintro ⟨i7, q, hq, a, b⟩
        exact ⟨i7, q, hq, (AN_ga hAN hj hq hi).mpr ⟨a, by omega, b⟩⟩
theorem i_vc_narrowed {k : Nat} {u : SX} {v : SY} (I : i_Rel k u v) (hk : k + 5 ≤ 2563) (v1 : Int32) (v2 : Int32) (v3 : Int32) : wpX_narrowed (fun r => wpY_narrowed (fun r' => r' = r ∧ i_Rel (k + 5) u v) v v1 v2 v3) u v1 v2 v3 := by
  refine zz_el (P := fun u v => wpX_narrowed (fun r => wpY_narrowed (fun r' => r' = r ∧ i_Rel (k + 5) u v) v v1 v2 v3) u v1 v2 v3) ?_ I
  intro vc mN mL nc lc dp pd vd ph pt nw de nk na nb us lk lv le ju el ol ow vs vx vy ws wx wy du ou ax ay ar dn ga gv er sn re h
  have I' : i_Rel (k + 5) (vc, mN, mL, nc, lc, dp, pd, vd, ph, pt, de, nk, na, nb, us, lk, lv, le, ju, el, ol, gv, er, sn, re, ow, vs, vx, vy, ws, wx, wy) (vc, mN, mL, nc, lc, ph, pt, nw, de, vx, vy, nk, na, nb, us, du, lk, lv, le, ou, ax, ay, ar, dn, ga) := zz_in h
  obtain ⟨V, N, L, n, l, D, par, ⟨⟨hvc, _, hV⟩, ⟨_, hN⟩, ⟨_, hL⟩, ⟨hnc, hn⟩, ⟨hlc, hl⟩, _⟩, _, hPS⟩ := h
  by_cases p : ph = 0
  · exact br_t p (br_t p ⟨rfl, I'⟩)
  · obtain ⟨_, _, hAN, _⟩ := hPS.resolve_left (fun z => p z.1)
    refine br_f p (x_isNode ?_)
    by_cases i0 : iv nc v1 = 0
    · refine br_t i0 (br_f p ?_)
      unfold iv at i0
      by_cases n0 : v1 < 0
      · exact br_t n0 ⟨rfl, I'⟩
      · rw [if_neg n0] at i0
        refine br_f n0 (br_t ?_ ⟨rfl, I'⟩)
        by_cases c : nc ≤ v1
        · exact c
        · rw [if_neg c] at i0; exact absurd i0 i1_0
    · obtain ⟨j, hj, e⟩ := iv_of (n := n) (by omega) (by rw [← hnc]; exact i0)
      subst e
      have y0 : ∀ post : Int32 → Prop, _ → wpY_narrowed post (vc, mN, mL, nc, lc, ph, pt, nw, de, vx, vy, nk, na, nb, us, du, lk, lv, le, ou, ax, ay, ar, dn, ga) (nI j) v2 v3 := fun post z => br_f p (br_f (nI_pos (by omega)) (br_f (by rw [hnc]; exact nI_ge hj (by omega)) z))
      refine br_f i0 ?_
      by_cases n0 : v2 < 0
      · exact br_t n0 (y0 _ (br_t n0 ⟨rfl, I'⟩))
      · refine br_f n0 ?_
        by_cases b0 : 1 < v2
        · exact br_t b0 (y0 _ (br_f n0 (br_t b0 ⟨rfl, I'⟩)))
        · refine br_f b0 (x_isVar ?_)
          by_cases w0 : iv vc v3 = 0
          · exact br_t w0 (y0 _ (br_f n0 (br_f b0 (y_isVar (br_t w0 ⟨rfl, I'⟩)))))
          · obtain ⟨w, hw, e3⟩ := iv_of (n := V) (by omega) (by rw [← hvc]; exact w0)
            obtain ⟨t, ht, e2⟩ := nI_of2 (M := 1) (n := 1) (by decide) n0 (Int32.not_lt.mp b0)
            subst e3; subst e2
            refine br_f w0 (x_narrow rfl (by omega) hj (by omega) (by omega) hAN.2.1 fun r hr => y0 _ (br_f n0 (br_f b0 (y_isVar (br_f w0 ?_)))))
            have fin : ∀ r' : Int32, (∀ i, i < 32 → (bt r' i = true ↔ ∃ q, q < 343 ∧ bt (ga (j * 343 + q)) (1 + t) = true ∧ shq q w = i)) → r' = r ∧ i_Rel (k + 5) (vc, mN, mL, nc, lc, dp, pd, vd, ph, pt, de, nk, na, nb, us, lk, lv, le, ju, el, ol, gv, er, sn, re, ow, vs, vx, vy, ws, wx, wy) (vc, mN, mL, nc, lc, ph, pt, nw, de, vx, vy, nk, na, nb, us, du, lk, lv, le, ou, ax, ay, ar, dn, ga) := fun r' hr' => by
              refine ⟨?_, I'⟩
              apply b_ext
              intro i hi
              apply bo_eq
              rw [hr i hi, hr' i hi]
              constructor
              · rintro ⟨q, hq, a, b⟩
                have := (AN_ga hAN hj hq (show 1 + t < 32 by omega)).mp a
                exact ⟨q, hq, this.1, this.2.2, b⟩
              · rintro ⟨q, hq, a, b, c⟩
                exact ⟨q, hq, (AN_ga hAN hj hq (show 1 + t < 32 by omega)).mpr ⟨a, by omega, b⟩, c⟩
            rcases (by omega : t = 0 ∨ t = 1) with rfl | rfl
            · exact br_f (by decide) (y_narrow (s := 1) rfl rfl rfl (by decide) (by omega) (by omega) fin)
            · exact br_t rfl (y_narrow (s := 2) rfl rfl rfl (by decide) (by omega) (by omega) fin)
end NT36
end
section
section NT37
theorem cl3_of {v : Int32} {lo hi : Nat} (h : lo ≤ hi) (hh : hi < 2 ^ 31) : ∃ j, lo ≤ j ∧ j ≤ hi ∧ cl3 v (nI lo) (nI hi) = nI j := by
  unfold cl3
  by_cases a : nI lo ≤ v
  · rw [if_pos a]
    by_cases b : v ≤ nI hi
    · rw [if_pos b]
      have n0 : ¬ v < 0 := fun z => by
        have z0 : (0 : Int32) ≤ nI lo := nI_pos' (by omega)
        exact absurd (Int32.lt_of_le_of_lt (Int32.le_trans z0 a) z) (by decide)
      obtain ⟨j, hj, e⟩ := nI_of n0
      subst e
      rw [nI_leI (by omega) hj] at a
      rw [nI_leI hj hh] at b
      exact ⟨j, a, b, rfl⟩
    · rw [if_neg b]; exact ⟨hi, h, Nat.le_refl hi, rfl⟩
  · rw [if_neg a]; exact ⟨lo, Nat.le_refl lo, h, rfl⟩
def dfn (V : Nat) (i : Nat) : Nat → Int32 := fun v => if v < i then (if v < V then 127 else 1) else 0
def ofn (i : Nat) : Nat → Int32 := fun x => if x < i then -1 else 0
theorem x_init {post : SX → Prop} {V : Nat} {vc mN mL : Int32} (hvc : vc = nI V) (hV : V ≤ 3) (h : post (vc, mN, mL, 0, 0, 0, 0, 0, 0, 0, dfn V 3, (fun _ => 0), (fun _ => 0), (fun _ => 0), (fun _ => 0), (fun _ => 0), (fun _ => 0), (fun _ => 0), (fun _ => 0), (fun _ => 0), (fun _ => 0), (fun _ => 0), (fun _ => 0), (fun _ => 0), (fun _ => 0), ofn 32, (fun _ => 0), (fun _ => 0), (fun _ => 0), (fun _ => 0), (fun _ => 0), (fun _ => 0))) :
    ∃ m, wX_init_219 post vc mN mL 0 0 0 0 0 0 0 m 0 (fun _ => 0) (fun _ => 0) (fun _ => 0) (fun _ => 0) (fun _ => 0) (fun _ => 0) (fun _ => 0) (fun _ => 0) (fun _ => 0) (fun _ => 0) (fun _ => 0) (fun _ => 0) (fun _ => 0) (fun _ => 0) (fun _ => 0) (fun _ => 0) (fun _ => 0) (fun _ => 0) (fun _ => 0) (fun _ => 0) (fun _ => 0) (fun _ => 0) := by
  refine loop_0 (fun m i (d : Nat → Int32) => wX_init_219 post vc mN mL 0 0 0 0 0 0 0 m (nI i) d (fun _ => 0) (fun _ => 0) (fun _ => 0) (fun _ => 0) (fun _ => 0) (fun _ => 0) (fun _ => 0) (fun _ => 0) (fun _ => 0) (fun _ => 0) (fun _ => 0) (fun _ => 0) (fun _ => 0) (fun _ => 0) (fun _ => 0) (fun _ => 0) (fun _ => 0) (fun _ => 0) (fun _ => 0) (fun _ => 0) (fun _ => 0)) (fun i d => d = dfn V i) 3 (fun _ => 0) (st_0.symm) ?_ ?_
  · rintro m d rfl
    refine br_t (nI_le (Nat.le_refl 3) (by decide)) ?_
    refine loop_0 (fun m i (o : Nat → Int32) => wX_init_256 post vc mN mL 0 0 0 0 0 0 0 m (nI i) (dfn V 3) (fun _ => 0) (fun _ => 0) (fun _ => 0) (fun _ => 0) (fun _ => 0) (fun _ => 0) (fun _ => 0) (fun _ => 0) (fun _ => 0) (fun _ => 0) (fun _ => 0) (fun _ => 0) (fun _ => 0) (fun _ => 0) o (fun _ => 0) (fun _ => 0) (fun _ => 0) (fun _ => 0) (fun _ => 0) (fun _ => 0)) (fun i o => o = ofn i) 32 (fun _ => 0) (st_0.symm) ?_ ?_
    · rintro m o rfl
      exact br_t (nI_le (Nat.le_refl 32) (by decide)) h
    · rintro m i o hi rfl K
      exact br_f (nI_ge (b := 32) hi (by decide)) (And.intro (vp_in_nI hi (by decide)) (nm_r (e' := ofn (i + 1)) (by rw [nI_clamp (by omega)]; exact up_st' (f := fun _ => -1) rfl) (nm_r (nI_1 i) (K _ rfl))))
  · rintro m i d hi rfl K
    refine br_f (nI_ge (b := 3) hi (by decide)) ?_
    have hi3 : vp_in (nI i) 3 := vp_in_nI hi (by decide)
    have go : ∀ z : Int32, z = (if i < V then 127 else 1) → upd (dfn V i) (nI i).toNatClampNeg z = dfn V (i + 1) := fun z hz => by
      rw [nI_clamp (by omega)]; exact up_st' (f := fun v => if v < V then 127 else 1) hz
    by_cases c : i < V
    · exact br_f (by rw [hvc]; exact nI_ge c (by omega)) (And.intro hi3 (nm_r (go 127 (by rw [if_pos c])) (nm_r (nI_1 i) (K _ rfl))))
    · exact br_t (by rw [hvc]; exact nI_le (by omega) (by omega)) (And.intro hi3 (nm_r (go 1 (by rw [if_neg c])) (nm_r (nI_1 i) (K _ rfl))))
theorem y_init {post : SY → Prop} {V : Nat} {vc mN mL : Int32} (hvc : vc = nI V) (hV : V ≤ 3) (h : post (vc, mN, mL, 0, 0, 0, 0, 0, dfn V 3, (fun _ => 0), (fun _ => 0), (fun _ => 0), (fun _ => 0), (fun _ => 0), (fun _ => 0), (fun _ => 0), (fun _ => 0), (fun _ => 0), (fun _ => 0), (fun _ => 0), (fun _ => 0), (fun _ => 0), (fun _ => 0), (fun _ => 0), (fun _ => 0))) :
    ∃ m, wY_init_220 post vc mN mL 0 0 0 0 0 m 0 (fun _ => 0) (fun _ => 0) (fun _ => 0) (fun _ => 0) (fun _ => 0) (fun _ => 0) (fun _ => 0) (fun _ => 0) (fun _ => 0) (fun _ => 0) (fun _ => 0) (fun _ => 0) (fun _ => 0) (fun _ => 0) (fun _ => 0) (fun _ => 0) (fun _ => 0) := by
  refine loop_0 (fun m i (d : Nat → Int32) => wY_init_220 post vc mN mL 0 0 0 0 0 m (nI i) d (fun _ => 0) (fun _ => 0) (fun _ => 0) (fun _ => 0) (fun _ => 0) (fun _ => 0) (fun _ => 0) (fun _ => 0) (fun _ => 0) (fun _ => 0) (fun _ => 0) (fun _ => 0) (fun _ => 0) (fun _ => 0) (fun _ => 0) (fun _ => 0)) (fun i d => d = dfn V i) 3 (fun _ => 0) (st_0.symm) ?_ ?_
  · rintro m d rfl
    exact br_t (nI_le (Nat.le_refl 3) (by decide)) h
  · rintro m i d hi rfl K
    refine br_f (nI_ge (b := 3) hi (by decide)) ?_
    have hi3 : vp_in (nI i) 3 := vp_in_nI hi (by decide)
    have go : ∀ z : Int32, z = (if i < V then 127 else 1) → upd (dfn V i) (nI i).toNatClampNeg z = dfn V (i + 1) := fun z hz => by
      rw [nI_clamp (by omega)]; exact up_st' (f := fun v => if v < V then 127 else 1) hz
    by_cases c : i < V
    · exact br_f (by rw [hvc]; exact nI_ge c (by omega)) (And.intro hi3 (nm_r (go 127 (by rw [if_pos c])) (nm_r (nI_1 i) (K _ rfl))))
    · exact br_t (by rw [hvc]; exact nI_le (by omega) (by omega)) (And.intro hi3 (nm_r (go 1 (by rw [if_neg c])) (nm_r (nI_1 i) (K _ rfl))))
theorem dfn_DC {V : Nat} : DC (dfn V 3) := by
  intro v hv
  unfold dfn
  rw [if_pos hv]
  by_cases c : v < V
  · rw [if_pos c]; exact ⟨127, by decide, by decide, rfl⟩
  · rw [if_neg c]; exact ⟨1, by decide, by decide, rfl⟩
theorem i_vc0 (k0 : Int32) (k1 : Int32) (k2 : Int32) : wpX_init (fun u => wpY_init (fun v => i_Rel 3 u v) k0 k1 k2) k0 k1 k2 := by
  obtain ⟨V, v1, v3, eV⟩ := cl3_of (v := k0) (lo := 1) (hi := 3) (by decide) (by decide)
  obtain ⟨N, n1, n3, eN⟩ := cl3_of (v := k1) (lo := 8) (hi := 32) (by decide) (by decide)
  obtain ⟨L, l1, l3, eL⟩ := cl3_of (v := k2) (lo := 8) (hi := 16) (by decide) (by decide)
  have eV' : cl3 k0 1 3 = nI V := eV
  have eN' : cl3 k1 8 32 = nI N := eN
  have eL' : cl3 k2 8 16 = nI L := eL
  unfold wpX_init
  refine x_clamp (x_clamp (x_clamp (x_init eV' v3 ?_)))
  have fin : ∃ m, wY_init_220 (fun v => i_Rel 3 (cl3 k0 1 3, cl3 k1 8 32, cl3 k2 8 16, 0, 0, 0, 0, 0, 0, 0, dfn V 3, (fun _ => 0), (fun _ => 0), (fun _ => 0), (fun _ => 0), (fun _ => 0), (fun _ => 0), (fun _ => 0), (fun _ => 0), (fun _ => 0), (fun _ => 0), (fun _ => 0), (fun _ => 0), (fun _ => 0), (fun _ => 0), ofn 32, (fun _ => 0), (fun _ => 0), (fun _ => 0), (fun _ => 0), (fun _ => 0), (fun _ => 0)) v)
      (cl3 k0 1 3) (cl3 k1 8 32) (cl3 k2 8 16) 0 0 0 0 0 m 0 (fun _ => 0) (fun _ => 0) (fun _ => 0) (fun _ => 0) (fun _ => 0) (fun _ => 0) (fun _ => 0) (fun _ => 0) (fun _ => 0) (fun _ => 0) (fun _ => 0) (fun _ => 0) (fun _ => 0) (fun _ => 0) (fun _ => 0) (fun _ => 0) (fun _ => 0) := by
    refine y_init eV' v3 (zz_in ⟨V, N, L, 0, 0, 0, fun _ => 0, ⟨⟨eV', v1, v3⟩, ⟨eN', n3⟩, ⟨eL', l3⟩, ⟨rfl, Nat.zero_le N⟩, ⟨rfl, Nat.zero_le L⟩, rfl, fun y hy => absurd hy (Nat.not_lt_zero y), fun p hp => absurd hp (Nat.not_lt_zero p), ⟨fun x k hx => absurd hx (Nat.not_lt_zero x), fun p hp => absurd hp (Nat.not_lt_zero p)⟩, ?_, dfn_DC⟩, ⟨0, by decide, rfl, fun v hv => ?_, fun v hv => ?_⟩, Or.inl ⟨rfl, rfl, rfl, fun _ => rfl, fun _ => rfl, fun _ => rfl, fun _ => rfl, fun z hz => if_pos hz, fun _ => rfl, fun _ => rfl, fun _ => rfl⟩⟩)
    · exact ⟨fun d hd => absurd hd (Nat.not_lt_zero d), rfl, Nat.le_refl 0, fun p hp => absurd hp (Nat.not_lt_zero p), fun p hp => absurd hp (Nat.not_lt_zero p), fun _ _ => rfl, fun p hp => absurd hp (Nat.not_lt_zero p)⟩
    · rcases (by omega : v = 0 ∨ v = 1 ∨ v = 2) with rfl | rfl | rfl <;> rfl
    · rcases (by omega : v = 0 ∨ v = 1 ∨ v = 2) with rfl | rfl | rfl <;> exact vok_0 0
  have g187 : ∀ z0 z1 : Int32, z0 = cl3 k0 1 3 → z1 = cl3 k1 8 32 → wY_init_187 (fun v => i_Rel 3 (cl3 k0 1 3, cl3 k1 8 32, cl3 k2 8 16, 0, 0, 0, 0, 0, 0, 0, dfn V 3, (fun _ => 0), (fun _ => 0), (fun _ => 0), (fun _ => 0), (fun _ => 0), (fun _ => 0), (fun _ => 0), (fun _ => 0), (fun _ => 0), (fun _ => 0), (fun _ => 0), (fun _ => 0), (fun _ => 0), (fun _ => 0), ofn 32, (fun _ => 0), (fun _ => 0), (fun _ => 0), (fun _ => 0), (fun _ => 0), (fun _ => 0)) v) k2 z1 z0 0 0 0 0 0 0 0 (fun _ => 0) (fun _ => 0) (fun _ => 0) (fun _ => 0) (fun _ => 0) (fun _ => 0) (fun _ => 0) (fun _ => 0) (fun _ => 0) (fun _ => 0) (fun _ => 0) (fun _ => 0) (fun _ => 0) (fun _ => 0) (fun _ => 0) (fun _ => 0) (fun _ => 0) := by
    rintro z0 z1 rfl rfl
    generalize (fun v => i_Rel 3 (cl3 k0 1 3, cl3 k1 8 32, cl3 k2 8 16, 0, 0, 0, 0, 0, 0, 0, dfn V 3, (fun _ => 0), (fun _ => 0), (fun _ => 0), (fun _ => 0), (fun _ => 0), (fun _ => 0), (fun _ => 0), (fun _ => 0), (fun _ => 0), (fun _ => 0), (fun _ => 0), (fun _ => 0), (fun _ => 0), (fun _ => 0), ofn 32, (fun _ => 0), (fun _ => 0), (fun _ => 0), (fun _ => 0), (fun _ => 0), (fun _ => 0)) v) = Q at fin
    unfold cl3 at fin
    by_cases a : 8 ≤ k2
    · rw [if_pos a] at fin
      by_cases b : k2 ≤ 16
      · rw [if_pos b] at fin; exact br_t a (br_t b fin)
      · rw [if_neg b] at fin; exact br_t a (br_f b fin)
    · rw [if_neg a] at fin; exact br_f a fin
  have g160 : ∀ z0 : Int32, z0 = cl3 k0 1 3 → wY_init_160 (fun v => i_Rel 3 (cl3 k0 1 3, cl3 k1 8 32, cl3 k2 8 16, 0, 0, 0, 0, 0, 0, 0, dfn V 3, (fun _ => 0), (fun _ => 0), (fun _ => 0), (fun _ => 0), (fun _ => 0), (fun _ => 0), (fun _ => 0), (fun _ => 0), (fun _ => 0), (fun _ => 0), (fun _ => 0), (fun _ => 0), (fun _ => 0), (fun _ => 0), ofn 32, (fun _ => 0), (fun _ => 0), (fun _ => 0), (fun _ => 0), (fun _ => 0), (fun _ => 0)) v) k1 k2 z0 0 0 0 0 0 0 0 0 (fun _ => 0) (fun _ => 0) (fun _ => 0) (fun _ => 0) (fun _ => 0) (fun _ => 0) (fun _ => 0) (fun _ => 0) (fun _ => 0) (fun _ => 0) (fun _ => 0) (fun _ => 0) (fun _ => 0) (fun _ => 0) (fun _ => 0) (fun _ => 0) (fun _ => 0) := by
    intro z0 hz
    by_cases a : 8 ≤ k1
    · by_cases b : k1 ≤ 32
      · exact br_t a (br_t b (g187 z0 _ hz (by unfold cl3; rw [if_pos a, if_pos b])))
      · exact br_t a (br_f b (g187 z0 _ hz (by unfold cl3; rw [if_pos a, if_neg b])))
    · exact br_f a (g187 z0 _ hz (by unfold cl3; rw [if_neg a]))
  by_cases a : 1 ≤ k0
  · by_cases b : k0 ≤ 3
    · exact br_t a (br_t b (g160 _ (by unfold cl3; rw [if_pos a, if_pos b])))
    · exact br_t a (br_f b (g160 _ (by unfold cl3; rw [if_pos a, if_neg b])))
  · exact br_f a (g160 _ (by unfold cl3; rw [if_neg a]))
end NT37
end
section
section NT38
theorem i_vc_node {k : Nat} {u : SX} {v : SY} (I : i_Rel k u v) (hk : k + 5 ≤ 2563) (v1 : Int32) (v2 : Int32) (v3 : Int32) : wpX_node (fun r u' => wpY_node (fun r' v' => r' = r ∧ i_Rel (k + 5) u' v') v v1 v2 v3) u v1 v2 v3 := by
  refine zz_el (P := fun u v => wpX_node (fun r u' => wpY_node (fun r' v' => r' = r ∧ i_Rel (k + 5) u' v') v v1 v2 v3) u v1 v2 v3) ?_ I
  intro vc mN mL nc lc dp pd vd ph pt nw de nk na nb us lk lv le ju el ol ow vs vx vy ws wx wy du ou ax ay ar dn ga gv er sn re h
  have I' : i_Rel (k + 5) (vc, mN, mL, nc, lc, dp, pd, vd, ph, pt, de, nk, na, nb, us, lk, lv, le, ju, el, ol, gv, er, sn, re, ow, vs, vx, vy, ws, wx, wy) (vc, mN, mL, nc, lc, ph, pt, nw, de, vx, vy, nk, na, nb, us, du, lk, lv, le, ou, ax, ay, ar, dn, ga) := zz_in h
  obtain ⟨V, N, L, n, l, D, par, ⟨⟨hvc, hV1, hV⟩, ⟨hmN, hN⟩, ⟨hmL, hL⟩, ⟨hnc, hn⟩, ⟨hlc, hl⟩, hdp, hNW, hLW, hPU, hLN, hDC⟩, hVR, hPS⟩ := h
  by_cases p : ph = 0
  · by_cases m : mN ≤ nc
    · exact br_t p (br_t m (br_t p (br_t m ⟨rfl, I'⟩)))
    · have hnN : n < N := by rw [hmN, hnc, nI_leI (by omega) (by omega)] at m; omega
      by_cases f : fitI vc nc us v1 v2 v3 = 0
      · refine br_t p (br_f m (x_operandsFit hnc (by omega) (br_t f ?_)))
        exact y_nodeC hnc (by omega) p m (fun z => absurd f z) (fun _ => ⟨rfl, I'⟩)
      · have f' := f
        rw [hnc] at f'
        obtain ⟨f1, f14, _, _, g1, g2⟩ := fit_iff.mp f'
        have ha : ¬ v1 < 4 → vp_in v2 32 := fun z => fr_vp (by omega) (g1.resolve_left z)
        have hb : ¬ bn v1 = 0 → vp_in v3 32 := fun z => fr_vp (by omega) (g2.resolve_left z).1
        obtain ⟨o1, o2, par', o3⟩ := node_ok hvc hV (show n < 32 by omega) hNW hPU hLW f'
        refine x_node hnc (by omega) p m f ha hb (y_nodeC hnc (by omega) p m (fun _ => y_node128 hnc (by omega) ha hb ⟨rfl, ?_⟩) (fun z => absurd z f))
        refine zz_in ⟨V, N, L, n + 1, l, D, par', ⟨⟨hvc, hV1, hV⟩, ⟨hmN, hN⟩, ⟨hmL, hL⟩, ⟨rfl, by omega⟩, ⟨hlc, hl⟩, hdp, o1, o2, o3, hLN, hDC⟩, hVR, ?_⟩
        exact Or.inl (hPS.resolve_right (fun z => z.1 p))
  · exact br_f p (br_f p ⟨rfl, I'⟩)
theorem i_vc_line {k : Nat} {u : SX} {v : SY} (I : i_Rel k u v) (hk : k + 5 ≤ 2563) (v1 : Int32) (v2 : Int32) (v3 : Int32) : wpX_line (fun r u' => wpY_line (fun r' v' => r' = r ∧ i_Rel (k + 5) u' v') v v1 v2 v3) u v1 v2 v3 := by
  refine zz_el (P := fun u v => wpX_line (fun r u' => wpY_line (fun r' v' => r' = r ∧ i_Rel (k + 5) u' v') v v1 v2 v3) u v1 v2 v3) ?_ I
  intro vc mN mL nc lc dp pd vd ph pt nw de nk na nb us lk lv le ju el ol ow vs vx vy ws wx wy du ou ax ay ar dn ga gv er sn re h
  have I' : i_Rel (k + 5) (vc, mN, mL, nc, lc, dp, pd, vd, ph, pt, de, nk, na, nb, us, lk, lv, le, ju, el, ol, gv, er, sn, re, ow, vs, vx, vy, ws, wx, wy) (vc, mN, mL, nc, lc, ph, pt, nw, de, vx, vy, nk, na, nb, us, du, lk, lv, le, ou, ax, ay, ar, dn, ga) := zz_in h
  obtain ⟨V, N, L, n, l, D, par, ⟨⟨hvc, hV1, hV⟩, ⟨hmN, hN⟩, ⟨hmL, hL⟩, ⟨hnc, hn⟩, ⟨hlc, hl⟩, hdp, hNW, hLW, hPU, hLN, hDC⟩, hVR, hPS⟩ := h
  by_cases p : ph = 0
  · by_cases m : mL ≤ lc
    · exact br_t p (br_t m (br_t p (br_t m ⟨rfl, I'⟩)))
    · have hlL : l < L := by rw [hmL, hlc, nI_leI (by omega) (by omega)] at m; omega
      by_cases f : LA vc nc us lk el l D v1 v2 v3
      · have f' := f
        rw [hnc] at f'
        obtain ⟨kk, k1, _, ek⟩ := k_of f.1 (Int32.le_trans f.2.1 (by decide))
        subst ek
        have k6 : kk ≤ 6 := by have := f.2.1; rw [show (6 : Int32) = nI 6 from rfl, nI_leI (by omega) (by decide)] at this; exact this
        obtain ⟨o2, par', o3⟩ := line_ok hvc hV (by omega) (by omega) hPU hLW f' k1 k6
        refine x_lineOk hnc (by omega) (by omega) hlc p m hdp hLN f k1 k6 fun D' ju' el' ol' hLN' => ?_
        refine y_lineC hnc (by omega) (by omega) hlc p m hLN (fun _ => y_line121 (by omega) hlc (fun z => fr_vp (by omega) (f'.2.2.2.1.resolve_left z)) ⟨rfl, ?_⟩) (fun z => absurd f z)
        refine zz_in ⟨V, N, L, n, l + 1, D', par', ⟨⟨hvc, hV1, hV⟩, ⟨hmN, hN⟩, ⟨hmL, hL⟩, ⟨hnc, hn⟩, ⟨rfl, by omega⟩, rfl, hNW, o2, o3, hLN', hDC⟩, hVR, ?_⟩
        exact Or.inl (hPS.resolve_right (fun z => z.1 p))
      · exact br_t p (br_f m (x_lineFits hnc (by omega) (by omega) hdp hLN (fun z => absurd z f) (fun _ => br_t rfl (y_lineC hnc (by omega) (by omega) hlc p m hLN (fun z => absurd z f) (fun _ => ⟨rfl, I'⟩)))))
  · exact br_f p (br_f p ⟨rfl, I'⟩)
theorem i_vc_declare {k : Nat} {u : SX} {v : SY} (I : i_Rel k u v) (hk : k + 5 ≤ 2563) (v1 : Int32) (v2 : Int32) : wpX_declare (fun r u' => wpY_declare (fun r' v' => r' = r ∧ i_Rel (k + 5) u' v') v v1 v2) u v1 v2 := by
  refine zz_el (P := fun u v => wpX_declare (fun r u' => wpY_declare (fun r' v' => r' = r ∧ i_Rel (k + 5) u' v') v v1 v2) u v1 v2) ?_ I
  intro vc mN mL nc lc dp pd vd ph pt nw de nk na nb us lk lv le ju el ol ow vs vx vy ws wx wy du ou ax ay ar dn ga gv er sn re h
  have I' : i_Rel (k + 5) (vc, mN, mL, nc, lc, dp, pd, vd, ph, pt, de, nk, na, nb, us, lk, lv, le, ju, el, ol, gv, er, sn, re, ow, vs, vx, vy, ws, wx, wy) (vc, mN, mL, nc, lc, ph, pt, nw, de, vx, vy, nk, na, nb, us, du, lk, lv, le, ou, ax, ay, ar, dn, ga) := zz_in h
  obtain ⟨V, N, L, n, l, D, par, ⟨⟨hvc, hV1, hV⟩, ⟨hmN, hN⟩, ⟨hmL, hL⟩, ⟨hnc, hn⟩, ⟨hlc, hl⟩, hdp, hNW, hLW, hPU, hLN, hDC⟩, hVR, hPS⟩ := h
  by_cases p : ph = 0
  · refine br_t p (x_isVar ?_)
    by_cases i0 : iv vc v1 = 0
    · exact br_t i0 (br_t p (y_isVar (br_t i0 ⟨rfl, I'⟩)))
    · refine br_f i0 ?_
      by_cases m1 : v2 < 1
      · exact br_t m1 (br_t p (y_isVar (br_f i0 (br_t m1 ⟨rfl, I'⟩))))
      · refine br_f m1 ?_
        by_cases m2 : v2 ≤ 127
        · obtain ⟨j, hj, e⟩ := iv_of (n := V) (by omega) (by rw [← hvc]; exact i0)
          have hi : vp_in v1 3 := na_in e (by omega) (by decide)
          have hc : v1.toNatClampNeg = j := na_cl e (by omega)
          refine br_t m2 (And.intro hi (nm_r (e' := upd de j v2) (by rw [hc]) (br_t p (y_isVar (br_f i0 (br_f m1 (br_t m2 (And.intro hi (nm_r (e' := upd de j v2) (by rw [hc]) ⟨rfl, ?_⟩)))))))))
          refine zz_in ⟨V, N, L, n, l, D, par, ⟨⟨hvc, hV1, hV⟩, ⟨hmN, hN⟩, ⟨hmL, hL⟩, ⟨hnc, hn⟩, ⟨hlc, hl⟩, hdp, hNW, hLW, hPU, hLN, fun w hw => ?_⟩, hVR, Or.inl (hPS.resolve_right (fun z => z.1 p))⟩
          by_cases c : w = j
          · have n0 : ¬ v2 < 0 := fun z => m1 (Int32.lt_of_lt_of_le z (by decide))
            obtain ⟨M, hM, eM⟩ := nI_of2 (M := 127) (n := 127) (by decide) n0 m2
            refine ⟨M, ?_, by omega, by rw [c, pk_us]; exact eM⟩
            rcases Nat.eq_zero_or_pos M with z | z
            · exfalso; rw [eM, z] at m1; exact m1 (by decide)
            · exact z
          · rw [pk_un c]; exact hDC w hw
        · exact br_f m2 (br_t p (y_isVar (br_f i0 (br_f m1 (br_f m2 ⟨rfl, I'⟩)))))
  · exact br_f p (br_f p ⟨rfl, I'⟩)
theorem VR_st {de vs vx vy : Nat → Int32} {q : Nat} (hq : q < 343) (hs : ∀ v, v < 3 → shq q v = lbm (de v)) : VR (st1 de vs 3) (st2 de vx 3) (st3 vy 3) (nI q) := by
  refine ⟨q, hq, rfl, fun v hv => ?_, fun v hv => ?_⟩
  · unfold st1; rw [if_pos hv, hs v hv]
  · unfold st2 st3
    rw [if_pos hv, if_pos hv, hs v hv]
    refine ⟨fun _ => rfl, fun z => ⟨by rw [if_neg (by omega)], rfl⟩, fun z => ⟨by rw [if_pos z], rfl⟩, fun _ => Or.inl rfl, fun z => Or.inl (by rw [if_neg (by omega)]), fun z => ⟨Or.inl (by rw [if_neg (by omega)]), Or.inl rfl⟩⟩
theorem i_vc_rewind {k : Nat} {u : SX} {v : SY} (I : i_Rel k u v) (hk : k + 5 ≤ 2563) : wpX_rewind (fun r u' => wpY_rewind (fun r' v' => r' = r ∧ i_Rel (k + 5) u' v') v) u := by
  refine zz_el (P := fun u v => wpX_rewind (fun r u' => wpY_rewind (fun r' v' => r' = r ∧ i_Rel (k + 5) u' v') v) u) ?_ I
  intro vc mN mL nc lc dp pd vd ph pt nw de nk na nb us lk lv le ju el ol ow vs vx vy ws wx wy du ou ax ay ar dn ga gv er sn re h
  have I' : i_Rel (k + 5) (vc, mN, mL, nc, lc, dp, pd, vd, ph, pt, de, nk, na, nb, us, lk, lv, le, ju, el, ol, gv, er, sn, re, ow, vs, vx, vy, ws, wx, wy) (vc, mN, mL, nc, lc, ph, pt, nw, de, vx, vy, nk, na, nb, us, du, lk, lv, le, ou, ax, ay, ar, dn, ga) := zz_in h
  obtain ⟨V, N, L, n, l, D, par, ⟨⟨hvc, hV1, hV⟩, ⟨hmN, hN⟩, ⟨hmL, hL⟩, ⟨hnc, hn⟩, ⟨hlc, hl⟩, hdp, hNW, hLW, hPU, hLN, hDC⟩, hVR, hPS⟩ := h
  by_cases p : ph = 0
  · exact br_t p (br_t p ⟨rfl, I'⟩)
  · obtain ⟨q, hq, hnw, _, _⟩ := hVR
    obtain ⟨_, hD0, hAN, hVD, _⟩ := hPS.resolve_left (fun z => p z.1)
    refine br_f p (x_toStart hDC (y_rewind hq hnw hDC p fun q' hq' hs => ⟨rfl, ?_⟩))
    exact zz_in ⟨V, N, L, n, l, D, par, ⟨⟨hvc, hV1, hV⟩, ⟨hmN, hN⟩, ⟨hmL, hL⟩, ⟨hnc, hn⟩, ⟨hlc, hl⟩, hdp, hNW, hLW, hPU, hLN, hDC⟩, VR_st hq' hs, Or.inr ⟨i1_0, hD0, hAN, hVD, 0, Nat.zero_le l, rfl⟩⟩
/-- giving a variable a value -/
theorem VR_up {vs vx vy : Nat → Int32} {q v s : Nat} {S x y : Int32} (hq : q < 343) (hv : v < 3) (hs : s < 7) (eS : S = nI s) (h1 : ∀ v, v < 3 → vs v = nI (shq q v)) (h2 : ∀ v, v < 3 → vok (shq q v) (vx v) (vy v)) (ok : vok s x y) : VR (upd vs v S) (upd vx v x) (upd vy v y) (nI (pq q v s)) := by
  refine ⟨pq q v s, pq_lt hq hs, rfl, fun w hw => ?_, fun w hw => ?_⟩
  · rw [pq_sh hq hv hs hw]
    by_cases c : w = v
    · rw [c, pk_us, if_pos rfl]; exact eS
    · rw [pk_un c, if_neg c]; exact h1 w hw
  · rw [pq_sh hq hv hs hw]
    by_cases c : w = v
    · rw [c, pk_us, pk_us, if_pos rfl]; exact ok
    · rw [pk_un c, pk_un c, if_neg c]; exact h2 w hw
theorem i_vc_give {k : Nat} {u : SX} {v : SY} (I : i_Rel k u v) (hk : k + 5 ≤ 2563) (v1 : Int32) (v2 : Int32) (v3 : Int32) (v4 : Int32) : wpX_give (fun r u' => wpY_give (fun r' v' => r' = r ∧ i_Rel (k + 5) u' v') v v1 v2 v3 v4) u v1 v2 v3 v4 := by
  refine zz_el (P := fun u v => wpX_give (fun r u' => wpY_give (fun r' v' => r' = r ∧ i_Rel (k + 5) u' v') v v1 v2 v3 v4) u v1 v2 v3 v4) ?_ I
  intro vc mN mL nc lc dp pd vd ph pt nw de nk na nb us lk lv le ju el ol ow vs vx vy ws wx wy du ou ax ay ar dn ga gv er sn re h
  have I' : i_Rel (k + 5) (vc, mN, mL, nc, lc, dp, pd, vd, ph, pt, de, nk, na, nb, us, lk, lv, le, ju, el, ol, gv, er, sn, re, ow, vs, vx, vy, ws, wx, wy) (vc, mN, mL, nc, lc, ph, pt, nw, de, vx, vy, nk, na, nb, us, du, lk, lv, le, ou, ax, ay, ar, dn, ga) := zz_in h
  obtain ⟨V, N, L, n, l, D, par, ⟨⟨hvc, hV1, hV⟩, ⟨hmN, hN⟩, ⟨hmL, hL⟩, ⟨hnc, hn⟩, ⟨hlc, hl⟩, hdp, hNW, hLW, hPU, hLN, hDC⟩, hVR, hPS⟩ := h
  by_cases p : ph = 1
  · refine br_t p (x_isVar ?_)
    by_cases i0 : iv vc v1 = 0
    · exact br_t i0 (br_t p (y_isVar (br_t i0 ⟨rfl, I'⟩)))
    · have Y1 : ∀ post : Int32 → SY → Prop, _ → wpY_give post (vc, mN, mL, nc, lc, ph, pt, nw, de, vx, vy, nk, na, nb, us, du, lk, lv, le, ou, ax, ay, ar, dn, ga) v1 v2 v3 v4 := fun post z => br_t p (y_isVar (br_f i0 z))
      refine br_f i0 ?_
      by_cases m1 : v2 < 0
      · exact br_t m1 (Y1 _ (br_t m1 ⟨rfl, I'⟩))
      · refine br_f m1 ?_
        by_cases m2 : v2 ≤ 6
        · obtain ⟨j, hj, e⟩ := iv_of (n := V) (by omega) (by rw [← hvc]; exact i0)
          obtain ⟨s, hs, es⟩ := nI_of2 (M := 6) (n := 6) (by decide) m1 m2
          obtain ⟨q, hq, hnw, hvs, hvk⟩ := hVR
          subst e; subst es
          have hi : vp_in (nI j) 3 := vp_in_nI (by omega) (by decide)
          have hc : (nI j).toNatClampNeg = j := nI_clamp (by omega)
          have Y2 : ∀ post : Int32 → SY → Prop, _ → wpY_give post (vc, mN, mL, nc, lc, ph, pt, nw, de, vx, vy, nk, na, nb, us, du, lk, lv, le, ou, ax, ay, ar, dn, ga) (nI j) (nI s) v3 v4 := fun post z => Y1 post (br_f m1 (br_f (Int32.not_lt.mpr m2) (And.intro hi z)))
          refine br_t m2 (And.intro hi ?_)
          rw [hc]
          by_cases hb : bt (de j) s = true
          · refine br_f (fun z => by rw [(bt_s0z (by omega)).mp z] at hb; exact Bool.false_ne_true hb) ?_
            have Y3 : ∀ post : Int32 → SY → Prop, _ → wpY_give post (vc, mN, mL, nc, lc, ph, pt, nw, de, vx, vy, nk, na, nb, us, du, lk, lv, le, ou, ax, ay, ar, dn, ga) (nI j) (nI s) v3 v4 := fun post z => Y2 post (by rw [hc]; exact y_has rfl (by omega) (fun _ => br_f i1_0 (y_put hnw rfl rfl hq (by omega) (by omega) z)) (fun y => absurd hb (nf y)))
            obtain ⟨_, hD0, hAN, hVD, hP⟩ := hPS.resolve_left (fun z => by rw [p] at z; exact i1_0 z.1)
            have fin : ∀ x y : Int32, vok s x y → i_Rel (k + 5) (vc, mN, mL, nc, lc, dp, pd, vd, ph, pt, de, nk, na, nb, us, lk, lv, le, ju, el, ol, gv, er, sn, re, ow, upd vs j (nI s), upd vx j x, upd vy j y, ws, wx, wy) (vc, mN, mL, nc, lc, ph, pt, nI (pq q j s), de, upd vx j x, upd vy j y, nk, na, nb, us, du, lk, lv, le, ou, ax, ay, ar, dn, ga) := fun x y ok =>
              zz_in ⟨V, N, L, n, l, D, par, ⟨⟨hvc, hV1, hV⟩, ⟨hmN, hN⟩, ⟨hmL, hL⟩, ⟨hnc, hn⟩, ⟨hlc, hl⟩, hdp, hNW, hLW, hPU, hLN, hDC⟩, VR_up hq (by omega) (by omega) rfl hvs hvk ok, Or.inr ⟨by rw [p]; exact i1_0, hD0, hAN, hVD, hP⟩⟩
            have g97 : ∀ z y : Int32, (s < 3 → y = 0) → (s = 3 ∨ s = 5 → y = v4) → (s = 4 ∨ s = 6 → y = if v4 = 0 then 0 else 1) → vok s z y → wY_give_97 (fun r' v' => r' = 1 ∧ i_Rel (k + 5) (vc, mN, mL, nc, lc, dp, pd, vd, ph, pt, de, nk, na, nb, us, lk, lv, le, ju, el, ol, gv, er, sn, re, ow, upd vs j (nI s), upd vx j z, upd vy j y, ws, wx, wy) v') (nI j) (nI s) v4 z (nI j) vc mN mL nc lc ph pt (nI (pq q j s)) de vx vy nk na nb us du lk lv le ou ax ay ar dn ga := by
              intro z y h0 h1 h2 ok
              refine And.intro hi (nm_r (e' := upd vx j z) (by rw [hc]) ?_)
              by_cases s3 : 3 ≤ s
              · refine br_t (nI_le (a := 3) s3 (by omega)) ?_
                by_cases c3 : s = 3
                · rw [h1 (Or.inl c3)] at ok ⊢
                  exact br_t (congrArg nI c3) (And.intro hi (nm_r (e' := upd vy j v4) (by rw [hc]) ⟨rfl, fin _ _ ok⟩))
                · refine br_f (nI_ne (b := 3) c3 (by omega) (by decide)) ?_
                  by_cases c5 : s = 5
                  · rw [h1 (Or.inr c5)] at ok ⊢
                    exact br_t (congrArg nI c5) (And.intro hi (nm_r (e' := upd vy j v4) (by rw [hc]) ⟨rfl, fin _ _ ok⟩))
                  · refine br_f (nI_ne (b := 5) c5 (by omega) (by decide)) ?_
                    rw [h2 (by omega)] at ok ⊢
                    by_cases b0 : v4 = 0
                    · rw [if_pos b0] at ok ⊢
                      exact br_t b0 (And.intro hi (nm_r (e' := upd vy j 0) (by rw [hc]) ⟨rfl, fin _ _ ok⟩))
                    · rw [if_neg b0] at ok ⊢
                      exact br_f b0 (And.intro hi (nm_r (e' := upd vy j 1) (by rw [hc]) ⟨rfl, fin _ _ ok⟩))
              · rw [h0 (by omega)] at ok ⊢
                exact br_f (nI_ge (b := 3) (by omega) (by decide)) (And.intro hi (nm_r (e' := upd vy j 0) (by rw [hc]) ⟨rfl, fin _ _ ok⟩))
            by_cases s3 : s < 3
            · refine br_t (nI_lt (b := 3) s3 (by decide)) ?_
              rcases (by omega : s = 0 ∨ s = 1 ∨ s = 2) with rfl | rfl | rfl
              · refine br_t rfl (x_setVar (by omega) (Y3 _ (br_f (by decide) (br_f (by decide) (br_f (by decide) ?_)))))
                exact g97 v3 0 (fun _ => rfl) (fun z => by omega) (fun z => by omega) (vok_0 v3)
              · refine br_f (by decide) (x_setVar (by omega) (Y3 _ (br_t rfl ?_)))
                exact g97 0 0 (fun _ => rfl) (fun z => by omega) (fun z => by omega) tok_1.2
              · refine br_f (by decide) (x_setVar (by omega) (Y3 _ (br_f (by decide) (br_t rfl ?_))))
                exact g97 1 0 (fun _ => rfl) (fun z => by omega) (fun z => by omega) tok_2.2
            · refine br_f (nI_nlt (b := 3) (by omega) (by omega)) ?_
              have n1 : ¬ nI s = 1 := nI_ne (b := 1) (by omega) (by omega) (by decide)
              have n2 : ¬ nI s = 2 := nI_ne (b := 2) (by omega) (by omega) (by decide)
              have cmp : ∀ (W v : Int32) (post : Int32 → Prop) (c : Prop) [Decidable c], ((((nI s - 3) >>> ((1 - W) &&& 31)) &&& 1) = 0 ↔ c) → post (if c then v else if v = 0 then 0 else 1) → wpX_component post (vc, mN, mL, nc, lc, dp, pd, vd, ph, pt, de, nk, na, nb, us, lk, lv, le, ju, el, ol, gv, er, sn, re, ow, vs, vx, vy, ws, wx, wy) (nI s) W v := by
                intro W v post c _ hh hp
                unfold wpX_component
                by_cases hcc : c
                · rw [if_pos hcc] at hp
                  exact br_t (hh.mpr hcc) (br_t rfl hp)
                · rw [if_neg hcc] at hp
                  refine br_f (fun z => hcc (hh.mp z)) (br_f i1_0 ?_)
                  by_cases v0 : v = 0
                  · rw [if_pos v0] at hp; refine br_t v0 ?_; rw [v0]; exact hp
                  · rw [if_neg v0] at hp; exact br_f v0 hp
              have w01 : ∀ v : Int32, (if v = 0 then (0 : Int32) else 1) = 0 ∨ (if v = 0 then (0 : Int32) else 1) = 1 := fun v => by
                by_cases z : v = 0
                · rw [if_pos z]; exact Or.inl rfl
                · rw [if_neg z]; exact Or.inr rfl
              refine cmp 0 v3 _ (s = 3 ∨ s = 4) (hb_0 s (by omega) (by omega)) (cmp 1 v4 _ (s = 3 ∨ s = 5) (hb_1 s (by omega) (by omega)) (x_setVar (by omega) (Y3 _ (br_f n1 (br_f n2 ?_)))))
              have G := fun z => g97 z (if s = 3 ∨ s = 5 then v4 else if v4 = 0 then 0 else 1) (fun y => by omega) (fun y => by rw [if_pos y]) (fun y => by rw [if_neg (by omega)])
              by_cases c4 : s ≤ 4
              · have e1 : (if s = 3 ∨ s = 4 then v3 else if v3 = 0 then 0 else 1) = v3 := if_pos (by omega)
                rw [e1]
                refine br_f (nI_nlt (a := 4) c4 (by decide)) (G v3 ?_)
                rcases (by omega : s = 3 ∨ s = 4) with rfl | rfl
                · exact vok_3 _ _
                · refine vok_4 ?_; rw [if_neg (by decide)]; exact w01 v4
              · have e1 : (if s = 3 ∨ s = 4 then v3 else if v3 = 0 then 0 else 1) = if v3 = 0 then 0 else 1 := if_neg (by omega)
                rw [e1]
                refine br_t (nI_lt (a := 4) (by omega) (by omega)) ?_
                have ok : vok s (if v3 = 0 then 0 else 1) (if s = 3 ∨ s = 5 then v4 else if v4 = 0 then 0 else 1) := by
                  rcases (by omega : s = 5 ∨ s = 6) with rfl | rfl
                  · exact vok_5 (w01 v3)
                  · refine vok_6 (w01 v3) ?_; rw [if_neg (by decide)]; exact w01 v4
                by_cases z : v3 = 0
                · rw [if_pos z] at ok ⊢; exact br_t z (G 0 ok)
                · rw [if_neg z] at ok ⊢; exact br_f z (G 1 ok)
          · refine br_t ((bt_s0z (by omega)).mpr (bo_nf hb)) (Y2 _ ?_)
            rw [hc]
            exact y_has rfl (by omega) (fun z => absurd z hb) (fun _ => br_t rfl ⟨rfl, I'⟩)
        · exact br_f m2 (Y1 _ (br_f m1 (br_t (Int32.not_le.mp m2) ⟨rfl, I'⟩)))
  · exact br_f p (br_f p ⟨rfl, I'⟩)
end NT38
end
section
section NT39
theorem AN_of {n l : Nat} {de nk na nb lk lv le ow ar ga : Nat → Int32} {gv er sn re : Nat → Int64} (hn : n ≤ 32) (hl : l ≤ 16) (hAF : AF n l de nk na nb lk lv le gv er re ow sn)
    (har : ∀ p q, p < 17 → q < 343 → (¬ ar (p * 343 + q) = 0 ↔ Rc re p q))
    (hga : ∀ x q, x < n → q < 343 → (Rc sn x q → MK (ga (x * 343 + q)) (OO nk na nb (shq q) x)) ∧ (¬ Rc sn x q → ga (x * 343 + q) = 0)) : AN n l nk na nb lk le gv er sn re ow ar ga := by
  obtain ⟨hA, hre, f1, f2, f3⟩ := hAF
  have v17 : VV 17 re := fun p hp w hw j hj e => ((hre p hp w hw j hj).mp e).1
  refine ⟨v17, fun x hx w hw j hj e => ?_, har, fun x q hx hq => ⟨fun z i hi => ?_, (hga x q hx hq).2⟩, fun p hp ht => ?_, fun x k hx hk k4 k14 => ?_⟩
  · rcases f3 x hx with u | ⟨p, r1, _, _, _, r5, _⟩
    · rw [u.2 w hw, wd_0] at e; exact absurd e Bool.false_ne_true
    · exact v17 p (by omega) w hw j hj (r5 w hw j e)
  · rw [(hga x q hx hq).1 z i hi]
    constructor
    · rintro ⟨a, b⟩
      exact ⟨a, by rw [hA x hx (q / 49) (by omega) (qj q) (qj_64 q) (qj_v q) i a, sh_eq]; exact b⟩
    · rintro ⟨a, b⟩
      exact ⟨a, by rw [hA x hx (q / 49) (by omega) (qj q) (qj_64 q) (qj_v q) i a, sh_eq] at b; exact b⟩
  · obtain ⟨a, b⟩ := f1 p hp ht
    exact ⟨a, fun q hq => by unfold Rc; rw [b (q / 49) (by omega)]⟩
  · obtain ⟨a, _, c⟩ := f2 x hx k hk k4 k14
    exact ⟨a, fun hb => (c hb).1⟩
theorem i_vc_check {k : Nat} {u : SX} {v : SY} (I : i_Rel k u v) (hk : k + 5 ≤ 2563) : wpX_check (fun r u' => wpY_check (fun r' v' => r' = r ∧ i_Rel (k + 5) u' v') v) u := by
  refine zz_el (P := fun u v => wpX_check (fun r u' => wpY_check (fun r' v' => r' = r ∧ i_Rel (k + 5) u' v') v) u) ?_ I
  intro vc mN mL nc lc dp pd vd ph pt nw de nk na nb us lk lv le ju el ol ow vs vx vy ws wx wy du ou ax ay ar dn ga gv er sn re h
  have I' : i_Rel (k + 5) (vc, mN, mL, nc, lc, dp, pd, vd, ph, pt, de, nk, na, nb, us, lk, lv, le, ju, el, ol, gv, er, sn, re, ow, vs, vx, vy, ws, wx, wy) (vc, mN, mL, nc, lc, ph, pt, nw, de, vx, vy, nk, na, nb, us, du, lk, lv, le, ou, ax, ay, ar, dn, ga) := zz_in h
  obtain ⟨V, N, L, n, l, D, par, ⟨⟨hvc, hV1, hV⟩, ⟨hmN, hN⟩, ⟨hmL, hL⟩, ⟨hnc, hn⟩, ⟨hlc, hl⟩, hdp, hNW, hLW, hPU, hLN, hDC⟩, hVR, hPS⟩ := h
  by_cases p : ph = 0
  · have hD := hLN.2.2.1
    have dz : dp ≤ 0 ↔ ¬ 0 < D := by
      rw [hdp, ← nI_0, nI_leI (by omega) (by decide)]; omega
    by_cases d : dp ≤ 0
    · have hD0 : D = 0 := by have := dz.mp d; omega
      have h0 := LN_0 hLN (dz.mp d)
      have h3 : ∀ p, p < l → lk p = 3 → ∃ o, opn lk p 0 = some o := fun p hp z => by obtain ⟨o, a, _⟩ := hLN.2.2.2.2.2.2 p hp z; exact ⟨o, a⟩
      obtain ⟨_, hpd, hpt, hg0, he0, hs0, hr0, ho0, ha0, hd0, hga0⟩ := hPS.resolve_right (fun z => z.1 p)
      obtain ⟨q, hq, hnw, _, _⟩ := hVR
      refine br_t p (br_t d (x_findOutcomes hnc (by omega) hV hNW hg0 he0 fun g e hAO => x_flow hDC (by omega) (by omega) hV hlc hLN.2.2.2.1 hLW hAO hr0 hpd fun re' hre => x_findSeen hnc (by omega) hlc (by omega) hNW hLW hPU ho0 hs0 fun ow' sn' f1 f2 f3 => x_check40 (n := n) (V := V) hlc (by omega) hLW (fun p hp w hw j hj e => ((hre p hp w hw j hj).mp e).1) hDC fun vd' hVD => ?_))
      have hAF : AF n l de nk na nb lk lv le g e re' ow' sn' := ⟨hAO, hre, f1, f2, f3⟩
      refine br_t p (y_opener hlc (by omega) (Nat.le_refl l) ?_)
      rw [h0]
      refine br_t (show (-1 : Int32) < 0 by decide) (y_rewind hq hnw hDC i1_0 fun q' hq' hs => y_explore (V := V) (n := n) (l := l) (by omega) hV (by omega) hlc hNW hLW hPU h0 h3 hAF hDC ha0 hd0 hga0 fun ou' du' ar' dn' ga' har hga => ?_)
      have hAN := AN_of (by omega) (by omega) hAF har hga
      have fin : i_Rel (k + 5) (vc, mN, mL, nc, lc, dp, 0, vd', 1, 0, de, nk, na, nb, us, lk, lv, le, ju, el, ol, g, e, sn', re', ow', st1 de vs 3, st2 de vx 3, st3 vy 3, ws, wx, wy) (vc, mN, mL, nc, lc, 1, 0, nI q', de, st2 de vx 3, st3 vy 3, nk, na, nb, us, du', lk, lv, le, ou', ax, ay, ar', dn', ga') :=
        zz_in ⟨V, N, L, n, l, D, par, ⟨⟨hvc, hV1, hV⟩, ⟨hmN, hN⟩, ⟨hmL, hL⟩, ⟨hnc, hn⟩, ⟨hlc, hl⟩, hdp, hNW, hLW, hPU, hLN, hDC⟩, VR_st hq' hs, Or.inr ⟨i1_0, hD0, hAN, hVD, 0, Nat.zero_le l, rfl⟩⟩
      exact y_check36 (V := V) (n := n) i1_0 hlc (by omega) (by omega) hLW hAN (fun z => ⟨(hVD.1 z).symm, fin⟩) (fun z => ⟨(hVD.2 z).symm, fin⟩)
    · obtain ⟨o, a, b, c⟩ := LN_top hLN (Classical.byContradiction fun z => d (dz.mpr z))
      refine br_t p (br_f d (br_t p (y_opener hlc (by omega) (Nat.le_refl l) ?_)))
      rw [a]
      exact br_f (show ¬ nI o < 0 from nI_pos (by omega)) ⟨rfl, I'⟩
  · obtain ⟨_, _, hAN, hVD, _⟩ := hPS.resolve_left (fun z => p z.1)
    exact br_f p (br_f p (y_check36 (V := V) (n := n) p hlc (by omega) (by omega) hLW hAN (fun z => ⟨(hVD.1 z).symm, I'⟩) (fun z => ⟨(hVD.2 z).symm, I'⟩)))
end NT39
end
section
section NT40
variable {vc mN mL nc lc dp pd vd ph pt nw : Int32} {de nk na nb us lk lv le ju el ol ow vs vx vy ws wx wy du ou ax ay ar dn ga : Nat → Int32} {gv er sn re : Nat → Int64}
variable {V n l : Nat}
theorem y_step70R {post : Int32 → SY → Prop} {p q k v e s : Nat} {E U o : Int32}
    (hlc : lc = nI l) (hl : l ≤ 16) (hp : p < l) (h0 : opn lk l 0 = none) (h3 : lk p = 3 → ∃ o, opn lk p 0 = some o) (hq : q < 343) (k6 : k ≤ 6) (hv : k = 1 → U = nI v ∧ v < 3) (eE : k = 1 → E = nI e ∧ e < 32) (ho : ∀ j, j < 32 → bt o j = decide (j = s))
    (hm1 : k = 1 → s ≤ 6 → post 1 (vc, mN, mL, nc, lc, ph, nI (sto lk l p s), nI (snx k q v s), de, upd vx v (ax e), upd vy v (ay e), nk, na, nb, us, du, lk, lv, le, ou, ax, ay, ar, dn, ga))
    (hm2 : ¬ k = 1 → s = 1 ∨ s = 2 → post 1 (vc, mN, mL, nc, lc, ph, nI (sto lk l p s), nI (snx k q v s), de, vx, vy, nk, na, nb, us, du, lk, lv, le, ou, ax, ay, ar, dn, ga))
    (h00 : ¬ (s ≤ 6 ∧ (k = 1 ∨ s = 1 ∨ s = 2)) → post 0 (vc, mN, mL, nc, lc, ph, pt, nw, de, vx, vy, nk, na, nb, us, du, lk, lv, le, ou, ax, ay, ar, dn, ga)) :
    ∃ m, wY_step_70 post (nI p) (nI q) 1 (nI k) E U o vc mN mL nc lc ph m 0 0 pt nw de vx vy nk na nb us du lk lv le ou ax ay ar dn ga := by
  refine loop_0 (fun m i (t : Int32 × Int32 × Int32) => wY_step_70 post (nI p) (nI q) 1 (nI k) E U o vc mN mL nc lc ph m t.1 (nI i) t.2.1 t.2.2 de vx vy nk na nb us du lk lv le ou ax ay ar dn ga)
    (fun i t => (s < i ∧ (k = 1 ∨ s = 1 ∨ s = 2) → t = (1, nI (sto lk l p s), nI (snx k q v s))) ∧ (¬ (s < i ∧ (k = 1 ∨ s = 1 ∨ s = 2)) → t = (0, pt, nw))) 7 (0, pt, nw) ⟨fun z => absurd z.1 (Nat.not_lt_zero s), fun _ => rfl⟩ ?_ ?_
  · rintro m t ⟨g1, g2⟩
    refine br_t (nI_le (Nat.le_refl 7) (by decide)) (br_f i1_0 ?_)
    by_cases c : s < 7 ∧ (k = 1 ∨ s = 1 ∨ s = 2)
    · obtain rfl := g1 c
      refine br_f i1_0 ?_
      by_cases k1 : k = 1
      · obtain ⟨rfl, v3⟩ := hv k1
        obtain ⟨rfl, e32⟩ := eE k1
        have hie : vp_in (nI e) 32 := vp_in_nI e32 (by decide)
        have hiv : vp_in (nI v) 3 := vp_in_nI v3 (by decide)
        have hce : (nI e).toNatClampNeg = e := nI_clamp (by omega)
        have hcv : (nI v).toNatClampNeg = v := nI_clamp (by omega)
        exact br_t (congrArg nI k1) (And.intro hie (And.intro hiv (nm_r (e' := upd vx v (ax e)) (by rw [hce, hcv]) (And.intro hie (And.intro hiv (nm_r (e' := upd vy v (ay e)) (by rw [hce, hcv]) (And.intro (n01 (Or.inr rfl)) (hm1 k1 (by omega)))))))))
      · exact br_f (nI_ne (b := 1) k1 (by omega) (by decide)) (And.intro (n01 (Or.inr rfl)) (hm2 k1 (by omega)))
    · obtain rfl := g2 c
      exact br_t rfl (And.intro (n01 (Or.inl rfl)) (h00 fun z => c ⟨by omega, z.2⟩))
  · rintro m i t hi ⟨g1, g2⟩ K
    refine br_f (nI_ge (b := 7) hi (by decide)) ?_
    have skip : ¬ (s = i ∧ (k = 1 ∨ s = 1 ∨ s = 2)) → wY_step_70 post (nI p) (nI q) 1 (nI k) E U o vc mN mL nc lc ph m t.1 (nI (i + 1)) t.2.1 t.2.2 de vx vy nk na nb us du lk lv le ou ax ay ar dn ga := fun no =>
      K t ⟨fun z => g1 ⟨by have : s ≠ i := fun y => no ⟨y, z.2⟩; omega, z.2⟩, fun z => g2 fun y => z ⟨by omega, y.2⟩⟩
    refine y_has rfl (by omega) (fun hb => br_f i1_0 ?_) (fun hb => br_t rfl (nm_r (nI_1 i) (skip fun z => by rw [ho i (by omega), decide_eq_false_iff_not] at hb; exact hb z.1.symm)))
    rw [ho i (by omega), decide_eq_true_iff] at hb
    subst hb
    have go : (k = 1 ∨ i = 1 ∨ i = 2) → wY_step_106 post (wY_step_70 post (nI p) (nI q) 1 (nI k) E U o vc mN mL nc lc ph m) (nI p) (nI q) 1 (nI k) E U o (nI i) vc mN mL nc lc ph t.2.1 t.2.2 de vx vy nk na nb us du lk lv le ou ax ay ar dn ga := fun hc =>
      y_step106 hlc hl hp h0 h3 hq hi k6 hv (fun z => absurd z i1_0) (fun _ => K (1, nI (sto lk l p i), nI (snx k q v i)) ⟨fun _ => rfl, fun z => absurd ⟨Nat.lt_succ_self i, hc⟩ z⟩)
    by_cases k1 : k = 1
    · exact br_t (congrArg nI k1) (go (Or.inl k1))
    · refine br_f (nI_ne (b := 1) k1 (by omega) (by decide)) ?_
      by_cases i1 : i = 1
      · exact br_t (congrArg nI i1) (go (Or.inr (Or.inl i1)))
      · refine br_f (nI_ne (b := 1) i1 (by omega) (by decide)) ?_
        by_cases i2 : i = 2
        · exact br_t (congrArg nI i2) (go (Or.inr (Or.inr i2)))
        · exact br_f (nI_ne (b := 2) i2 (by omega) (by decide)) (nm_r (nI_1 i) (skip fun z => by omega))
theorem y_stepR {post : Int32 → SY → Prop} {p q : Nat} {P Q : Int32} (eP : P = nI p) (eQ : Q = nI q) (hn : n ≤ 32) (hV : V ≤ 3) (hl : l ≤ 16) (hlc : lc = nI l) (hN : ∀ y, y < n → NW V nk na nb y) (hL : ∀ p, p < l → LW V n lk lv le p)
    (h0 : opn lk l 0 = none) (h3 : ∀ p, p < l → lk p = 3 → ∃ o, opn lk p 0 = some o) (hp : p < l) (hq : q < 343) (hvk : ∀ v, v < 3 → vok (shq q v) (vx v) (vy v)) (hok : ∀ y, y < n → tok (VL nk na nb (shq q) vx vy y))
    (hf : tk (lk p) = 1 → ¬ okS lk p (VL nk na nb (shq q) vx vy (le p).toNatClampNeg) → ∀ ou' ax' ay', post 0 (vc, mN, mL, nc, lc, ph, pt, nw, de, vx, vy, nk, na, nb, us, du, lk, lv, le, ou', ax', ay', ar, dn, ga))
    (hnn : tk (lk p) = 0 → post 1 (vc, mN, mL, nc, lc, ph, nI (gl lk l p), nI q, de, vx, vy, nk, na, nb, us, du, lk, lv, le, ou, ax, ay, ar, dn, ga))
    (hs : lk p = 1 → (VL nk na nb (shq q) vx vy (le p).toNatClampNeg).1 ≤ 6 → ∀ ou' ax' ay', post 1 (vc, mN, mL, nc, lc, ph, nI (gl lk l p), nI (pq q (lv p).toNatClampNeg (VL nk na nb (shq q) vx vy (le p).toNatClampNeg).1), de, upd vx (lv p).toNatClampNeg (VL nk na nb (shq q) vx vy (le p).toNatClampNeg).2.1, upd vy (lv p).toNatClampNeg (VL nk na nb (shq q) vx vy (le p).toNatClampNeg).2.2, nk, na, nb, us, du, lk, lv, le, ou', ax', ay', ar, dn, ga))
    (hcd : opk (lk p) = true → ∀ s, s = (VL nk na nb (shq q) vx vy (le p).toNatClampNeg).1 → s = 1 ∨ s = 2 → ∀ ou' ax' ay', post 1 (vc, mN, mL, nc, lc, ph, nI (sto lk l p s), nI q, de, vx, vy, nk, na, nb, us, du, lk, lv, le, ou', ax', ay', ar, dn, ga)) : wpY_step post (vc, mN, mL, nc, lc, ph, pt, nw, de, vx, vy, nk, na, nb, us, du, lk, lv, le, ou, ax, ay, ar, dn, ga) P Q 1 := by
  subst eP; subst eQ
  have hi : vp_in (nI p) 16 := vp_in_nI (by omega) (by decide)
  have hc : (nI p).toNatClampNeg = p := nI_clamp (by omega)
  obtain ⟨k, k1, k6, hk, hv, e, e32, he, hen⟩ := hL p hp
  have hce : (le p).toNatClampNeg = e := by rw [he, nI_clamp (by omega)]
  rw [hce] at hf hs hcd
  obtain ⟨v, hv1, hv2⟩ : ∃ v, (k = 1 → lv p = nI v ∧ v < 3) ∧ (k = 1 → (lv p).toNatClampNeg = v) := by
    by_cases c : k = 1
    · obtain ⟨v, a, b⟩ := hv c
      exact ⟨v, fun _ => ⟨b, by omega⟩, fun _ => by rw [b, nI_clamp (by omega)]⟩
    · exact ⟨0, fun z => absurd z c, fun z => absurd z c⟩
  have e1 : k = 1 ↔ lk p = 1 := by rw [hk]; exact (nI_eq (b := 1) (by omega) (by decide)).symm
  have sn1 : ∀ s, ¬ k = 1 → snx k q v s = q := fun s z => if_neg z
  refine And.intro hi (nm_r (e' := nI k) (by rw [hc]; exact hk) (And.intro hi (nm_r (e' := nI e) (by rw [hc]; exact he) (And.intro hi (nm_r (e' := lv p) (by rw [hc]) (y_takesNode ?_))))))
  by_cases kt : k = 1 ∨ k = 2 ∨ k = 5
  · have ht : tk (lk p) = 1 := by rw [hk]; exact tk_1 k6 kt
    have en := hen kt
    rw [tk_1 k6 kt]
    refine br_f i1_0 (y_evalR rfl rfl hn hV hN en hq hvk hok fun ou' ax' ay' hY => And.intro (vp_in_nI e32 (by decide)) (nm_r (e' := ou' e) (by rw [nI_clamp (by omega)]) (br_f i1_0 ?_)))
    obtain ⟨y1, y2⟩ := hY
    have o7 := (hok e en).1
    refine y_step70R (v := v) (e := e) hlc hl hp h0 (h3 p hp) hq k6 hv1 (fun _ => ⟨rfl, e32⟩) y1 (fun c1 s6 => ?_) (fun c1 s12 => ?_) (fun c => ?_)
    · obtain ⟨z1, z2⟩ := y2 s6
      have := hs (e1.mp c1) s6 ou' ax' ay'
      rw [hv2 c1] at this
      have st : sto lk l p (VL nk na nb (shq q) vx vy e).1 = gl lk l p := by
        unfold sto
        rw [if_neg (fun z => by have := z.1; rw [e1.mp c1] at this; exact absurd this (by decide))]
      have sn : snx k q v (VL nk na nb (shq q) vx vy e).1 = pq q v (VL nk na nb (shq q) vx vy e).1 := if_pos c1
      rw [st, sn, z1, z2]
      exact this
    · rw [sn1 _ c1]
      exact hcd (by rw [hk]; exact opk_25 (by omega)) _ rfl s12 ou' ax' ay'
    · refine hf ht (fun z => c ?_) ou' ax' ay'
      rcases z with ⟨z1, z2⟩ | ⟨z1, z2⟩
      · exact ⟨z2, Or.inl (e1.mpr z1)⟩
      · exact ⟨by omega, Or.inr z2⟩
  · have ht : tk (lk p) = 0 := by rw [hk]; exact tk_0 k1 k6 kt
    have hno : ¬ opk (lk p) = true := fun z => by rw [hk] at z; have := opk_of k1 k6 z; omega
    rw [tk_0 k1 k6 kt]
    refine br_t rfl (y_step70R (v := v) (e := e) (s := 2) hlc hl hp h0 (h3 p hp) hq k6 hv1 (fun _ => ⟨rfl, e32⟩) (by decide +kernel) (fun c1 _ => absurd (Or.inl c1) kt) (fun c1 _ => ?_) (fun c => absurd ⟨by decide, Or.inr (Or.inr rfl)⟩ c))
    have st : sto lk l p 2 = gl lk l p := by unfold sto; rw [if_neg (fun z => hno z.1)]
    rw [sn1 _ c1, st]
    exact hnn ht
end NT40
end
section
section NT41
variable {vc mN mL nc lc dp pd vd ph pt nw : Int32} {de nk na nb us lk lv le ju el ol ow vs vx vy ws wx wy du ou ax ay ar dn ga : Nat → Int32} {gv er sn re : Nat → Int64}
variable {V n l : Nat}
def MS (l : Nat) (P q : Nat) (vs vx vy : Nat → Int32) : Prop := P ≤ l ∧ q < 343 ∧ (∀ v, v < 3 → vs v = nI (shq q v)) ∧ (∀ v, v < 3 → vok (shq q v) (vx v) (vy v))
theorem run_loop {YW : (Int32 → SY → Prop) → Prop} {Rel : SX → SY → Prop} {lim : Nat} (hlim : lim ≤ 256) (hn : n ≤ 32) (hV : V ≤ 3) (hl : l ≤ 16) (hlc : lc = nI l) (hN : ∀ y, y < n → NW V nk na nb y) (hL : ∀ p, p < l → LW V n lk lv le p)
    (h0 : opn lk l 0 = none) (h3 : ∀ p, p < l → lk p = 3 → ∃ o, opn lk p 0 = some o) (hj : ∀ p, p < l → ju p = nI (gJ lk l p))
    (how : ∀ x k, x < n → nk x = nI k → 4 ≤ k → k ≤ 14 → ow (na x).toNatClampNeg = ow x ∧ (bN k → ow (nb x).toNatClampNeg = ow x)) (hor : ∀ p, p < l → tk (lk p) = 1 → ow (le p).toNatClampNeg = nI p)
    (hRel : ∀ (ph : Int32) (P q : Nat) (vs vx vy ws wx wy ou ax ay : Nat → Int32), ¬ ph = 0 → MS l P q vs vx vy → Rel (vc, mN, mL, nc, lc, dp, pd, vd, ph, nI P, de, nk, na, nb, us, lk, lv, le, ju, el, ol, gv, er, sn, re, ow, vs, vx, vy, ws, wx, wy) (vc, mN, mL, nc, lc, ph, nI P, nI q, de, vx, vy, nk, na, nb, us, du, lk, lv, le, ou, ax, ay, ar, dn, ga)) :
    ∀ (d c P q : Nat) (ph : Int32) (vs vx vy ws wx wy : Nat → Int32), c + d = lim → ¬ ph = 0 → MS l P q vs vx vy →
      (∀ post : Int32 → SY → Prop, (∀ ou ax ay : Nat → Int32, wY_run_46 post (nI lim) (d + 1) 1 (nI c) vc mN mL nc lc ph (nI P) (nI q) de vx vy nk na nb us du lk lv le ou ax ay ar dn ga) → YW post) →
      wX_run_30 (fun r u' => YW (fun r' v' => r' = r ∧ Rel u' v')) (nI lim) (d + 1) (nI c) vc mN mL nc lc dp pd vd ph (nI P) de nk na nb us lk lv le ju el ol gv er sn re ow vs vx vy ws wx wy := by
  intro d
  induction d with
  | zero =>
    intro c P q ph vs vx vy ws wx wy hc hph hM H
    refine br_t (nI_le (by omega) (by omega)) ?_
    by_cases e : P < l
    · refine br_t (by rw [hlc]; exact nI_lt e (by omega)) (H _ fun ou ax ay => ?_)
      exact br_t (nI_le (by omega) (by omega)) (br_f (by rw [hlc]; exact nI_ne (by omega) (by omega) (by omega)) ⟨rfl, hRel ph P q vs vx vy ws wx wy ou ax ay hph hM⟩)
    · have hP : P = l := by have := hM.1; omega
      refine br_f (by rw [hlc]; exact nI_nlt (by omega) (by have := hM.1; omega)) (H _ fun ou ax ay => ?_)
      exact br_t (nI_le (by omega) (by omega)) (br_t (by rw [hlc, hP]) ⟨rfl, hRel 3 P q vs vx vy ws wx wy ou ax ay (by decide) hM⟩)
  | succ d ih =>
    intro c P q ph vs vx vy ws wx wy hc hph hM H
    have lo : ¬ nI lim ≤ nI c := nI_ge (by omega) (by omega)
    refine br_f lo ?_
    by_cases e : P < l
    · obtain ⟨hP, hq, hvs, hvk⟩ := hM
      have hok := VL_ok (σ := shq q) (vx := vx) (vy := vy) hN hn hV (fun v hv => ⟨sq_lt hq, hvk v hv⟩)
      have nle : ¬ lc ≤ nI P := by rw [hlc]; exact nI_ge e (by omega)
      have neq : ¬ nI P = lc := by rw [hlc]; exact nI_ne (by omega) (by omega) (by omega)
      refine br_f nle ?_
      have ystep : ∀ post : Int32 → SY → Prop, (∀ ou ax ay : Nat → Int32, wpY_step (fun r_8 u => match u with | (vc, mN, mL, nc, lc, ph, pt, nw, de, vx, vy, nk, na, nb, us, du, lk, lv, le, ou, ax, ay, ar, dn, ga) => ((r_8 = 0 → (∀ x4 : Int32, x4 = nI c + 1 → wY_run_46 post (nI lim) (d + 1) r_8 x4 vc mN mL nc lc 4 pt nw de vx vy nk na nb us du lk lv le ou ax ay ar dn ga)) ∧ (¬ r_8 = 0 → (∀ x4 : Int32, x4 = nI c + 1 → wY_run_46 post (nI lim) (d + 1) r_8 x4 vc mN mL nc lc 2 pt nw de vx vy nk na nb us du lk lv le ou ax ay ar dn ga)))) (vc, mN, mL, nc, lc, ph, nI P, nI q, de, vx, vy, nk, na, nb, us, du, lk, lv, le, ou, ax, ay, ar, dn, ga) (nI P) (nI q) 1) → YW post := fun post z =>
        H post fun ou ax ay => br_f lo (br_f i1_0 (br_f nle (z ou ax ay)))
      have hcont : ∀ (P' q' : Nat) (vs' vx' vy' ws' wx' wy' : Nat → Int32), MS l P' q' vs' vx' vy' →
          (∀ post : Int32 → SY → Prop, (∀ ou ax ay : Nat → Int32, wY_run_46 post (nI lim) (d + 1) 1 (nI (c + 1)) vc mN mL nc lc 2 (nI P') (nI q') de vx' vy' nk na nb us du lk lv le ou ax ay ar dn ga) → YW post) →
          wX_run_67 (fun r u' => YW (fun r' v' => r' = r ∧ Rel u' v')) (wX_run_30 (fun r u' => YW (fun r' v' => r' = r ∧ Rel u' v')) (nI lim) (d + 1)) (nI lim) (nI c) 1 2 vc mN mL nc lc dp pd vd ph (nI P') de nk na nb us lk lv le ju el ol gv er sn re ow vs' vx' vy' ws' wx' wy' := fun P' q' vs' vx' vy' ws' wx' wy' hM' H' =>
        br_f i1_0 (nm_r (nI_1 c) (ih (c + 1) P' q' 2 vs' vx' vy' ws' wx' wy' (by omega) (by decide) hM' H'))
      refine x_execute (σ := shq q) rfl hn hV hl hlc hN hL e (hj P e) hvs hok how (hor P e) (fun ht hno ws' wx' wy' => ?_) (fun ht => ?_) (fun k1 s6 ws' wx' wy' => ?_) (fun hop s es s12 ws' wx' wy' => ?_)
      · refine br_t rfl (br_t rfl (ystep _ fun ou ax ay => ?_))
        refine y_stepR rfl rfl hn hV hl hlc hN hL h0 h3 e hq hvk hok (fun _ _ ou' ax' ay' => ?_) (fun z => by rw [ht] at z; exact absurd z i1_0) (fun z1 z2 => absurd (Or.inl ⟨z1, z2⟩) hno) (fun z1 s z2 z3 => absurd (Or.inr ⟨z1, z2 ▸ z3⟩) hno)
        refine br_t rfl (nm_r (nI_1 c) ?_)
        have fin : wY_run_100 (fun r' v' => r' = 4 ∧ Rel (vc, mN, mL, nc, lc, dp, pd, vd, 4, nI P, de, nk, na, nb, us, lk, lv, le, ju, el, ol, gv, er, sn, re, ow, vs, vx, vy, ws', wx', wy') v') vc mN mL nc lc 4 (nI P) (nI q) de vx vy nk na nb us du lk lv le ou' ax' ay' ar dn ga :=
          br_f neq ⟨rfl, hRel 4 P q vs vx vy ws' wx' wy' ou' ax' ay' (by decide) ⟨hP, hq, hvs, hvk⟩⟩
        exact br_c (fun _ => fin) (fun _ => br_t rfl fin)
      · refine br_f i1_0 (hcont (gl lk l P) q vs vx vy ws wx wy ⟨gl_le e, hq, hvs, hvk⟩ fun post z => ystep post fun ou ax ay => ?_)
        exact y_stepR rfl rfl hn hV hl hlc hN hL h0 h3 e hq hvk hok (fun y => by rw [ht] at y; exact absurd y.symm i1_0) (fun _ => br_f i1_0 (nm_r (nI_1 c) (z ou ax ay))) (fun y => by rw [y] at ht; exact absurd ht (by decide)) (fun y => by rcases opk_t y with y | y <;> rw [y] at ht <;> exact absurd ht (by decide))
      · obtain ⟨kk, _, k6, hkk, hlv, _⟩ := hL P e
        have kk1 : kk = 1 := by rw [k1] at hkk; exact (na_inj (a := 1) hkk (by decide) (by omega)).symm
        obtain ⟨v, hvV, ev⟩ := hlv kk1
        have cv : (lv P).toNatClampNeg = v := by rw [ev, nI_clamp (by omega)]
        have en : (le P).toNatClampNeg < n := by
          obtain ⟨kk2, _, _, hkk2, _, e2, e32, he2, hen2⟩ := hL P e
          have : kk2 = 1 := by rw [k1] at hkk2; exact (na_inj (a := 1) hkk2 (by decide) (by omega)).symm
          rw [he2, nI_clamp (by omega)]; exact hen2 (Or.inl this)
        have tk := hok _ en
        obtain ⟨q', hq', eq', hvs', hvk'⟩ := VR_up (S := nI (VL nk na nb (shq q) vx vy (le P).toNatClampNeg).1) hq (show v < 3 by omega) (show (VL nk na nb (shq q) vx vy (le P).toNatClampNeg).1 < 7 by omega) rfl hvs hvk tk.2
        rw [← cv] at hvs' hvk' eq'
        refine br_f i1_0 (hcont (gl lk l P) q' _ _ _ ws' wx' wy' ⟨gl_le e, hq', hvs', hvk'⟩ fun post z => ystep post fun ou ax ay => ?_)
        refine y_stepR rfl rfl hn hV hl hlc hN hL h0 h3 e hq hvk hok (fun _ y => absurd (Or.inl ⟨k1, s6⟩) y) (fun y => by rw [k1] at y; exact absurd y (by decide)) (fun _ _ ou' ax' ay' => br_f i1_0 (nm_r (nI_1 c) ?_)) (fun y => by rw [k1] at y; exact absurd y (by decide))
        have := z ou' ax' ay'
        rw [← eq'] at this
        exact this
      · refine br_f i1_0 (hcont (sto lk l P s) q vs vx vy ws' wx' wy' ⟨sto_le e, hq, hvs, hvk⟩ fun post z => ystep post fun ou ax ay => ?_)
        refine y_stepR rfl rfl hn hV hl hlc hN hL h0 h3 e hq hvk hok (fun _ y => absurd (Or.inr ⟨hop, es ▸ s12⟩) y) (fun y => by rcases opk_t hop with y2 | y2 <;> rw [y2] at y <;> exact absurd y (by decide)) (fun y => by rw [y] at hop; exact absurd hop (by decide)) (fun _ s' es' _ ou' ax' ay' => br_f i1_0 (nm_r (nI_1 c) ?_))
        rw [es'.trans es.symm]
        exact z ou' ax' ay'
    · have hP : P = l := by have := hM.1; omega
      have le1 : lc ≤ nI P := by rw [hlc, hP]; exact nI_le (Nat.le_refl l) (by omega)
      refine br_t le1 (br_f (by rw [hlc]; exact nI_nlt (by omega) (by have := hM.1; omega)) (H _ fun ou ax ay => ?_))
      exact br_f lo (br_f i1_0 (br_t le1 (br_t (by rw [hlc, hP]) ⟨rfl, hRel 3 P q vs vx vy ws wx wy ou ax ay (by decide) hM⟩)))
theorem i_vc_run {k : Nat} {u : SX} {v : SY} (I : i_Rel k u v) (hk : k + 5 ≤ 2563) (v1 : Int32) : wpX_run (fun r u' => wpY_run (fun r' v' => r' = r ∧ i_Rel (k + 5) u' v') v v1) u v1 := by
  refine zz_el (P := fun u v => wpX_run (fun r u' => wpY_run (fun r' v' => r' = r ∧ i_Rel (k + 5) u' v') v v1) u v1) ?_ I
  intro vc mN mL nc lc dp pd vd ph pt nw de nk na nb us lk lv le ju el ol ow vs vx vy ws wx wy du ou ax ay ar dn ga gv er sn re h
  have I' : i_Rel (k + 5) (vc, mN, mL, nc, lc, dp, pd, vd, ph, pt, de, nk, na, nb, us, lk, lv, le, ju, el, ol, gv, er, sn, re, ow, vs, vx, vy, ws, wx, wy) (vc, mN, mL, nc, lc, ph, pt, nw, de, vx, vy, nk, na, nb, us, du, lk, lv, le, ou, ax, ay, ar, dn, ga) := zz_in h
  obtain ⟨V, N, L, n, l, D, par, ⟨⟨hvc, hV1, hV⟩, ⟨hmN, hN⟩, ⟨hmL, hL⟩, ⟨hnc, hn⟩, ⟨hlc, hl⟩, hdp, hNW, hLW, hPU, hLN, hDC⟩, hVR, hPS⟩ := h
  by_cases p : ph = 1 ∨ ph = 2
  · have p0 : ¬ ph = 0 := fun z => by rcases p with p | p <;> rw [p] at z <;> exact absurd z (by decide)
    obtain ⟨q, hq, hnw, hvs, hvk⟩ := hVR
    obtain ⟨_, hD0, hAN, hVD, P, hP, hpt⟩ := hPS.resolve_left (fun z => p0 z.1)
    obtain ⟨lim, _, hlim, elim⟩ := cl3_of (v := v1) (lo := 0) (hi := 256) (by decide) (by decide)
    have elim' : cl3 v1 0 256 = nI lim := elim
    subst hnw; subst hpt
    have h0 : opn lk l 0 = none := LN_0 hLN (by omega)
    have h3 : ∀ p, p < l → lk p = 3 → ∃ o, opn lk p 0 = some o := fun p hp z => by obtain ⟨o, a, _⟩ := hLN.2.2.2.2.2.2 p hp z; exact ⟨o, a⟩
    have y18 : ∀ post : Int32 → SY → Prop, (∀ ou ax ay : Nat → Int32, wY_run_46 post (nI lim) (lim + 1) 1 (nI 0) vc mN mL nc lc ph (nI P) (nI q) de vx vy nk na nb us du lk lv le ou ax ay ar dn ga) → wY_run_18 post v1 vc mN mL nc lc ph (nI P) (nI q) de vx vy nk na nb us du lk lv le ou ax ay ar dn ga := fun post z => by
      have z := z ou ax ay
      rw [← elim'] at z
      unfold cl3 at z
      by_cases a : 0 ≤ v1
      · rw [if_pos a] at z
        by_cases b : v1 ≤ 256
        · rw [if_pos b] at z; exact br_t a (br_t b ⟨_, z⟩)
        · rw [if_neg b] at z; exact br_t a (br_f b ⟨_, z⟩)
      · rw [if_neg a] at z; exact br_f a ⟨_, z⟩
    have yrun : ∀ post : Int32 → SY → Prop, (∀ ou ax ay : Nat → Int32, wY_run_46 post (nI lim) (lim + 1) 1 (nI 0) vc mN mL nc lc ph (nI P) (nI q) de vx vy nk na nb us du lk lv le ou ax ay ar dn ga) → wpY_run post (vc, mN, mL, nc, lc, ph, nI P, nI q, de, vx, vy, nk, na, nb, us, du, lk, lv, le, ou, ax, ay, ar, dn, ga) v1 := fun post z => by
      by_cases p1 : ph = 1
      · exact br_t p1 (y18 post z)
      · exact br_f p1 (br_t (p.resolve_left p1) (y18 post z))
    have x18 : wX_run_18 (fun r u' => wpY_run (fun r' v' => r' = r ∧ i_Rel (k + 5) u' v') (vc, mN, mL, nc, lc, ph, nI P, nI q, de, vx, vy, nk, na, nb, us, du, lk, lv, le, ou, ax, ay, ar, dn, ga) v1) v1 vc mN mL nc lc dp pd vd ph (nI P) de nk na nb us lk lv le ju el ol gv er sn re ow vs vx vy ws wx wy := by
      unfold wX_run_18
      refine x_clamp ?_
      rw [elim']
      exact ⟨lim + 1, run_loop (YW := fun post => wpY_run post (vc, mN, mL, nc, lc, ph, nI P, nI q, de, vx, vy, nk, na, nb, us, du, lk, lv, le, ou, ax, ay, ar, dn, ga) v1) (Rel := fun u' v' => i_Rel (k + 5) u' v') (V := V) (n := n) (l := l) hlim (by omega) hV (by omega) hlc hNW hLW h0 h3 hLN.2.2.2.1 hAN.2.2.2.2.2 (fun p hp ht => (hAN.2.2.2.2.1 p hp ht).1)
        (fun ph P q vs vx vy ws wx wy ou ax ay hph hM => zz_in ⟨V, N, L, n, l, D, par, ⟨⟨hvc, hV1, hV⟩, ⟨hmN, hN⟩, ⟨hmL, hL⟩, ⟨hnc, hn⟩, ⟨hlc, hl⟩, hdp, hNW, hLW, hPU, hLN, hDC⟩, ⟨q, hM.2.1, rfl, hM.2.2.1, hM.2.2.2⟩, Or.inr ⟨hph, hD0, hAN, hVD, P, hM.1, rfl⟩⟩)
        lim 0 P q ph vs vx vy ws wx wy (by omega) p0 ⟨hP, hq, hvs, hvk⟩ yrun⟩
    by_cases p1 : ph = 1
    · exact br_t p1 x18
    · exact br_f p1 (br_t (p.resolve_left p1) x18)
  · exact br_f (fun z => p (Or.inl z)) (br_f (fun z => p (Or.inr z)) (br_f (fun z => p (Or.inl z)) (br_f (fun z => p (Or.inr z)) ⟨rfl, I'⟩)))
end NT41
end
