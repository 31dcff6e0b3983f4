section
/-! pure rows to paste: stores, nI and lN arithmetic, masks, shifts, narrowing, branches by naturals (pk_le, pk_lt, pk_eq), loops (lp1 .. lp16: the measure of the state; rp1 ..: recursion), negatives. Take what you need -/
theorem pk_us {f : Nat → Int32} {k : Nat} {x : Int32} : upd f k x k = x := if_pos rfl
theorem pk_un {f : Nat → Int32} {k j : Nat} {x : Int32} (h : j ≠ k) : upd f k x j = f j := if_neg h
theorem pk_uLs {f : Nat → Int64} {k : Nat} {x : Int64} : vp_updL f k x k = x := if_pos rfl
theorem pk_uLn {f : Nat → Int64} {k j : Nat} {x : Int64} (h : j ≠ k) : vp_updL f k x j = f j := if_neg h
theorem pk_sub {a b : Nat} (h : b ≤ a) : nI a - nI b = nI (a - b) := by
  obtain ⟨c, rfl⟩ : ∃ c, a = c + b := ⟨a - b, by omega⟩
  rw [← nI_add, Int32.add_sub_cancel, Nat.add_sub_cancel]
theorem pk_m1 (n : Nat) : nI (n + 1) + (-1) = nI n := by
  rw [← nI_1, Int32.add_assoc, show (1 : Int32) + (-1) = 0 from rfl, Int32.add_zero]
theorem pk_mul (a b : Nat) : nI a * nI b = nI (a * b) := (Int32.ofNat_mul a b).symm
theorem pk_div {a d : Nat} (ha : a < 2 ^ 31) (h0 : 0 < d) (hd : d < 2 ^ 31) : nI a / nI d = nI (a / d) := by
  apply Int32.toInt_inj.mp
  rw [lg_idiv_nonneg (by rw [nI_toInt ha]; omega) (by rw [nI_toInt hd]; omega), nI_toInt ha, nI_toInt hd, nI_toInt (Nat.lt_of_le_of_lt (Nat.div_le_self a d) ha)]
  first | rfl | exact (Int.natCast_ediv _ _).symm
theorem pk_rem {a d : Nat} (ha : a < 2 ^ 31) (h0 : 0 < d) (hd : d < 2 ^ 31) : nI a - nI a / nI d * nI d = nI (a % d) := by
  rw [pk_div ha h0 hd, pk_mul, pk_sub (Nat.div_mul_le_self a d)]
  exact congrArg nI (by have := Nat.div_add_mod' a d; omega)
theorem pk_sub_toInt {a b : Nat} (ha : a < 2 ^ 30) (hb : b < 2 ^ 30) : (nI a - nI b).toInt = (a : Int) - b := by
  rw [Int32.toInt_sub, nI_toInt (by omega), nI_toInt (by omega)]
  exact Int.bmod_eq_of_le (by omega) (by omega)
theorem pk_sneg {a b : Nat} (hb : b < 2 ^ 30) (h : a < b) : nI a - nI b < 0 := by
  rw [Int32.lt_iff_toInt_lt, pk_sub_toInt (by omega) hb, show (0 : Int32).toInt = 0 from by decide]
  omega
theorem pk_ix (x : Int32) {n : Nat} (hn : n < 2 ^ 31) : x < 0 ∨ nI n ≤ x ∨ ∃ j : Nat, j < n ∧ x = nI j := by
  by_cases h : x < 0
  · exact Or.inl h
  · obtain ⟨j, hj, rfl⟩ := nI_of h
    by_cases h2 : j < n
    · exact Or.inr (Or.inr ⟨j, h2, rfl⟩)
    · exact Or.inr (Or.inl (nI_le (by omega) hj))
theorem pk_le {x y : Int32} {A B : Prop} (a b : Nat) (f : a ≤ b → A) (g : b < a → B) (hx : x = nI a := by rfl) (hy : y = nI b := by rfl) (ha : a < 2 ^ 31 := by omega) (hb : b < 2 ^ 31 := by omega) : (x ≤ y → A) ∧ (¬ x ≤ y → B) := by
  subst hx hy
  rw [nI_leI ha hb]
  exact ⟨f, fun z => g (by omega)⟩
theorem pk_lt {x y : Int32} {A B : Prop} (a b : Nat) (f : a < b → A) (g : b ≤ a → B) (hx : x = nI a := by rfl) (hy : y = nI b := by rfl) (ha : a < 2 ^ 31 := by omega) (hb : b < 2 ^ 31 := by omega) : (x < y → A) ∧ (¬ x < y → B) := by
  subst hx hy
  rw [nI_ltI ha hb]
  exact ⟨f, fun z => g (by omega)⟩
theorem pk_eq {x y : Int32} {A B : Prop} (a b : Nat) (f : a = b → A) (g : a ≠ b → B) (hx : x = nI a := by rfl) (hy : y = nI b := by rfl) (ha : a < 2 ^ 31 := by omega) (hb : b < 2 ^ 31 := by omega) : (x = y → A) ∧ (¬ x = y → B) := by
  subst hx hy
  rw [nI_eq ha hb]
  exact ⟨f, g⟩
theorem pk_in {x : Int32} (n N : Nat) (h : n < N) (hx : x = nI n := by rfl) (hN : N < 2 ^ 31 := by omega) : vp_in x N := by
  subst hx
  exact vp_in_nI h hN
theorem pk_cl {x : Int32} (n : Nat) (hx : x = nI n := by rfl) (h : n < 2 ^ 31 := by omega) : x.toNatClampNeg = n := by
  subst hx
  exact nI_clamp h
theorem pk_tn {n : Nat} (h : n < 2 ^ 32) : (nI n).toBitVec.toNat = n := Nat.mod_eq_of_lt h
theorem pk_and (x : Int32) {m : Int32} (k : Nat) (hm : m.toBitVec.toNat = 2 ^ k - 1) : x &&& m = nI (x.toBitVec.toNat % 2 ^ k) := by
  apply Int32.toBitVec_inj.mp
  apply BitVec.eq_of_toNat_eq
  rw [Int32.toBitVec_and, BitVec.toNat_and, hm, Nat.and_two_pow_sub_one_eq_mod]
  show _ = (BitVec.ofNat 32 _).toNat
  rw [BitVec.toNat_ofNat]
  exact (Nat.mod_eq_of_lt (Nat.lt_of_le_of_lt (Nat.mod_le _ _) x.toBitVec.isLt)).symm
theorem pk_andN {n : Nat} (h : n < 2 ^ 32) {m : Int32} (k : Nat) (hm : m.toBitVec.toNat = 2 ^ k - 1) : nI n &&& m = nI (n % 2 ^ k) := by
  rw [pk_and _ k hm, pk_tn h]
theorem pk_andE (x : Int32) {m : Int32} (k : Nat) (hm : m.toBitVec.toNat = 2 ^ k - 1) : ∃ j : Nat, j < 2 ^ k ∧ x &&& m = nI j := ⟨_, Nat.mod_lt _ (Nat.two_pow_pos k), pk_and x k hm⟩
theorem pk_andIn (x : Int32) {m : Int32} (k : Nat) (hm : m.toBitVec.toNat = 2 ^ k - 1) (hk : k ≤ 30) : vp_in (x &&& m) (2 ^ k) := by
  obtain ⟨j, hj, e⟩ := pk_andE x k hm
  rw [e]
  exact vp_in_nI hj (Nat.lt_of_le_of_lt (Nat.pow_le_pow_right (by decide) hk) (by decide))
theorem pk_shl (a s : Int32) (k : Nat) (hs : (s.toBitVec.smod 32).toNat = k) : (a <<< s).toBitVec.toNat = a.toBitVec.toNat * 2 ^ k % 2 ^ 32 := by
  show (a.toBitVec <<< (s.toBitVec.smod 32).toNat).toNat = _
  rw [hs, BitVec.toNat_shiftLeft, Nat.shiftLeft_eq]
theorem pk_shlN {n : Nat} (s : Int32) (k : Nat) (hs : (s.toBitVec.smod 32).toNat = k) (h : n * 2 ^ k < 2 ^ 32) : nI n <<< s = nI (n * 2 ^ k) := by
  apply Int32.toBitVec_inj.mp
  apply BitVec.eq_of_toNat_eq
  have hn : n < 2 ^ 32 := Nat.lt_of_le_of_lt (Nat.le_mul_of_pos_right n (Nat.two_pow_pos k)) h
  rw [pk_shl _ _ k hs, pk_tn hn, pk_tn h, Nat.mod_eq_of_lt h]
theorem pk_shr (a s : Int32) (k : Nat) (hs : (s.toBitVec.smod 32).toNat = k) : (a >>> s).toInt = a.toInt >>> k := by
  show (a.toBitVec.sshiftRight (s.toBitVec.smod 32).toNat).toInt = _
  rw [hs, BitVec.toInt_sshiftRight]
  rfl
theorem pk_shrN {n : Nat} (h : n < 2 ^ 31) (s : Int32) (k : Nat) (hs : (s.toBitVec.smod 32).toNat = k) : nI n >>> s = nI (n / 2 ^ k) := by
  apply Int32.toInt_inj.mp
  have h2 : n / 2 ^ k ≤ n := Nat.div_le_self _ _
  rw [pk_shr _ _ k hs, nI_toInt h, nI_toInt (by omega), Int.shiftRight_eq_div_pow]
  rfl
theorem pk_ushr (x s : Int32) (k : Nat) (hs : ((s.toUInt32 &&& Int32.toUInt32 31).toBitVec % 32).toNat = k) : (x.toUInt32 >>> (s.toUInt32 &&& Int32.toUInt32 31)).toInt32.toBitVec.toNat = x.toBitVec.toNat / 2 ^ k := by
  have e : (x.toUInt32 >>> (s.toUInt32 &&& Int32.toUInt32 31)).toInt32.toBitVec = x.toBitVec >>> k := by
    rw [← hs]
    exact UInt32.toBitVec_shiftRight _ _
  rw [e, BitVec.toNat_ushiftRight, Nat.shiftRight_eq_div_pow]
theorem pk_ushrN {n : Nat} (hn : n < 2 ^ 32) (s : Int32) (k : Nat) (hs : ((s.toUInt32 &&& Int32.toUInt32 31).toBitVec % 32).toNat = k) : ((nI n).toUInt32 >>> (s.toUInt32 &&& Int32.toUInt32 31)).toInt32 = nI (n / 2 ^ k) := by
  apply Int32.toBitVec_inj.mp
  apply BitVec.eq_of_toNat_eq
  rw [pk_ushr _ s k hs, pk_tn hn, pk_tn (Nat.lt_of_le_of_lt (Nat.div_le_self _ _) hn)]
theorem pk_nb (z : Int32) : narrow .byte (.int z.toInt8.toInt32) = .int z.toInt8.toInt32 := congrArg Value.int (by simp)
theorem pk_ns (z : Int32) : narrow .short (.int z.toInt16.toInt32) = .int z.toInt16.toInt32 := congrArg Value.int (by simp)
theorem pk_fb (r : Int32) : fits .byte (.int r.toInt8.toInt32) = true := by
  have ⟨a, b⟩ := lg_i2b_range r
  have h1 : (-128 : Int32).toInt = -128 := by decide
  have h2 : (127 : Int32).toInt = 127 := by decide
  simp only [fits, Bool.and_eq_true, decide_eq_true_eq, Int32.le_iff_toInt_le, h1, h2]
  omega
theorem pk_fs (r : Int32) : fits .short (.int r.toInt16.toInt32) = true := by
  have ⟨a, b⟩ := lg_i2s_range r
  have h1 : (-32768 : Int32).toInt = -32768 := by decide
  have h2 : (32767 : Int32).toInt = 32767 := by decide
  simp only [fits, Bool.and_eq_true, decide_eq_true_eq, Int32.le_iff_toInt_le, h1, h2]
  omega
theorem pk_charN {q : Nat} (hq : q < 65536) : narrow .char (.int (nI q)) = .int (nI q) ∧ fits .char (.int (nI q)) = true := by
  constructor
  · have e : (nI q).toUInt32.toUInt16.toUInt32.toInt32 = nI q := by
      apply Int32.toBitVec_inj.mp
      apply BitVec.eq_of_toNat_eq
      show (nI q).toUInt32.toUInt16.toUInt32.toNat = q % 2 ^ 32
      rw [UInt16.toNat_toUInt32, UInt32.toNat_toUInt16, show (nI q).toUInt32.toNat = q % 2 ^ 32 from rfl]
      omega
    exact congrArg Value.int e
  · have a : (0 : Int32) ≤ nI q := nI_pos' (by omega)
    have b : nI q ≤ 65535 := nI_le (b := 65535) (by omega) (by decide)
    show (decide ((0 : Int32) ≤ nI q) && decide (nI q ≤ 65535)) = true
    rw [decide_eq_true a, decide_eq_true b]
    rfl
theorem pk_char (x : Int32) : (x.toUInt32 % 65536).toInt32 = nI (x.toBitVec.toNat % 65536) := by
  apply Int32.toBitVec_inj.mp
  apply BitVec.eq_of_toNat_eq
  rw [pk_tn (by omega)]
  show (x.toUInt32 % 65536).toNat = _
  rw [UInt32.toNat_mod]
  rfl
theorem pk_nc (x : Int32) : narrow .char (.int (x.toUInt32 % 65536).toInt32) = .int (x.toUInt32 % 65536).toInt32 := by
  rw [pk_char]
  exact (pk_charN (Nat.mod_lt _ (by decide))).1
theorem pk_fc (x : Int32) : fits .char (.int (x.toUInt32 % 65536).toInt32) = true := by
  rw [pk_char]
  exact (pk_charN (Nat.mod_lt _ (by decide))).2
theorem pk_vb (z : Int32) : vp_nar .byte z.toInt8.toInt32 = z.toInt8.toInt32 := by rw [vp_nar_byte]; simp
theorem pk_vs (z : Int32) : vp_nar .short z.toInt16.toInt32 = z.toInt16.toInt32 := by rw [vp_nar_short]; simp
theorem pk_vc (z : Int32) : vp_nar .char (z.toUInt32 % 65536).toInt32 = (z.toUInt32 % 65536).toInt32 := Value.int.inj (pk_nc z)
theorem pk_lT {n : Nat} (h : n < 2 ^ 63) : (lN n).toInt = (n : Int) := lg_ofNat_toInt h
theorem pk_lLT {a b : Nat} (ha : a < 2 ^ 63) (hb : b < 2 ^ 63) : lN a < lN b ↔ a < b := by
  rw [Int64.lt_iff_toInt_lt, pk_lT ha, pk_lT hb]; omega
theorem pk_lLE {a b : Nat} (ha : a < 2 ^ 63) (hb : b < 2 ^ 63) : lN a ≤ lN b ↔ a ≤ b := by
  rw [Int64.le_iff_toInt_le, pk_lT ha, pk_lT hb]; omega
theorem pk_lEQ {a b : Nat} (ha : a < 2 ^ 63) (hb : b < 2 ^ 63) : lN a = lN b ↔ a = b := by
  rw [← Int64.toInt_inj, pk_lT ha, pk_lT hb]; omega
theorem pk_lOf {x : Int64} (h : ¬ x < 0) : ∃ k : Nat, k < 2 ^ 63 ∧ x = lN k := by
  rw [Int64.lt_iff_toInt_lt] at h
  have h0 : (0 : Int64).toInt = 0 := by decide
  have hx := Int64.toInt_lt x
  refine ⟨x.toInt.toNat, by omega, Int64.toInt_inj.mp ?_⟩
  rw [pk_lT (by omega)]
  omega
theorem pk_lDiv {a b : Nat} (ha : a < 2 ^ 63) (h0 : 0 < b) (hb : b < 2 ^ 63) : lN a / lN b = lN (a / b) := by
  apply Int64.toInt_inj.mp
  rw [lg_ldiv_nonneg (by rw [pk_lT ha]; omega) (by rw [pk_lT hb]; omega), pk_lT ha, pk_lT hb, pk_lT (Nat.lt_of_le_of_lt (Nat.div_le_self a b) ha)]
  rfl
theorem pk_lRem {a b : Nat} (ha : a < 2 ^ 63) (h0 : 0 < b) (hb : b < 2 ^ 63) : lN a - lN a / lN b * lN b = lN (a % b) := by
  rw [pk_lDiv ha h0 hb, lN_mul, lN_sub (Nat.div_mul_le_self a b)]
  exact congrArg lN (by have := Nat.div_add_mod' a b; omega)
theorem pk_loop {σ : Type} (W : Nat → Nat → σ → Prop) (I : Nat → σ → Prop) (e i0 : Nat) (s : σ) (hi : i0 ≤ e) (h0 : I i0 s) (hx : ∀ n s, I e s → W (n + 1) e s)
    (hs : ∀ n i s, i < e → I i s → (∀ s', I (i + 1) s' → W n (i + 1) s') → W (n + 1) i s) : ∃ n, W n i0 s :=
  ⟨e + 1, loop_i W I e hx hs (e + 1) i0 s hi (by omega) h0⟩
theorem pk_loopD {σ : Type} (W : Nat → Nat → σ → Prop) (I : Nat → σ → Prop) (hx : ∀ n s, I 0 s → W (n + 1) 0 s)
    (hs : ∀ n i s, I (i + 1) s → (∀ s', I i s' → W n i s') → W (n + 1) (i + 1) s) : ∀ (e : Nat) (s : σ), I e s → W (e + 1) e s := by
  intro e
  induction e with
  | zero => exact fun s h => hx 0 s h
  | succ e ih => exact fun s h => hs (e + 1) e s h (fun s' h' => ih s' h')
theorem lp1 {A1 : Type} (W : Nat → A1 → Prop) (I : A1 → Prop) (μ : A1 → Nat) (hs : ∀ (n : Nat) (a1 : A1), I a1 → (∀ (b1 : A1), I b1 → μ b1 < μ a1 → W n b1) → W (n + 1) a1) (a1 : A1) (h : I a1) : ∃ n, W n a1 :=
  loop_m (σ := A1) (fun n s => W n s) (fun s => I s) (fun s => μ s) (fun n s hI hk => hs n s hI (fun b1 h9 hm => hk b1 h9 hm)) a1 h
theorem lp2 {A1 A2 : Type} (W : Nat → A1 → A2 → Prop) (I : A1 → A2 → Prop) (μ : A1 → A2 → Nat) (hs : ∀ (n : Nat) (a1 : A1) (a2 : A2), I a1 a2 → (∀ (b1 : A1) (b2 : A2), I b1 b2 → μ b1 b2 < μ a1 a2 → W n b1 b2) → W (n + 1) a1 a2) (a1 : A1) (a2 : A2) (h : I a1 a2) : ∃ n, W n a1 a2 :=
  loop_m (σ := A1 × A2) (fun n s => W n s.1 s.2) (fun s => I s.1 s.2) (fun s => μ s.1 s.2) (fun n s hI hk => hs n s.1 s.2 hI (fun b1 b2 h9 hm => hk (b1, b2) h9 hm)) (a1, a2) h
theorem lp3 {A1 A2 A3 : Type} (W : Nat → A1 → A2 → A3 → Prop) (I : A1 → A2 → A3 → Prop) (μ : A1 → A2 → A3 → Nat) (hs : ∀ (n : Nat) (a1 : A1) (a2 : A2) (a3 : A3), I a1 a2 a3 → (∀ (b1 : A1) (b2 : A2) (b3 : A3), I b1 b2 b3 → μ b1 b2 b3 < μ a1 a2 a3 → W n b1 b2 b3) → W (n + 1) a1 a2 a3) (a1 : A1) (a2 : A2) (a3 : A3) (h : I a1 a2 a3) : ∃ n, W n a1 a2 a3 :=
  loop_m (σ := A1 × A2 × A3) (fun n s => W n s.1 s.2.1 s.2.2) (fun s => I s.1 s.2.1 s.2.2) (fun s => μ s.1 s.2.1 s.2.2) (fun n s hI hk => hs n s.1 s.2.1 s.2.2 hI (fun b1 b2 b3 h9 hm => hk (b1, b2, b3) h9 hm)) (a1, a2, a3) h
theorem lp4 {A1 A2 A3 A4 : Type} (W : Nat → A1 → A2 → A3 → A4 → Prop) (I : A1 → A2 → A3 → A4 → Prop) (μ : A1 → A2 → A3 → A4 → Nat) (hs : ∀ (n : Nat) (a1 : A1) (a2 : A2) (a3 : A3) (a4 : A4), I a1 a2 a3 a4 → (∀ (b1 : A1) (b2 : A2) (b3 : A3) (b4 : A4), I b1 b2 b3 b4 → μ b1 b2 b3 b4 < μ a1 a2 a3 a4 → W n b1 b2 b3 b4) → W (n + 1) a1 a2 a3 a4) (a1 : A1) (a2 : A2) (a3 : A3) (a4 : A4) (h : I a1 a2 a3 a4) : ∃ n, W n a1 a2 a3 a4 :=
  loop_m (σ := A1 × A2 × A3 × A4) (fun n s => W n s.1 s.2.1 s.2.2.1 s.2.2.2) (fun s => I s.1 s.2.1 s.2.2.1 s.2.2.2) (fun s => μ s.1 s.2.1 s.2.2.1 s.2.2.2) (fun n s hI hk => hs n s.1 s.2.1 s.2.2.1 s.2.2.2 hI (fun b1 b2 b3 b4 h9 hm => hk (b1, b2, b3, b4) h9 hm)) (a1, a2, a3, a4) h
theorem lp5 {A1 A2 A3 A4 A5 : Type} (W : Nat → A1 → A2 → A3 → A4 → A5 → Prop) (I : A1 → A2 → A3 → A4 → A5 → Prop) (μ : A1 → A2 → A3 → A4 → A5 → Nat) (hs : ∀ (n : Nat) (a1 : A1) (a2 : A2) (a3 : A3) (a4 : A4) (a5 : A5), I a1 a2 a3 a4 a5 → (∀ (b1 : A1) (b2 : A2) (b3 : A3) (b4 : A4) (b5 : A5), I b1 b2 b3 b4 b5 → μ b1 b2 b3 b4 b5 < μ a1 a2 a3 a4 a5 → W n b1 b2 b3 b4 b5) → W (n + 1) a1 a2 a3 a4 a5) (a1 : A1) (a2 : A2) (a3 : A3) (a4 : A4) (a5 : A5) (h : I a1 a2 a3 a4 a5) : ∃ n, W n a1 a2 a3 a4 a5 :=
  loop_m (σ := A1 × A2 × A3 × A4 × A5) (fun n s => W n s.1 s.2.1 s.2.2.1 s.2.2.2.1 s.2.2.2.2) (fun s => I s.1 s.2.1 s.2.2.1 s.2.2.2.1 s.2.2.2.2) (fun s => μ s.1 s.2.1 s.2.2.1 s.2.2.2.1 s.2.2.2.2) (fun n s hI hk => hs n s.1 s.2.1 s.2.2.1 s.2.2.2.1 s.2.2.2.2 hI (fun b1 b2 b3 b4 b5 h9 hm => hk (b1, b2, b3, b4, b5) h9 hm)) (a1, a2, a3, a4, a5) h
theorem lp6 {A1 A2 A3 A4 A5 A6 : Type} (W : Nat → A1 → A2 → A3 → A4 → A5 → A6 → Prop) (I : A1 → A2 → A3 → A4 → A5 → A6 → Prop) (μ : A1 → A2 → A3 → A4 → A5 → A6 → Nat) (hs : ∀ (n : Nat) (a1 : A1) (a2 : A2) (a3 : A3) (a4 : A4) (a5 : A5) (a6 : A6), I a1 a2 a3 a4 a5 a6 → (∀ (b1 : A1) (b2 : A2) (b3 : A3) (b4 : A4) (b5 : A5) (b6 : A6), I b1 b2 b3 b4 b5 b6 → μ b1 b2 b3 b4 b5 b6 < μ a1 a2 a3 a4 a5 a6 → W n b1 b2 b3 b4 b5 b6) → W (n + 1) a1 a2 a3 a4 a5 a6) (a1 : A1) (a2 : A2) (a3 : A3) (a4 : A4) (a5 : A5) (a6 : A6) (h : I a1 a2 a3 a4 a5 a6) : ∃ n, W n a1 a2 a3 a4 a5 a6 :=
  loop_m (σ := A1 × A2 × A3 × A4 × A5 × A6) (fun n s => W n s.1 s.2.1 s.2.2.1 s.2.2.2.1 s.2.2.2.2.1 s.2.2.2.2.2) (fun s => I s.1 s.2.1 s.2.2.1 s.2.2.2.1 s.2.2.2.2.1 s.2.2.2.2.2) (fun s => μ s.1 s.2.1 s.2.2.1 s.2.2.2.1 s.2.2.2.2.1 s.2.2.2.2.2) (fun n s hI hk => hs n s.1 s.2.1 s.2.2.1 s.2.2.2.1 s.2.2.2.2.1 s.2.2.2.2.2 hI (fun b1 b2 b3 b4 b5 b6 h9 hm => hk (b1, b2, b3, b4, b5, b6) h9 hm)) (a1, a2, a3, a4, a5, a6) h
theorem lp7 {A1 A2 A3 A4 A5 A6 A7 : Type} (W : Nat → A1 → A2 → A3 → A4 → A5 → A6 → A7 → Prop) (I : A1 → A2 → A3 → A4 → A5 → A6 → A7 → Prop) (μ : A1 → A2 → A3 → A4 → A5 → A6 → A7 → Nat) (hs : ∀ (n : Nat) (a1 : A1) (a2 : A2) (a3 : A3) (a4 : A4) (a5 : A5) (a6 : A6) (a7 : A7), I a1 a2 a3 a4 a5 a6 a7 → (∀ (b1 : A1) (b2 : A2) (b3 : A3) (b4 : A4) (b5 : A5) (b6 : A6) (b7 : A7), I b1 b2 b3 b4 b5 b6 b7 → μ b1 b2 b3 b4 b5 b6 b7 < μ a1 a2 a3 a4 a5 a6 a7 → W n b1 b2 b3 b4 b5 b6 b7) → W (n + 1) a1 a2 a3 a4 a5 a6 a7) (a1 : A1) (a2 : A2) (a3 : A3) (a4 : A4) (a5 : A5) (a6 : A6) (a7 : A7) (h : I a1 a2 a3 a4 a5 a6 a7) : ∃ n, W n a1 a2 a3 a4 a5 a6 a7 :=
  loop_m (σ := A1 × A2 × A3 × A4 × A5 × A6 × A7) (fun n s => W n s.1 s.2.1 s.2.2.1 s.2.2.2.1 s.2.2.2.2.1 s.2.2.2.2.2.1 s.2.2.2.2.2.2) (fun s => I s.1 s.2.1 s.2.2.1 s.2.2.2.1 s.2.2.2.2.1 s.2.2.2.2.2.1 s.2.2.2.2.2.2) (fun s => μ s.1 s.2.1 s.2.2.1 s.2.2.2.1 s.2.2.2.2.1 s.2.2.2.2.2.1 s.2.2.2.2.2.2) (fun n s hI hk => hs n s.1 s.2.1 s.2.2.1 s.2.2.2.1 s.2.2.2.2.1 s.2.2.2.2.2.1 s.2.2.2.2.2.2 hI (fun b1 b2 b3 b4 b5 b6 b7 h9 hm => hk (b1, b2, b3, b4, b5, b6, b7) h9 hm)) (a1, a2, a3, a4, a5, a6, a7) h
theorem lp8 {A1 A2 A3 A4 A5 A6 A7 A8 : Type} (W : Nat → A1 → A2 → A3 → A4 → A5 → A6 → A7 → A8 → Prop) (I : A1 → A2 → A3 → A4 → A5 → A6 → A7 → A8 → Prop) (μ : A1 → A2 → A3 → A4 → A5 → A6 → A7 → A8 → Nat) (hs : ∀ (n : Nat) (a1 : A1) (a2 : A2) (a3 : A3) (a4 : A4) (a5 : A5) (a6 : A6) (a7 : A7) (a8 : A8), I a1 a2 a3 a4 a5 a6 a7 a8 → (∀ (b1 : A1) (b2 : A2) (b3 : A3) (b4 : A4) (b5 : A5) (b6 : A6) (b7 : A7) (b8 : A8), I b1 b2 b3 b4 b5 b6 b7 b8 → μ b1 b2 b3 b4 b5 b6 b7 b8 < μ a1 a2 a3 a4 a5 a6 a7 a8 → W n b1 b2 b3 b4 b5 b6 b7 b8) → W (n + 1) a1 a2 a3 a4 a5 a6 a7 a8) (a1 : A1) (a2 : A2) (a3 : A3) (a4 : A4) (a5 : A5) (a6 : A6) (a7 : A7) (a8 : A8) (h : I a1 a2 a3 a4 a5 a6 a7 a8) : ∃ n, W n a1 a2 a3 a4 a5 a6 a7 a8 :=
  loop_m (σ := A1 × A2 × A3 × A4 × A5 × A6 × A7 × A8) (fun n s => W n s.1 s.2.1 s.2.2.1 s.2.2.2.1 s.2.2.2.2.1 s.2.2.2.2.2.1 s.2.2.2.2.2.2.1 s.2.2.2.2.2.2.2) (fun s => I s.1 s.2.1 s.2.2.1 s.2.2.2.1 s.2.2.2.2.1 s.2.2.2.2.2.1 s.2.2.2.2.2.2.1 s.2.2.2.2.2.2.2) (fun s => μ s.1 s.2.1 s.2.2.1 s.2.2.2.1 s.2.2.2.2.1 s.2.2.2.2.2.1 s.2.2.2.2.2.2.1 s.2.2.2.2.2.2.2) (fun n s hI hk => hs n s.1 s.2.1 s.2.2.1 s.2.2.2.1 s.2.2.2.2.1 s.2.2.2.2.2.1 s.2.2.2.2.2.2.1 s.2.2.2.2.2.2.2 hI (fun b1 b2 b3 b4 b5 b6 b7 b8 h9 hm => hk (b1, b2, b3, b4, b5, b6, b7, b8) h9 hm)) (a1, a2, a3, a4, a5, a6, a7, a8) h
theorem lp9 {A1 A2 A3 A4 A5 A6 A7 A8 A9 : Type} (W : Nat → A1 → A2 → A3 → A4 → A5 → A6 → A7 → A8 → A9 → Prop) (I : A1 → A2 → A3 → A4 → A5 → A6 → A7 → A8 → A9 → Prop) (μ : A1 → A2 → A3 → A4 → A5 → A6 → A7 → A8 → A9 → Nat) (hs : ∀ (n : Nat) (a1 : A1) (a2 : A2) (a3 : A3) (a4 : A4) (a5 : A5) (a6 : A6) (a7 : A7) (a8 : A8) (a9 : A9), I a1 a2 a3 a4 a5 a6 a7 a8 a9 → (∀ (b1 : A1) (b2 : A2) (b3 : A3) (b4 : A4) (b5 : A5) (b6 : A6) (b7 : A7) (b8 : A8) (b9 : A9), I b1 b2 b3 b4 b5 b6 b7 b8 b9 → μ b1 b2 b3 b4 b5 b6 b7 b8 b9 < μ a1 a2 a3 a4 a5 a6 a7 a8 a9 → W n b1 b2 b3 b4 b5 b6 b7 b8 b9) → W (n + 1) a1 a2 a3 a4 a5 a6 a7 a8 a9) (a1 : A1) (a2 : A2) (a3 : A3) (a4 : A4) (a5 : A5) (a6 : A6) (a7 : A7) (a8 : A8) (a9 : A9) (h : I a1 a2 a3 a4 a5 a6 a7 a8 a9) : ∃ n, W n a1 a2 a3 a4 a5 a6 a7 a8 a9 :=
  loop_m (σ := A1 × A2 × A3 × A4 × A5 × A6 × A7 × A8 × A9) (fun n s => W n s.1 s.2.1 s.2.2.1 s.2.2.2.1 s.2.2.2.2.1 s.2.2.2.2.2.1 s.2.2.2.2.2.2.1 s.2.2.2.2.2.2.2.1 s.2.2.2.2.2.2.2.2) (fun s => I s.1 s.2.1 s.2.2.1 s.2.2.2.1 s.2.2.2.2.1 s.2.2.2.2.2.1 s.2.2.2.2.2.2.1 s.2.2.2.2.2.2.2.1 s.2.2.2.2.2.2.2.2) (fun s => μ s.1 s.2.1 s.2.2.1 s.2.2.2.1 s.2.2.2.2.1 s.2.2.2.2.2.1 s.2.2.2.2.2.2.1 s.2.2.2.2.2.2.2.1 s.2.2.2.2.2.2.2.2) (fun n s hI hk => hs n s.1 s.2.1 s.2.2.1 s.2.2.2.1 s.2.2.2.2.1 s.2.2.2.2.2.1 s.2.2.2.2.2.2.1 s.2.2.2.2.2.2.2.1 s.2.2.2.2.2.2.2.2 hI (fun b1 b2 b3 b4 b5 b6 b7 b8 b9 h9 hm => hk (b1, b2, b3, b4, b5, b6, b7, b8, b9) h9 hm)) (a1, a2, a3, a4, a5, a6, a7, a8, a9) h
theorem lp10 {A1 A2 A3 A4 A5 A6 A7 A8 A9 A10 : Type} (W : Nat → A1 → A2 → A3 → A4 → A5 → A6 → A7 → A8 → A9 → A10 → Prop) (I : A1 → A2 → A3 → A4 → A5 → A6 → A7 → A8 → A9 → A10 → Prop) (μ : A1 → A2 → A3 → A4 → A5 → A6 → A7 → A8 → A9 → A10 → Nat) (hs : ∀ (n : Nat) (a1 : A1) (a2 : A2) (a3 : A3) (a4 : A4) (a5 : A5) (a6 : A6) (a7 : A7) (a8 : A8) (a9 : A9) (a10 : A10), I a1 a2 a3 a4 a5 a6 a7 a8 a9 a10 → (∀ (b1 : A1) (b2 : A2) (b3 : A3) (b4 : A4) (b5 : A5) (b6 : A6) (b7 : A7) (b8 : A8) (b9 : A9) (b10 : A10), I b1 b2 b3 b4 b5 b6 b7 b8 b9 b10 → μ b1 b2 b3 b4 b5 b6 b7 b8 b9 b10 < μ a1 a2 a3 a4 a5 a6 a7 a8 a9 a10 → W n b1 b2 b3 b4 b5 b6 b7 b8 b9 b10) → W (n + 1) a1 a2 a3 a4 a5 a6 a7 a8 a9 a10) (a1 : A1) (a2 : A2) (a3 : A3) (a4 : A4) (a5 : A5) (a6 : A6) (a7 : A7) (a8 : A8) (a9 : A9) (a10 : A10) (h : I a1 a2 a3 a4 a5 a6 a7 a8 a9 a10) : ∃ n, W n a1 a2 a3 a4 a5 a6 a7 a8 a9 a10 :=
  loop_m (σ := A1 × A2 × A3 × A4 × A5 × A6 × A7 × A8 × A9 × A10) (fun n s => W n s.1 s.2.1 s.2.2.1 s.2.2.2.1 s.2.2.2.2.1 s.2.2.2.2.2.1 s.2.2.2.2.2.2.1 s.2.2.2.2.2.2.2.1 s.2.2.2.2.2.2.2.2.1 s.2.2.2.2.2.2.2.2.2) (fun s => I s.1 s.2.1 s.2.2.1 s.2.2.2.1 s.2.2.2.2.1 s.2.2.2.2.2.1 s.2.2.2.2.2.2.1 s.2.2.2.2.2.2.2.1 s.2.2.2.2.2.2.2.2.1 s.2.2.2.2.2.2.2.2.2) (fun s => μ s.1 s.2.1 s.2.2.1 s.2.2.2.1 s.2.2.2.2.1 s.2.2.2.2.2.1 s.2.2.2.2.2.2.1 s.2.2.2.2.2.2.2.1 s.2.2.2.2.2.2.2.2.1 s.2.2.2.2.2.2.2.2.2) (fun n s hI hk => hs n s.1 s.2.1 s.2.2.1 s.2.2.2.1 s.2.2.2.2.1 s.2.2.2.2.2.1 s.2.2.2.2.2.2.1 s.2.2.2.2.2.2.2.1 s.2.2.2.2.2.2.2.2.1 s.2.2.2.2.2.2.2.2.2 hI (fun b1 b2 b3 b4 b5 b6 b7 b8 b9 b10 h9 hm => hk (b1, b2, b3, b4, b5, b6, b7, b8, b9, b10) h9 hm)) (a1, a2, a3, a4, a5, a6, a7, a8, a9, a10) h
theorem lp11 {A1 A2 A3 A4 A5 A6 A7 A8 A9 A10 A11 : Type} (W : Nat → A1 → A2 → A3 → A4 → A5 → A6 → A7 → A8 → A9 → A10 → A11 → Prop) (I : A1 → A2 → A3 → A4 → A5 → A6 → A7 → A8 → A9 → A10 → A11 → Prop) (μ : A1 → A2 → A3 → A4 → A5 → A6 → A7 → A8 → A9 → A10 → A11 → Nat) (hs : ∀ (n : Nat) (a1 : A1) (a2 : A2) (a3 : A3) (a4 : A4) (a5 : A5) (a6 : A6) (a7 : A7) (a8 : A8) (a9 : A9) (a10 : A10) (a11 : A11), I a1 a2 a3 a4 a5 a6 a7 a8 a9 a10 a11 → (∀ (b1 : A1) (b2 : A2) (b3 : A3) (b4 : A4) (b5 : A5) (b6 : A6) (b7 : A7) (b8 : A8) (b9 : A9) (b10 : A10) (b11 : A11), I b1 b2 b3 b4 b5 b6 b7 b8 b9 b10 b11 → μ b1 b2 b3 b4 b5 b6 b7 b8 b9 b10 b11 < μ a1 a2 a3 a4 a5 a6 a7 a8 a9 a10 a11 → W n b1 b2 b3 b4 b5 b6 b7 b8 b9 b10 b11) → W (n + 1) a1 a2 a3 a4 a5 a6 a7 a8 a9 a10 a11) (a1 : A1) (a2 : A2) (a3 : A3) (a4 : A4) (a5 : A5) (a6 : A6) (a7 : A7) (a8 : A8) (a9 : A9) (a10 : A10) (a11 : A11) (h : I a1 a2 a3 a4 a5 a6 a7 a8 a9 a10 a11) : ∃ n, W n a1 a2 a3 a4 a5 a6 a7 a8 a9 a10 a11 :=
  loop_m (σ := A1 × A2 × A3 × A4 × A5 × A6 × A7 × A8 × A9 × A10 × A11) (fun n s => W n s.1 s.2.1 s.2.2.1 s.2.2.2.1 s.2.2.2.2.1 s.2.2.2.2.2.1 s.2.2.2.2.2.2.1 s.2.2.2.2.2.2.2.1 s.2.2.2.2.2.2.2.2.1 s.2.2.2.2.2.2.2.2.2.1 s.2.2.2.2.2.2.2.2.2.2) (fun s => I s.1 s.2.1 s.2.2.1 s.2.2.2.1 s.2.2.2.2.1 s.2.2.2.2.2.1 s.2.2.2.2.2.2.1 s.2.2.2.2.2.2.2.1 s.2.2.2.2.2.2.2.2.1 s.2.2.2.2.2.2.2.2.2.1 s.2.2.2.2.2.2.2.2.2.2) (fun s => μ s.1 s.2.1 s.2.2.1 s.2.2.2.1 s.2.2.2.2.1 s.2.2.2.2.2.1 s.2.2.2.2.2.2.1 s.2.2.2.2.2.2.2.1 s.2.2.2.2.2.2.2.2.1 s.2.2.2.2.2.2.2.2.2.1 s.2.2.2.2.2.2.2.2.2.2) (fun n s hI hk => hs n s.1 s.2.1 s.2.2.1 s.2.2.2.1 s.2.2.2.2.1 s.2.2.2.2.2.1 s.2.2.2.2.2.2.1 s.2.2.2.2.2.2.2.1 s.2.2.2.2.2.2.2.2.1 s.2.2.2.2.2.2.2.2.2.1 s.2.2.2.2.2.2.2.2.2.2 hI (fun b1 b2 b3 b4 b5 b6 b7 b8 b9 b10 b11 h9 hm => hk (b1, b2, b3, b4, b5, b6, b7, b8, b9, b10, b11) h9 hm)) (a1, a2, a3, a4, a5, a6, a7, a8, a9, a10, a11) h
theorem lp12 {A1 A2 A3 A4 A5 A6 A7 A8 A9 A10 A11 A12 : Type} (W : Nat → A1 → A2 → A3 → A4 → A5 → A6 → A7 → A8 → A9 → A10 → A11 → A12 → Prop) (I : A1 → A2 → A3 → A4 → A5 → A6 → A7 → A8 → A9 → A10 → A11 → A12 → Prop) (μ : A1 → A2 → A3 → A4 → A5 → A6 → A7 → A8 → A9 → A10 → A11 → A12 → Nat) (hs : ∀ (n : Nat) (a1 : A1) (a2 : A2) (a3 : A3) (a4 : A4) (a5 : A5) (a6 : A6) (a7 : A7) (a8 : A8) (a9 : A9) (a10 : A10) (a11 : A11) (a12 : A12), I a1 a2 a3 a4 a5 a6 a7 a8 a9 a10 a11 a12 → (∀ (b1 : A1) (b2 : A2) (b3 : A3) (b4 : A4) (b5 : A5) (b6 : A6) (b7 : A7) (b8 : A8) (b9 : A9) (b10 : A10) (b11 : A11) (b12 : A12), I b1 b2 b3 b4 b5 b6 b7 b8 b9 b10 b11 b12 → μ b1 b2 b3 b4 b5 b6 b7 b8 b9 b10 b11 b12 < μ a1 a2 a3 a4 a5 a6 a7 a8 a9 a10 a11 a12 → W n b1 b2 b3 b4 b5 b6 b7 b8 b9 b10 b11 b12) → W (n + 1) a1 a2 a3 a4 a5 a6 a7 a8 a9 a10 a11 a12) (a1 : A1) (a2 : A2) (a3 : A3) (a4 : A4) (a5 : A5) (a6 : A6) (a7 : A7) (a8 : A8) (a9 : A9) (a10 : A10) (a11 : A11) (a12 : A12) (h : I a1 a2 a3 a4 a5 a6 a7 a8 a9 a10 a11 a12) : ∃ n, W n a1 a2 a3 a4 a5 a6 a7 a8 a9 a10 a11 a12 :=
  loop_m (σ := A1 × A2 × A3 × A4 × A5 × A6 × A7 × A8 × A9 × A10 × A11 × A12) (fun n s => W n s.1 s.2.1 s.2.2.1 s.2.2.2.1 s.2.2.2.2.1 s.2.2.2.2.2.1 s.2.2.2.2.2.2.1 s.2.2.2.2.2.2.2.1 s.2.2.2.2.2.2.2.2.1 s.2.2.2.2.2.2.2.2.2.1 s.2.2.2.2.2.2.2.2.2.2.1 s.2.2.2.2.2.2.2.2.2.2.2) (fun s => I s.1 s.2.1 s.2.2.1 s.2.2.2.1 s.2.2.2.2.1 s.2.2.2.2.2.1 s.2.2.2.2.2.2.1 s.2.2.2.2.2.2.2.1 s.2.2.2.2.2.2.2.2.1 s.2.2.2.2.2.2.2.2.2.1 s.2.2.2.2.2.2.2.2.2.2.1 s.2.2.2.2.2.2.2.2.2.2.2) (fun s => μ s.1 s.2.1 s.2.2.1 s.2.2.2.1 s.2.2.2.2.1 s.2.2.2.2.2.1 s.2.2.2.2.2.2.1 s.2.2.2.2.2.2.2.1 s.2.2.2.2.2.2.2.2.1 s.2.2.2.2.2.2.2.2.2.1 s.2.2.2.2.2.2.2.2.2.2.1 s.2.2.2.2.2.2.2.2.2.2.2) (fun n s hI hk => hs n s.1 s.2.1 s.2.2.1 s.2.2.2.1 s.2.2.2.2.1 s.2.2.2.2.2.1 s.2.2.2.2.2.2.1 s.2.2.2.2.2.2.2.1 s.2.2.2.2.2.2.2.2.1 s.2.2.2.2.2.2.2.2.2.1 s.2.2.2.2.2.2.2.2.2.2.1 s.2.2.2.2.2.2.2.2.2.2.2 hI (fun b1 b2 b3 b4 b5 b6 b7 b8 b9 b10 b11 b12 h9 hm => hk (b1, b2, b3, b4, b5, b6, b7, b8, b9, b10, b11, b12) h9 hm)) (a1, a2, a3, a4, a5, a6, a7, a8, a9, a10, a11, a12) h
theorem lp13 {A1 A2 A3 A4 A5 A6 A7 A8 A9 A10 A11 A12 A13 : Type} (W : Nat → A1 → A2 → A3 → A4 → A5 → A6 → A7 → A8 → A9 → A10 → A11 → A12 → A13 → Prop) (I : A1 → A2 → A3 → A4 → A5 → A6 → A7 → A8 → A9 → A10 → A11 → A12 → A13 → Prop) (μ : A1 → A2 → A3 → A4 → A5 → A6 → A7 → A8 → A9 → A10 → A11 → A12 → A13 → Nat) (hs : ∀ (n : Nat) (a1 : A1) (a2 : A2) (a3 : A3) (a4 : A4) (a5 : A5) (a6 : A6) (a7 : A7) (a8 : A8) (a9 : A9) (a10 : A10) (a11 : A11) (a12 : A12) (a13 : A13), I a1 a2 a3 a4 a5 a6 a7 a8 a9 a10 a11 a12 a13 → (∀ (b1 : A1) (b2 : A2) (b3 : A3) (b4 : A4) (b5 : A5) (b6 : A6) (b7 : A7) (b8 : A8) (b9 : A9) (b10 : A10) (b11 : A11) (b12 : A12) (b13 : A13), I b1 b2 b3 b4 b5 b6 b7 b8 b9 b10 b11 b12 b13 → μ b1 b2 b3 b4 b5 b6 b7 b8 b9 b10 b11 b12 b13 < μ a1 a2 a3 a4 a5 a6 a7 a8 a9 a10 a11 a12 a13 → W n b1 b2 b3 b4 b5 b6 b7 b8 b9 b10 b11 b12 b13) → W (n + 1) a1 a2 a3 a4 a5 a6 a7 a8 a9 a10 a11 a12 a13) (a1 : A1) (a2 : A2) (a3 : A3) (a4 : A4) (a5 : A5) (a6 : A6) (a7 : A7) (a8 : A8) (a9 : A9) (a10 : A10) (a11 : A11) (a12 : A12) (a13 : A13) (h : I a1 a2 a3 a4 a5 a6 a7 a8 a9 a10 a11 a12 a13) : ∃ n, W n a1 a2 a3 a4 a5 a6 a7 a8 a9 a10 a11 a12 a13 :=
  loop_m (σ := A1 × A2 × A3 × A4 × A5 × A6 × A7 × A8 × A9 × A10 × A11 × A12 × A13) (fun n s => W n s.1 s.2.1 s.2.2.1 s.2.2.2.1 s.2.2.2.2.1 s.2.2.2.2.2.1 s.2.2.2.2.2.2.1 s.2.2.2.2.2.2.2.1 s.2.2.2.2.2.2.2.2.1 s.2.2.2.2.2.2.2.2.2.1 s.2.2.2.2.2.2.2.2.2.2.1 s.2.2.2.2.2.2.2.2.2.2.2.1 s.2.2.2.2.2.2.2.2.2.2.2.2) (fun s => I s.1 s.2.1 s.2.2.1 s.2.2.2.1 s.2.2.2.2.1 s.2.2.2.2.2.1 s.2.2.2.2.2.2.1 s.2.2.2.2.2.2.2.1 s.2.2.2.2.2.2.2.2.1 s.2.2.2.2.2.2.2.2.2.1 s.2.2.2.2.2.2.2.2.2.2.1 s.2.2.2.2.2.2.2.2.2.2.2.1 s.2.2.2.2.2.2.2.2.2.2.2.2) (fun s => μ s.1 s.2.1 s.2.2.1 s.2.2.2.1 s.2.2.2.2.1 s.2.2.2.2.2.1 s.2.2.2.2.2.2.1 s.2.2.2.2.2.2.2.1 s.2.2.2.2.2.2.2.2.1 s.2.2.2.2.2.2.2.2.2.1 s.2.2.2.2.2.2.2.2.2.2.1 s.2.2.2.2.2.2.2.2.2.2.2.1 s.2.2.2.2.2.2.2.2.2.2.2.2) (fun n s hI hk => hs n s.1 s.2.1 s.2.2.1 s.2.2.2.1 s.2.2.2.2.1 s.2.2.2.2.2.1 s.2.2.2.2.2.2.1 s.2.2.2.2.2.2.2.1 s.2.2.2.2.2.2.2.2.1 s.2.2.2.2.2.2.2.2.2.1 s.2.2.2.2.2.2.2.2.2.2.1 s.2.2.2.2.2.2.2.2.2.2.2.1 s.2.2.2.2.2.2.2.2.2.2.2.2 hI (fun b1 b2 b3 b4 b5 b6 b7 b8 b9 b10 b11 b12 b13 h9 hm => hk (b1, b2, b3, b4, b5, b6, b7, b8, b9, b10, b11, b12, b13) h9 hm)) (a1, a2, a3, a4, a5, a6, a7, a8, a9, a10, a11, a12, a13) h
theorem lp14 {A1 A2 A3 A4 A5 A6 A7 A8 A9 A10 A11 A12 A13 A14 : Type} (W : Nat → A1 → A2 → A3 → A4 → A5 → A6 → A7 → A8 → A9 → A10 → A11 → A12 → A13 → A14 → Prop) (I : A1 → A2 → A3 → A4 → A5 → A6 → A7 → A8 → A9 → A10 → A11 → A12 → A13 → A14 → Prop) (μ : A1 → A2 → A3 → A4 → A5 → A6 → A7 → A8 → A9 → A10 → A11 → A12 → A13 → A14 → Nat) (hs : ∀ (n : Nat) (a1 : A1) (a2 : A2) (a3 : A3) (a4 : A4) (a5 : A5) (a6 : A6) (a7 : A7) (a8 : A8) (a9 : A9) (a10 : A10) (a11 : A11) (a12 : A12) (a13 : A13) (a14 : A14), I a1 a2 a3 a4 a5 a6 a7 a8 a9 a10 a11 a12 a13 a14 → (∀ (b1 : A1) (b2 : A2) (b3 : A3) (b4 : A4) (b5 : A5) (b6 : A6) (b7 : A7) (b8 : A8) (b9 : A9) (b10 : A10) (b11 : A11) (b12 : A12) (b13 : A13) (b14 : A14), I b1 b2 b3 b4 b5 b6 b7 b8 b9 b10 b11 b12 b13 b14 → μ b1 b2 b3 b4 b5 b6 b7 b8 b9 b10 b11 b12 b13 b14 < μ a1 a2 a3 a4 a5 a6 a7 a8 a9 a10 a11 a12 a13 a14 → W n b1 b2 b3 b4 b5 b6 b7 b8 b9 b10 b11 b12 b13 b14) → W (n + 1) a1 a2 a3 a4 a5 a6 a7 a8 a9 a10 a11 a12 a13 a14) (a1 : A1) (a2 : A2) (a3 : A3) (a4 : A4) (a5 : A5) (a6 : A6) (a7 : A7) (a8 : A8) (a9 : A9) (a10 : A10) (a11 : A11) (a12 : A12) (a13 : A13) (a14 : A14) (h : I a1 a2 a3 a4 a5 a6 a7 a8 a9 a10 a11 a12 a13 a14) : ∃ n, W n a1 a2 a3 a4 a5 a6 a7 a8 a9 a10 a11 a12 a13 a14 :=
  loop_m (σ := A1 × A2 × A3 × A4 × A5 × A6 × A7 × A8 × A9 × A10 × A11 × A12 × A13 × A14) (fun n s => W n s.1 s.2.1 s.2.2.1 s.2.2.2.1 s.2.2.2.2.1 s.2.2.2.2.2.1 s.2.2.2.2.2.2.1 s.2.2.2.2.2.2.2.1 s.2.2.2.2.2.2.2.2.1 s.2.2.2.2.2.2.2.2.2.1 s.2.2.2.2.2.2.2.2.2.2.1 s.2.2.2.2.2.2.2.2.2.2.2.1 s.2.2.2.2.2.2.2.2.2.2.2.2.1 s.2.2.2.2.2.2.2.2.2.2.2.2.2) (fun s => I s.1 s.2.1 s.2.2.1 s.2.2.2.1 s.2.2.2.2.1 s.2.2.2.2.2.1 s.2.2.2.2.2.2.1 s.2.2.2.2.2.2.2.1 s.2.2.2.2.2.2.2.2.1 s.2.2.2.2.2.2.2.2.2.1 s.2.2.2.2.2.2.2.2.2.2.1 s.2.2.2.2.2.2.2.2.2.2.2.1 s.2.2.2.2.2.2.2.2.2.2.2.2.1 s.2.2.2.2.2.2.2.2.2.2.2.2.2) (fun s => μ s.1 s.2.1 s.2.2.1 s.2.2.2.1 s.2.2.2.2.1 s.2.2.2.2.2.1 s.2.2.2.2.2.2.1 s.2.2.2.2.2.2.2.1 s.2.2.2.2.2.2.2.2.1 s.2.2.2.2.2.2.2.2.2.1 s.2.2.2.2.2.2.2.2.2.2.1 s.2.2.2.2.2.2.2.2.2.2.2.1 s.2.2.2.2.2.2.2.2.2.2.2.2.1 s.2.2.2.2.2.2.2.2.2.2.2.2.2) (fun n s hI hk => hs n s.1 s.2.1 s.2.2.1 s.2.2.2.1 s.2.2.2.2.1 s.2.2.2.2.2.1 s.2.2.2.2.2.2.1 s.2.2.2.2.2.2.2.1 s.2.2.2.2.2.2.2.2.1 s.2.2.2.2.2.2.2.2.2.1 s.2.2.2.2.2.2.2.2.2.2.1 s.2.2.2.2.2.2.2.2.2.2.2.1 s.2.2.2.2.2.2.2.2.2.2.2.2.1 s.2.2.2.2.2.2.2.2.2.2.2.2.2 hI (fun b1 b2 b3 b4 b5 b6 b7 b8 b9 b10 b11 b12 b13 b14 h9 hm => hk (b1, b2, b3, b4, b5, b6, b7, b8, b9, b10, b11, b12, b13, b14) h9 hm)) (a1, a2, a3, a4, a5, a6, a7, a8, a9, a10, a11, a12, a13, a14) h
theorem lp15 {A1 A2 A3 A4 A5 A6 A7 A8 A9 A10 A11 A12 A13 A14 A15 : Type} (W : Nat → A1 → A2 → A3 → A4 → A5 → A6 → A7 → A8 → A9 → A10 → A11 → A12 → A13 → A14 → A15 → Prop) (I : A1 → A2 → A3 → A4 → A5 → A6 → A7 → A8 → A9 → A10 → A11 → A12 → A13 → A14 → A15 → Prop) (μ : A1 → A2 → A3 → A4 → A5 → A6 → A7 → A8 → A9 → A10 → A11 → A12 → A13 → A14 → A15 → Nat) (hs : ∀ (n : Nat) (a1 : A1) (a2 : A2) (a3 : A3) (a4 : A4) (a5 : A5) (a6 : A6) (a7 : A7) (a8 : A8) (a9 : A9) (a10 : A10) (a11 : A11) (a12 : A12) (a13 : A13) (a14 : A14) (a15 : A15), I a1 a2 a3 a4 a5 a6 a7 a8 a9 a10 a11 a12 a13 a14 a15 → (∀ (b1 : A1) (b2 : A2) (b3 : A3) (b4 : A4) (b5 : A5) (b6 : A6) (b7 : A7) (b8 : A8) (b9 : A9) (b10 : A10) (b11 : A11) (b12 : A12) (b13 : A13) (b14 : A14) (b15 : A15), I b1 b2 b3 b4 b5 b6 b7 b8 b9 b10 b11 b12 b13 b14 b15 → μ b1 b2 b3 b4 b5 b6 b7 b8 b9 b10 b11 b12 b13 b14 b15 < μ a1 a2 a3 a4 a5 a6 a7 a8 a9 a10 a11 a12 a13 a14 a15 → W n b1 b2 b3 b4 b5 b6 b7 b8 b9 b10 b11 b12 b13 b14 b15) → W (n + 1) a1 a2 a3 a4 a5 a6 a7 a8 a9 a10 a11 a12 a13 a14 a15) (a1 : A1) (a2 : A2) (a3 : A3) (a4 : A4) (a5 : A5) (a6 : A6) (a7 : A7) (a8 : A8) (a9 : A9) (a10 : A10) (a11 : A11) (a12 : A12) (a13 : A13) (a14 : A14) (a15 : A15) (h : I a1 a2 a3 a4 a5 a6 a7 a8 a9 a10 a11 a12 a13 a14 a15) : ∃ n, W n a1 a2 a3 a4 a5 a6 a7 a8 a9 a10 a11 a12 a13 a14 a15 :=
  loop_m (σ := A1 × A2 × A3 × A4 × A5 × A6 × A7 × A8 × A9 × A10 × A11 × A12 × A13 × A14 × A15) (fun n s => W n s.1 s.2.1 s.2.2.1 s.2.2.2.1 s.2.2.2.2.1 s.2.2.2.2.2.1 s.2.2.2.2.2.2.1 s.2.2.2.2.2.2.2.1 s.2.2.2.2.2.2.2.2.1 s.2.2.2.2.2.2.2.2.2.1 s.2.2.2.2.2.2.2.2.2.2.1 s.2.2.2.2.2.2.2.2.2.2.2.1 s.2.2.2.2.2.2.2.2.2.2.2.2.1 s.2.2.2.2.2.2.2.2.2.2.2.2.2.1 s.2.2.2.2.2.2.2.2.2.2.2.2.2.2) (fun s => I s.1 s.2.1 s.2.2.1 s.2.2.2.1 s.2.2.2.2.1 s.2.2.2.2.2.1 s.2.2.2.2.2.2.1 s.2.2.2.2.2.2.2.1 s.2.2.2.2.2.2.2.2.1 s.2.2.2.2.2.2.2.2.2.1 s.2.2.2.2.2.2.2.2.2.2.1 s.2.2.2.2.2.2.2.2.2.2.2.1 s.2.2.2.2.2.2.2.2.2.2.2.2.1 s.2.2.2.2.2.2.2.2.2.2.2.2.2.1 s.2.2.2.2.2.2.2.2.2.2.2.2.2.2) (fun s => μ s.1 s.2.1 s.2.2.1 s.2.2.2.1 s.2.2.2.2.1 s.2.2.2.2.2.1 s.2.2.2.2.2.2.1 s.2.2.2.2.2.2.2.1 s.2.2.2.2.2.2.2.2.1 s.2.2.2.2.2.2.2.2.2.1 s.2.2.2.2.2.2.2.2.2.2.1 s.2.2.2.2.2.2.2.2.2.2.2.1 s.2.2.2.2.2.2.2.2.2.2.2.2.1 s.2.2.2.2.2.2.2.2.2.2.2.2.2.1 s.2.2.2.2.2.2.2.2.2.2.2.2.2.2) (fun n s hI hk => hs n s.1 s.2.1 s.2.2.1 s.2.2.2.1 s.2.2.2.2.1 s.2.2.2.2.2.1 s.2.2.2.2.2.2.1 s.2.2.2.2.2.2.2.1 s.2.2.2.2.2.2.2.2.1 s.2.2.2.2.2.2.2.2.2.1 s.2.2.2.2.2.2.2.2.2.2.1 s.2.2.2.2.2.2.2.2.2.2.2.1 s.2.2.2.2.2.2.2.2.2.2.2.2.1 s.2.2.2.2.2.2.2.2.2.2.2.2.2.1 s.2.2.2.2.2.2.2.2.2.2.2.2.2.2 hI (fun b1 b2 b3 b4 b5 b6 b7 b8 b9 b10 b11 b12 b13 b14 b15 h9 hm => hk (b1, b2, b3, b4, b5, b6, b7, b8, b9, b10, b11, b12, b13, b14, b15) h9 hm)) (a1, a2, a3, a4, a5, a6, a7, a8, a9, a10, a11, a12, a13, a14, a15) h
theorem lp16 {A1 A2 A3 A4 A5 A6 A7 A8 A9 A10 A11 A12 A13 A14 A15 A16 : Type} (W : Nat → A1 → A2 → A3 → A4 → A5 → A6 → A7 → A8 → A9 → A10 → A11 → A12 → A13 → A14 → A15 → A16 → Prop) (I : A1 → A2 → A3 → A4 → A5 → A6 → A7 → A8 → A9 → A10 → A11 → A12 → A13 → A14 → A15 → A16 → Prop) (μ : A1 → A2 → A3 → A4 → A5 → A6 → A7 → A8 → A9 → A10 → A11 → A12 → A13 → A14 → A15 → A16 → Nat) (hs : ∀ (n : Nat) (a1 : A1) (a2 : A2) (a3 : A3) (a4 : A4) (a5 : A5) (a6 : A6) (a7 : A7) (a8 : A8) (a9 : A9) (a10 : A10) (a11 : A11) (a12 : A12) (a13 : A13) (a14 : A14) (a15 : A15) (a16 : A16), I a1 a2 a3 a4 a5 a6 a7 a8 a9 a10 a11 a12 a13 a14 a15 a16 → (∀ (b1 : A1) (b2 : A2) (b3 : A3) (b4 : A4) (b5 : A5) (b6 : A6) (b7 : A7) (b8 : A8) (b9 : A9) (b10 : A10) (b11 : A11) (b12 : A12) (b13 : A13) (b14 : A14) (b15 : A15) (b16 : A16), I b1 b2 b3 b4 b5 b6 b7 b8 b9 b10 b11 b12 b13 b14 b15 b16 → μ b1 b2 b3 b4 b5 b6 b7 b8 b9 b10 b11 b12 b13 b14 b15 b16 < μ a1 a2 a3 a4 a5 a6 a7 a8 a9 a10 a11 a12 a13 a14 a15 a16 → W n b1 b2 b3 b4 b5 b6 b7 b8 b9 b10 b11 b12 b13 b14 b15 b16) → W (n + 1) a1 a2 a3 a4 a5 a6 a7 a8 a9 a10 a11 a12 a13 a14 a15 a16) (a1 : A1) (a2 : A2) (a3 : A3) (a4 : A4) (a5 : A5) (a6 : A6) (a7 : A7) (a8 : A8) (a9 : A9) (a10 : A10) (a11 : A11) (a12 : A12) (a13 : A13) (a14 : A14) (a15 : A15) (a16 : A16) (h : I a1 a2 a3 a4 a5 a6 a7 a8 a9 a10 a11 a12 a13 a14 a15 a16) : ∃ n, W n a1 a2 a3 a4 a5 a6 a7 a8 a9 a10 a11 a12 a13 a14 a15 a16 :=
  loop_m (σ := A1 × A2 × A3 × A4 × A5 × A6 × A7 × A8 × A9 × A10 × A11 × A12 × A13 × A14 × A15 × A16) (fun n s => W n s.1 s.2.1 s.2.2.1 s.2.2.2.1 s.2.2.2.2.1 s.2.2.2.2.2.1 s.2.2.2.2.2.2.1 s.2.2.2.2.2.2.2.1 s.2.2.2.2.2.2.2.2.1 s.2.2.2.2.2.2.2.2.2.1 s.2.2.2.2.2.2.2.2.2.2.1 s.2.2.2.2.2.2.2.2.2.2.2.1 s.2.2.2.2.2.2.2.2.2.2.2.2.1 s.2.2.2.2.2.2.2.2.2.2.2.2.2.1 s.2.2.2.2.2.2.2.2.2.2.2.2.2.2.1 s.2.2.2.2.2.2.2.2.2.2.2.2.2.2.2) (fun s => I s.1 s.2.1 s.2.2.1 s.2.2.2.1 s.2.2.2.2.1 s.2.2.2.2.2.1 s.2.2.2.2.2.2.1 s.2.2.2.2.2.2.2.1 s.2.2.2.2.2.2.2.2.1 s.2.2.2.2.2.2.2.2.2.1 s.2.2.2.2.2.2.2.2.2.2.1 s.2.2.2.2.2.2.2.2.2.2.2.1 s.2.2.2.2.2.2.2.2.2.2.2.2.1 s.2.2.2.2.2.2.2.2.2.2.2.2.2.1 s.2.2.2.2.2.2.2.2.2.2.2.2.2.2.1 s.2.2.2.2.2.2.2.2.2.2.2.2.2.2.2) (fun s => μ s.1 s.2.1 s.2.2.1 s.2.2.2.1 s.2.2.2.2.1 s.2.2.2.2.2.1 s.2.2.2.2.2.2.1 s.2.2.2.2.2.2.2.1 s.2.2.2.2.2.2.2.2.1 s.2.2.2.2.2.2.2.2.2.1 s.2.2.2.2.2.2.2.2.2.2.1 s.2.2.2.2.2.2.2.2.2.2.2.1 s.2.2.2.2.2.2.2.2.2.2.2.2.1 s.2.2.2.2.2.2.2.2.2.2.2.2.2.1 s.2.2.2.2.2.2.2.2.2.2.2.2.2.2.1 s.2.2.2.2.2.2.2.2.2.2.2.2.2.2.2) (fun n s hI hk => hs n s.1 s.2.1 s.2.2.1 s.2.2.2.1 s.2.2.2.2.1 s.2.2.2.2.2.1 s.2.2.2.2.2.2.1 s.2.2.2.2.2.2.2.1 s.2.2.2.2.2.2.2.2.1 s.2.2.2.2.2.2.2.2.2.1 s.2.2.2.2.2.2.2.2.2.2.1 s.2.2.2.2.2.2.2.2.2.2.2.1 s.2.2.2.2.2.2.2.2.2.2.2.2.1 s.2.2.2.2.2.2.2.2.2.2.2.2.2.1 s.2.2.2.2.2.2.2.2.2.2.2.2.2.2.1 s.2.2.2.2.2.2.2.2.2.2.2.2.2.2.2 hI (fun b1 b2 b3 b4 b5 b6 b7 b8 b9 b10 b11 b12 b13 b14 b15 b16 h9 hm => hk (b1, b2, b3, b4, b5, b6, b7, b8, b9, b10, b11, b12, b13, b14, b15, b16) h9 hm)) (a1, a2, a3, a4, a5, a6, a7, a8, a9, a10, a11, a12, a13, a14, a15, a16) h
theorem pk_least (P : Nat → Prop) (h : ∃ k, P k) : ∃ k, P k ∧ ∀ j, j < k → ¬ P j := by
  obtain ⟨k, hk⟩ := h
  induction k using Nat.strongRecOn with
  | ind k ih =>
    by_cases e : ∃ j, j < k ∧ P j
    · obtain ⟨j, hj, pj⟩ := e
      exact ih j hj pj
    · exact ⟨k, hk, fun j hj pj => e ⟨j, hj, pj⟩⟩
theorem rp1 {ρ A1 : Type} (W : Nat → (ρ → Prop) → A1 → Prop) (ok : A1 → Prop) (μ : A1 → Nat) (val : A1 → ρ)
    (hs : ∀ (d : Nat) (post : ρ → Prop) (a1 : A1), ok a1 → post (val a1) → (∀ (post' : ρ → Prop) (b1 : A1), ok b1 → μ b1 < μ a1 → post' (val b1) → W d post' b1) → W (d + 1) post a1) :
    ∀ (d : Nat) (post : ρ → Prop) (a1 : A1), ok a1 → μ a1 < d → post (val a1) → W d post a1 := by
  intro d
  induction d with
  | zero => intro post a1 _ h; omega
  | succ d ih =>
    intro post a1 ho hm hp
    exact hs d post a1 ho hp (fun post' b1 ho' hm' hp' => ih post' b1 ho' (by omega) hp')
theorem rp2 {ρ A1 A2 : Type} (W : Nat → (ρ → Prop) → A1 → A2 → Prop) (ok : A1 → A2 → Prop) (μ : A1 → A2 → Nat) (val : A1 → A2 → ρ)
    (hs : ∀ (d : Nat) (post : ρ → Prop) (a1 : A1) (a2 : A2), ok a1 a2 → post (val a1 a2) → (∀ (post' : ρ → Prop) (b1 : A1) (b2 : A2), ok b1 b2 → μ b1 b2 < μ a1 a2 → post' (val b1 b2) → W d post' b1 b2) → W (d + 1) post a1 a2) :
    ∀ (d : Nat) (post : ρ → Prop) (a1 : A1) (a2 : A2), ok a1 a2 → μ a1 a2 < d → post (val a1 a2) → W d post a1 a2 := by
  intro d
  induction d with
  | zero => intro post a1 a2 _ h; omega
  | succ d ih =>
    intro post a1 a2 ho hm hp
    exact hs d post a1 a2 ho hp (fun post' b1 b2 ho' hm' hp' => ih post' b1 b2 ho' (by omega) hp')
theorem rp3 {ρ A1 A2 A3 : Type} (W : Nat → (ρ → Prop) → A1 → A2 → A3 → Prop) (ok : A1 → A2 → A3 → Prop) (μ : A1 → A2 → A3 → Nat) (val : A1 → A2 → A3 → ρ)
    (hs : ∀ (d : Nat) (post : ρ → Prop) (a1 : A1) (a2 : A2) (a3 : A3), ok a1 a2 a3 → post (val a1 a2 a3) → (∀ (post' : ρ → Prop) (b1 : A1) (b2 : A2) (b3 : A3), ok b1 b2 b3 → μ b1 b2 b3 < μ a1 a2 a3 → post' (val b1 b2 b3) → W d post' b1 b2 b3) → W (d + 1) post a1 a2 a3) :
    ∀ (d : Nat) (post : ρ → Prop) (a1 : A1) (a2 : A2) (a3 : A3), ok a1 a2 a3 → μ a1 a2 a3 < d → post (val a1 a2 a3) → W d post a1 a2 a3 := by
  intro d
  induction d with
  | zero => intro post a1 a2 a3 _ h; omega
  | succ d ih =>
    intro post a1 a2 a3 ho hm hp
    exact hs d post a1 a2 a3 ho hp (fun post' b1 b2 b3 ho' hm' hp' => ih post' b1 b2 b3 ho' (by omega) hp')
theorem rp4 {ρ A1 A2 A3 A4 : Type} (W : Nat → (ρ → Prop) → A1 → A2 → A3 → A4 → Prop) (ok : A1 → A2 → A3 → A4 → Prop) (μ : A1 → A2 → A3 → A4 → Nat) (val : A1 → A2 → A3 → A4 → ρ)
    (hs : ∀ (d : Nat) (post : ρ → Prop) (a1 : A1) (a2 : A2) (a3 : A3) (a4 : A4), ok a1 a2 a3 a4 → post (val a1 a2 a3 a4) → (∀ (post' : ρ → Prop) (b1 : A1) (b2 : A2) (b3 : A3) (b4 : A4), ok b1 b2 b3 b4 → μ b1 b2 b3 b4 < μ a1 a2 a3 a4 → post' (val b1 b2 b3 b4) → W d post' b1 b2 b3 b4) → W (d + 1) post a1 a2 a3 a4) :
    ∀ (d : Nat) (post : ρ → Prop) (a1 : A1) (a2 : A2) (a3 : A3) (a4 : A4), ok a1 a2 a3 a4 → μ a1 a2 a3 a4 < d → post (val a1 a2 a3 a4) → W d post a1 a2 a3 a4 := by
  intro d
  induction d with
  | zero => intro post a1 a2 a3 a4 _ h; omega
  | succ d ih =>
    intro post a1 a2 a3 a4 ho hm hp
    exact hs d post a1 a2 a3 a4 ho hp (fun post' b1 b2 b3 b4 ho' hm' hp' => ih post' b1 b2 b3 b4 ho' (by omega) hp')
theorem rp5 {ρ A1 A2 A3 A4 A5 : Type} (W : Nat → (ρ → Prop) → A1 → A2 → A3 → A4 → A5 → Prop) (ok : A1 → A2 → A3 → A4 → A5 → Prop) (μ : A1 → A2 → A3 → A4 → A5 → Nat) (val : A1 → A2 → A3 → A4 → A5 → ρ)
    (hs : ∀ (d : Nat) (post : ρ → Prop) (a1 : A1) (a2 : A2) (a3 : A3) (a4 : A4) (a5 : A5), ok a1 a2 a3 a4 a5 → post (val a1 a2 a3 a4 a5) → (∀ (post' : ρ → Prop) (b1 : A1) (b2 : A2) (b3 : A3) (b4 : A4) (b5 : A5), ok b1 b2 b3 b4 b5 → μ b1 b2 b3 b4 b5 < μ a1 a2 a3 a4 a5 → post' (val b1 b2 b3 b4 b5) → W d post' b1 b2 b3 b4 b5) → W (d + 1) post a1 a2 a3 a4 a5) :
    ∀ (d : Nat) (post : ρ → Prop) (a1 : A1) (a2 : A2) (a3 : A3) (a4 : A4) (a5 : A5), ok a1 a2 a3 a4 a5 → μ a1 a2 a3 a4 a5 < d → post (val a1 a2 a3 a4 a5) → W d post a1 a2 a3 a4 a5 := by
  intro d
  induction d with
  | zero => intro post a1 a2 a3 a4 a5 _ h; omega
  | succ d ih =>
    intro post a1 a2 a3 a4 a5 ho hm hp
    exact hs d post a1 a2 a3 a4 a5 ho hp (fun post' b1 b2 b3 b4 b5 ho' hm' hp' => ih post' b1 b2 b3 b4 b5 ho' (by omega) hp')
theorem rp6 {ρ A1 A2 A3 A4 A5 A6 : Type} (W : Nat → (ρ → Prop) → A1 → A2 → A3 → A4 → A5 → A6 → Prop) (ok : A1 → A2 → A3 → A4 → A5 → A6 → Prop) (μ : A1 → A2 → A3 → A4 → A5 → A6 → Nat) (val : A1 → A2 → A3 → A4 → A5 → A6 → ρ)
    (hs : ∀ (d : Nat) (post : ρ → Prop) (a1 : A1) (a2 : A2) (a3 : A3) (a4 : A4) (a5 : A5) (a6 : A6), ok a1 a2 a3 a4 a5 a6 → post (val a1 a2 a3 a4 a5 a6) → (∀ (post' : ρ → Prop) (b1 : A1) (b2 : A2) (b3 : A3) (b4 : A4) (b5 : A5) (b6 : A6), ok b1 b2 b3 b4 b5 b6 → μ b1 b2 b3 b4 b5 b6 < μ a1 a2 a3 a4 a5 a6 → post' (val b1 b2 b3 b4 b5 b6) → W d post' b1 b2 b3 b4 b5 b6) → W (d + 1) post a1 a2 a3 a4 a5 a6) :
    ∀ (d : Nat) (post : ρ → Prop) (a1 : A1) (a2 : A2) (a3 : A3) (a4 : A4) (a5 : A5) (a6 : A6), ok a1 a2 a3 a4 a5 a6 → μ a1 a2 a3 a4 a5 a6 < d → post (val a1 a2 a3 a4 a5 a6) → W d post a1 a2 a3 a4 a5 a6 := by
  intro d
  induction d with
  | zero => intro post a1 a2 a3 a4 a5 a6 _ h; omega
  | succ d ih =>
    intro post a1 a2 a3 a4 a5 a6 ho hm hp
    exact hs d post a1 a2 a3 a4 a5 a6 ho hp (fun post' b1 b2 b3 b4 b5 b6 ho' hm' hp' => ih post' b1 b2 b3 b4 b5 b6 ho' (by omega) hp')
theorem rec_p {σ ρ : Type} (W : Nat → (ρ → Prop) → σ → Prop) (ok : σ → Prop) (μ : σ → Nat) (val : σ → ρ)
    (hs : ∀ d s post, ok s → post (val s) → (∀ s' post', ok s' → μ s' < μ s → post' (val s') → W d post' s') → W (d + 1) post s) :
    ∀ d s post, ok s → μ s < d → post (val s) → W d post s := by
  intro d
  induction d with
  | zero => intro s post _ h; omega
  | succ d ih =>
    intro s post ho hm hp
    exact hs d s post ho hp (fun s' post' ho' hm' hp' => ih s' post' ho' (by omega) hp')
theorem rec_q {σ ρ : Type} (W : Nat → (ρ → Prop) → σ → Prop) (ok : σ → Prop) (μ : σ → Nat) (Q : σ → ρ → Prop)
    (hs : ∀ d s post, ok s → (∀ r, Q s r → post r) → (∀ s' post', ok s' → μ s' < μ s → (∀ r, Q s' r → post' r) → W d post' s') → W (d + 1) post s) :
    ∀ d s post, ok s → μ s < d → (∀ r, Q s r → post r) → W d post s := by
  intro d
  induction d with
  | zero => intro s post _ h; omega
  | succ d ih =>
    intro s post ho hm hp
    exact hs d s post ho hp (fun s' post' ho' hm' hp' => ih s' post' ho' (by omega) hp')
def bx_sum (f : Nat → Int32) : Nat → Int32
  | 0 => 0
  | n + 1 => bx_sum f n + f n
theorem ek_u {A : Prop} {B : Nat → Prop} {k N : Nat} (hk : k < N) (h : B k) : (some k = none → A) ∧ (∀ y : Nat, some k = some y → (y < N ∧ B y)) :=
  ⟨fun z => absurd z (Option.some_ne_none k), fun _ e => (by cases e; exact ⟨hk, h⟩)⟩
theorem ek_nu {A : Prop} {B : Nat → Prop} (h : A) : ((none : Option Nat) = none → A) ∧ (∀ y : Nat, (none : Option Nat) = some y → B y) :=
  ⟨fun _ => h, fun _ e => (by cases e)⟩
theorem ek_if {c d A B : Prop} (e : c ↔ d) (f : d → A) (g : ¬ d → B) : (c → A) ∧ (¬ c → B) :=
  ⟨fun z => f (e.mp z), fun z => g (fun y => z (e.mpr y))⟩
theorem ek_v {α : Sort _} {P : α → Prop} {a b : α} (e : a = b) (h : P b) : P a := e ▸ h
theorem co_some {x : Option Nat} {A : Prop} {B : Nat → Prop} (i : Nat) (h : B i) (hx : x = some i := by rfl) : (x = none → A) ∧ (∀ y : Nat, x = some y → B y) := by
  subst hx
  exact ⟨fun e => (nomatch e), fun y e => Option.some.inj e ▸ h⟩
theorem co_none {x : Option Nat} {A : Prop} {B : Nat → Prop} (h : A) (hx : x = none := by rfl) : (x = none → A) ∧ (∀ y : Nat, x = some y → B y) := by
  subst hx
  exact ⟨fun _ => h, fun y e => (nomatch e)⟩
theorem co_any {x : Option Nat} {A : Prop} {B : Nat → Prop} (hn : x = none → A) (hs : ∀ i : Nat, x = some i → B i) : (x = none → A) ∧ (∀ y : Nat, x = some y → B y) := ⟨hn, hs⟩
theorem co_2 {P : Nat → Prop} (h0 : P 0) (h1 : P 1) {i : Nat} (hi : i < 2) : P i :=
  match i, hi with
  | 0, _ => h0
  | 1, _ => h1
theorem co_3 {P : Nat → Prop} (h0 : P 0) (h1 : P 1) (h2 : P 2) {i : Nat} (hi : i < 3) : P i :=
  match i, hi with
  | 0, _ => h0
  | 1, _ => h1
  | 2, _ => h2
theorem co_4 {P : Nat → Prop} (h0 : P 0) (h1 : P 1) (h2 : P 2) (h3 : P 3) {i : Nat} (hi : i < 4) : P i :=
  match i, hi with
  | 0, _ => h0
  | 1, _ => h1
  | 2, _ => h2
  | 3, _ => h3
theorem co_dec {N : Nat} {P : Nat → Prop} [DecidablePred P] (h : (List.range N).all (fun i => decide (P i)) = true) {i : Nat} (hi : i < N) : P i := by
  have := List.all_eq_true.mp h i (List.mem_range.mpr hi)
  exact of_decide_eq_true this
theorem co_tab {α : Type} {l : List α} {d : α} {P : α → Prop} (h : ∀ a, a ∈ l → P a) {i : Nat} (hi : i < l.length) : P (l.getD i d) := by
  rw [List.getD_eq_getElem?_getD, List.getElem?_eq_getElem hi]
  exact h _ (List.getElem_mem hi)
theorem pk_mu {x : Int32} {L : Nat} (h0 : ¬ x < 0) (h : ¬ nI L ≤ x) (hL : L < 2 ^ 31) : ∃ j : Nat, j < L ∧ x = nI j ∧ x + 1 = nI (j + 1) ∧ x.toNatClampNeg = j ∧ L - (x + 1).toNatClampNeg < L - x.toNatClampNeg := by
  obtain ⟨j, hj, rfl⟩ := nI_of h0
  have hl : j < L := Nat.not_le.mp fun q => h (nI_le q hj)
  refine ⟨j, hl, rfl, nI_1 j, nI_clamp hj, ?_⟩
  rw [nI_1, nI_clamp (by omega), nI_clamp hj]
  omega
theorem op_s {α : Type} {r : Option α} {A : Prop} {B : α → Prop} {y : α} (h : r = some y) (b : B y) : (r = none → A) ∧ ∀ z, r = some z → B z :=
  ⟨fun e => (by rw [h] at e; cases e), fun z e => (by rw [h] at e; cases e; exact b)⟩
def l_holds {α : Type} (a : Nat → Option Nat) (LP : List Nat) (p : Nat → α) (c : Nat) (b : Nat → α) : Prop :=
  ∀ j, j < c → ∃ y, a j = some y ∧ y ∈ LP ∧ p y = b j
theorem l_holds_0 {α : Type} {a : Nat → Option Nat} {LP : List Nat} {p b : Nat → α} : l_holds a LP p 0 b := fun j h => absurd h (Nat.not_lt_zero j)
theorem l_in_new (LP : List Nat) (q : Nat) : q ∈ LP ++ [q] := List.mem_append.mpr (Or.inr (List.mem_singleton.mpr rfl))
def l_sum (b : Nat → Int32) : Nat → Int32
  | 0 => 0
  | k + 1 => l_sum b k + b k
theorem sb_shr0 (x : Int32) : x >>> ((0 : Int32) &&& 31) = x := by
  rw [show ((0 : Int32) &&& 31) = 0 by decide]
  simp
theorem sb_shl0 (x : Int32) : x <<< ((0 : Int32) &&& 31) = x := by
  rw [show ((0 : Int32) &&& 31) = 0 by decide]
  simp
theorem sb_cl0 : (0 : Int32).toNatClampNeg = 0 := by decide
theorem sb_m1 {p : Nat} (h : 0 < p) : nI p + (-1) = nI (p - 1) := by
  obtain ⟨q, rfl⟩ : ∃ q, p = q + 1 := ⟨p - 1, by omega⟩
  exact pk_m1 q
def sb_b (c : Nat) : Int32 := (nI c).toInt8.toInt32
theorem sb_byte : ∀ c, c < 256 → sb_b c &&& 255 = nI c ∧ ((nI c).toUInt32 % 65536).toInt32 = nI c ∧ nI c ≤ 255 := by decide +kernel
def sb_Fit (a : Nat → Int32) : Prop := ∀ j, fits .byte (.int (a j)) = true
def sb_Lat (t : Nat → Nat) (n : Nat) (a : Nat → Int32) : Prop := ∀ j, j < n → t j < 256 ∧ a j = sb_b (t j)
theorem sb_fitB (c : Nat) : fits .byte (.int (sb_b c)) = true := pk_fb _
theorem sb_fit0 : sb_Fit (fun _ => 0) := fun _ => by
  show fits .byte (.int 0) = true
  decide
theorem sb_fitU {a : Nat → Int32} {k : Nat} {x : Int32} (h : sb_Fit a) (hx : fits .byte (.int x) = true) : sb_Fit (upd a k x) := by
  intro j
  by_cases e : j = k
  · subst e
    rw [pk_us]
    exact hx
  · rw [pk_un e]
    exact h j
def sb_cat (t : Nat → Nat) (n : Nat) (s : Nat → Nat) : Nat → Nat := fun j => if j < n then t j else s (j - n)
theorem sb_cat_lo {t s : Nat → Nat} {n j : Nat} (h : j < n) : sb_cat t n s j = t j := if_pos h
theorem sb_cat_hi {t s : Nat → Nat} {n j : Nat} : sb_cat t n s (n + j) = s j := by
  show (if n + j < n then t (n + j) else s (n + j - n)) = s j
  rw [if_neg (by omega), Nat.add_sub_cancel_left]
theorem sb_latPut {t s : Nat → Nat} {n w : Nat} {a a' : Nat → Int32} (h : sb_Lat t n a) (hk : ∀ j, j < n → a' j = a j) (hs : ∀ i, i < w → s i < 256 ∧ a' (n + i) = sb_b (s i)) : sb_Lat (sb_cat t n s) (n + w) a' := by
  intro j hj
  by_cases e : j < n
  · rw [sb_cat_lo e, hk j e]
    exact h j e
  · obtain ⟨i, rfl⟩ : ∃ i, j = n + i := ⟨j - n, by omega⟩
    rw [sb_cat_hi]
    exact hs i (by omega)
theorem sb_latKeep {t : Nat → Nat} {n : Nat} {a a' : Nat → Int32} (h : sb_Lat t n a) (hk : ∀ j, j < n → a' j = a j) : sb_Lat t n a' := fun j hj => by
  rw [hk j hj]
  exact h j hj
def sb_cap (q m : Nat) : Nat := if q ≤ m then m else if 2 * m + 2 < q then q else 2 * m + 2
def sb_Room (q m mc ms : Nat) : Prop := q ≤ m ∨ (1 ≤ mc ∧ sb_cap q m ≤ ms ∧ sb_cap q m ≤ 65536)
theorem sb_cap_ge (q m : Nat) : q ≤ sb_cap q m := by
  unfold sb_cap
  split
  · omega
  · split <;> omega
theorem sb_cap_gem (q m : Nat) : m ≤ sb_cap q m := by
  unfold sb_cap
  split
  · omega
  · split <;> omega
theorem sb_cap_le {q m mc ms : Nat} (hm : m ≤ 65536) (hr : sb_Room q m mc ms) : sb_cap q m ≤ 65536 := by
  rcases hr with h | h
  · rw [sb_cap, if_pos h]
    exact hm
  · exact h.2.2
theorem sb_at {P : Int32 → Prop} {x y : Int32} (e : x = y) (h : P y) : P x := e ▸ h
def sb_dg (w : Nat) : Nat := if w < 10 then 1 else if w < 100 then 2 else if w < 1000 then 3 else if w < 10000 then 4 else if w < 100000 then 5 else if w < 1000000 then 6 else if w < 10000000 then 7 else if w < 100000000 then 8 else if w < 1000000000 then 9 else 10
def sb_dec (v : Nat) : Nat → Nat := fun i => 48 + v / 10 ^ (sb_dg v - 1 - i) % 10
theorem sb_dg_in (w : Nat) : 1 ≤ sb_dg w ∧ sb_dg w ≤ 10 := by
  unfold sb_dg
  constructor <;> (repeat' split) <;> omega
theorem sb_dg100 {w : Nat} (h : 100 ≤ w) (hw : w < 2 ^ 31) : sb_dg w = sb_dg (w / 100) + 2 := by
  rw [sb_dg, sb_dg, if_neg (show ¬ w < 10 by omega), if_neg (show ¬ w < 100 by omega)]
  by_cases h3 : w < 1000
  · rw [if_pos h3, if_pos (show w / 100 < 10 by omega)]
  rw [if_neg h3, if_neg (show ¬ w / 100 < 10 by omega)]
  by_cases h4 : w < 10000
  · rw [if_pos h4, if_pos (show w / 100 < 100 by omega)]
  rw [if_neg h4, if_neg (show ¬ w / 100 < 100 by omega)]
  by_cases h5 : w < 100000
  · rw [if_pos h5, if_pos (show w / 100 < 1000 by omega)]
  rw [if_neg h5, if_neg (show ¬ w / 100 < 1000 by omega)]
  by_cases h6 : w < 1000000
  · rw [if_pos h6, if_pos (show w / 100 < 10000 by omega)]
  rw [if_neg h6, if_neg (show ¬ w / 100 < 10000 by omega)]
  by_cases h7 : w < 10000000
  · rw [if_pos h7, if_pos (show w / 100 < 100000 by omega)]
  rw [if_neg h7, if_neg (show ¬ w / 100 < 100000 by omega)]
  by_cases h8 : w < 100000000
  · rw [if_pos h8, if_pos (show w / 100 < 1000000 by omega)]
  rw [if_neg h8, if_neg (show ¬ w / 100 < 1000000 by omega)]
  by_cases h9 : w < 1000000000
  · rw [if_pos h9, if_pos (show w / 100 < 10000000 by omega)]
  rw [if_neg h9, if_neg (show ¬ w / 100 < 10000000 by omega)]
  rw [if_pos (show w / 100 < 100000000 by omega)]
theorem sb_negT {w : Nat} (h : w < 2 ^ 31) : (-nI w).toInt = -(w : Int) := by
  rw [Int32.toInt_neg, nI_toInt h]
  exact Int.bmod_eq_of_le (by omega) (by omega)
theorem sb_nle {a b : Nat} (ha : a < 2 ^ 31) (hb : b < 2 ^ 31) : -nI a ≤ -nI b ↔ b ≤ a := by
  rw [Int32.le_iff_toInt_le, sb_negT ha, sb_negT hb]
  omega
theorem sb_nlt {a b : Nat} (ha : a < 2 ^ 31) (hb : b < 2 ^ 31) : -nI a < -nI b ↔ b < a := by
  rw [Int32.lt_iff_toInt_lt, sb_negT ha, sb_negT hb]
  omega
theorem sb_cmp {A B : Prop} {x : Int32} (v c : Nat) (f : c ≤ v → A) (g : v < c → B) (hv : v < 2 ^ 31) (hx : x = -nI c := by rfl) (hc : c < 2 ^ 31 := by omega) : (-nI v ≤ x → A) ∧ (¬ -nI v ≤ x → B) := by
  subst hx
  rw [sb_nle hv hc]
  exact ⟨f, fun z => g (by omega)⟩
theorem sb_ndiv {w : Nat} (hw : w < 2 ^ 31) : (-nI w) / 100 = -nI (w / 100) := by
  apply Int32.toInt_inj.mp
  have h100 : (100 : Int32).toInt = 100 := by decide
  rw [Int32.toInt_div, sb_negT hw, h100, sb_negT (by omega), Int.neg_tdiv, Int.tdiv_eq_ediv_of_nonneg (by omega), Int.bmod_eq_of_le (by omega) (by omega)]
  omega
theorem sb_nrem {w : Nat} (hw : w < 2 ^ 31) : (-nI (w / 100)) * 100 - (-nI w) = nI (w % 100) := by
  have h := pk_rem (a := w) (d := 100) hw (by decide) (by decide)
  rw [pk_div hw (by decide) (by decide)] at h
  rw [← h]
  show (-nI (w / 100)) * nI 100 - (-nI w) = nI w - nI (w / 100) * nI 100
  rw [Int32.neg_mul, Int32.sub_neg, Int32.add_comm, ← Int32.sub_eq_add_neg]
end
section
/-! rows on bits, shifts and unsigned numbers, to paste: each family out of a closed proof of our own, whole with what it rests on; each by itself clean at Lean in its own claim (generation 39, form 5). Take a family whole -/
/-! ===== Int32 by its bits: bt x i ===== -/
def bt (x : Int32) (i : Nat) : Bool := x.toBitVec.getLsbD i
theorem b_ext {x y : Int32} (h : ∀ i, i < 32 → bt x i = bt y i) : x = y := Int32.toBitVec_inj.mp (BitVec.eq_of_getLsbD_eq (fun i hi => h i hi))
theorem b_or (x y : Int32) (i : Nat) : bt (x ||| y) i = (bt x i || bt y i) := by unfold bt; rw [Int32.toBitVec_or, BitVec.getLsbD_or]
theorem b_and (x y : Int32) (i : Nat) : bt (x &&& y) i = (bt x i && bt y i) := by unfold bt; rw [Int32.toBitVec_and, BitVec.getLsbD_and]
theorem b_xor (x y : Int32) (i : Nat) : bt (x ^^^ y) i = (bt x i ^^ bt y i) := by unfold bt; rw [Int32.toBitVec_xor, BitVec.getLsbD_xor]
theorem b_big {x : Int32} {i : Nat} (h : 32 ≤ i) : bt x i = false := BitVec.getLsbD_of_ge _ _ h
theorem b_255 (i : Nat) : bt 255 i = decide (i < 8) := by
  rcases Nat.lt_or_ge i 32 with h | h
  · exact (by decide +kernel : ∀ i, i < 32 → bt 255 i = decide (i < 8)) i h
  · rw [b_big h, decide_eq_false (by omega)]
theorem b_65535 (i : Nat) : bt 65535 i = decide (i < 16) := by
  rcases Nat.lt_or_ge i 32 with h | h
  · exact (by decide +kernel : ∀ i, i < 32 → bt 65535 i = decide (i < 16)) i h
  · rw [b_big h, decide_eq_false (by omega)]
theorem b_m1 : ∀ i, i < 32 → bt (-1) i = true := by decide +kernel
theorem b_0 (i : Nat) : bt 0 i = false := BitVec.getLsbD_zero
theorem s_l : ∀ n, n < 32 → ((nI n &&& 31).toBitVec.smod 32).toNat = n := by decide +kernel
theorem s_u : ∀ n, n < 32 → (((nI n).toUInt32 &&& Int32.toUInt32 31).toBitVec % 32).toNat = n := by decide +kernel
theorem b_shl (n : Nat) (hn : n < 32) (x : Int32) {i : Nat} (hi : i < 32) : bt (x <<< (nI n &&& 31)) i = (decide (n ≤ i) && bt x (i - n)) := by
  unfold bt
  rw [Int32.toBitVec_shiftLeft]
  show (x.toBitVec <<< ((nI n &&& 31).toBitVec.smod 32).toNat).getLsbD i = _
  rw [s_l n hn, BitVec.getLsbD_shiftLeft]
  rcases Nat.lt_or_ge i n with h | h
  · simp [h, Nat.not_le.mpr h]
  · simp [hi, h, Nat.not_lt.mpr h]
theorem b_ushr (n : Nat) (hn : n < 32) (x : Int32) (i : Nat) : bt ((x.toUInt32 >>> ((nI n).toUInt32 &&& Int32.toUInt32 31)).toInt32) i = bt x (n + i) := by
  show (x.toUInt32 >>> ((nI n).toUInt32 &&& Int32.toUInt32 31)).toBitVec.getLsbD i = x.toUInt32.toBitVec.getLsbD (n + i)
  rw [UInt32.toBitVec_shiftRight]
  show (x.toUInt32.toBitVec >>> (((nI n).toUInt32 &&& Int32.toUInt32 31).toBitVec % 32).toNat).getLsbD i = _
  rw [s_u n hn, BitVec.getLsbD_ushiftRight]
theorem b_sshr (n : Nat) (hn : n < 32) (x : Int32) {i : Nat} (hi : i < 32) : bt (x >>> (nI n &&& 31)) i = if n + i < 32 then bt x (n + i) else bt x 31 := by
  unfold bt
  rw [Int32.toBitVec_shiftRight]
  show (x.toBitVec.sshiftRight ((nI n &&& 31).toBitVec.smod 32).toNat).getLsbD i = _
  rw [s_l n hn, BitVec.getLsbD_sshiftRight, BitVec.msb_eq_getLsbD_last]
  simp [hi]
theorem b_shl8 (x : Int32) {i : Nat} (hi : i < 32) : bt (x <<< ((8 : Int32) &&& 31)) i = (decide (8 ≤ i) && bt x (i - 8)) := b_shl 8 (by omega) x hi
theorem b_shl16 (x : Int32) {i : Nat} (hi : i < 32) : bt (x <<< ((16 : Int32) &&& 31)) i = (decide (16 ≤ i) && bt x (i - 16)) := b_shl 16 (by omega) x hi
theorem b_shl24 (x : Int32) {i : Nat} (hi : i < 32) : bt (x <<< ((24 : Int32) &&& 31)) i = (decide (24 ≤ i) && bt x (i - 24)) := b_shl 24 (by omega) x hi
theorem b_sshr8 (x : Int32) {i : Nat} (hi : i < 32) : bt (x >>> ((8 : Int32) &&& 31)) i = if 8 + i < 32 then bt x (8 + i) else bt x 31 := b_sshr 8 (by omega) x hi
/-! ===== nI under and, xor, >>>, one bit, 65535 ===== -/
theorem nx_and (a b : Nat) : nI a &&& nI b = nI (a &&& b) := by
  apply Int32.toBitVec_inj.1
  show BitVec.ofNat 32 a &&& BitVec.ofNat 32 b = BitVec.ofNat 32 (a &&& b)
  apply BitVec.eq_of_getLsbD_eq
  intro i hi
  simp [hi]
theorem nx_xor (a b : Nat) : nI a ^^^ nI b = nI (a ^^^ b) := by
  apply Int32.toBitVec_inj.1
  show BitVec.ofNat 32 a ^^^ BitVec.ofNat 32 b = BitVec.ofNat 32 (a ^^^ b)
  apply BitVec.eq_of_getLsbD_eq
  intro i hi
  simp [hi]
theorem nx_cnt : ∀ j : Fin 32, (UInt32.ofNat j.val &&& Int32.toUInt32 31).toNat % 32 = j.val := by decide +kernel
theorem nx_ush {k j : Nat} (hk : k < 65536) (hj : j < 32) : ((nI k).toUInt32 >>> ((nI j).toUInt32 &&& Int32.toUInt32 31)).toInt32 = nI (k >>> j) := by
  have hs : k >>> j ≤ k := by
    rw [Nat.shiftRight_eq_div_pow]
    exact Nat.div_le_self _ _
  have e2 : UInt32.ofNat k >>> (UInt32.ofNat j &&& Int32.toUInt32 31) = UInt32.ofNat (k >>> j) := by
    apply UInt32.toNat_inj.1
    have h1 : (UInt32.ofNat k).toNat = k := Nat.mod_eq_of_lt (by omega)
    have h2 : (UInt32.ofNat (k >>> j)).toNat = k >>> j := Nat.mod_eq_of_lt (by omega)
    rw [UInt32.toNat_shiftRight, nx_cnt ⟨j, hj⟩, h1, h2]
  show (UInt32.ofNat k >>> (UInt32.ofNat j &&& Int32.toUInt32 31)).toInt32 = _
  rw [e2]
  rfl
theorem nx_bit {k j : Nat} (hk : k < 65536) (hj : j < 16) : (((nI k).toUInt32 >>> ((nI j).toUInt32 &&& Int32.toUInt32 31)).toInt32 &&& 1) = 0 ↔ k.testBit j = false := by
  rw [nx_ush hk (by omega)]
  show nI (k >>> j) &&& nI 1 = 0 ↔ _
  rw [nx_and, Nat.and_one_is_mod, ← nI_0, nI_eq (by omega) (by omega), Nat.testBit_eq_decide_div_mod_eq, Nat.shiftRight_eq_div_pow, decide_eq_false_iff_not]
  generalize k / 2 ^ j = z
  omega
theorem nx_mod (k : Nat) : nI k &&& 65535 = nI (k % 65536) := by
  show nI k &&& nI 65535 = _
  rw [nx_and, show (65535 : Nat) = 2 ^ 16 - 1 from rfl, Nat.and_two_pow_sub_one_eq_mod]
theorem nx_m16 {k : Nat} (h : k < 65536) : nI k &&& 65535 = nI k := by rw [nx_mod, Nat.mod_eq_of_lt h]
theorem nx_mask (x : Int32) : ∃ k, k < 65536 ∧ x &&& 65535 = nI k := by
  have e : x = nI x.toBitVec.toNat := by
    apply Int32.toBitVec_inj.1
    show x.toBitVec = BitVec.ofNat 32 x.toBitVec.toNat
    simp
  refine ⟨x.toBitVec.toNat % 65536, Nat.mod_lt _ (by omega), ?_⟩
  rw [← nx_mod, ← e]
/-! ===== Int32 as a set of bits: test, set ===== -/
def nf_M (m : Int32) : Nat := 4294967296 - m.toBitVec.toNat
theorem nf_sh : ∀ l, l < 32 → ((1 : Int32) <<< (nI l &&& 31)).toBitVec = BitVec.twoPow 32 l := by decide +kernel
theorem nf_sl : ∀ l, l < 32 → (((nI l).toUInt32 &&& Int32.toUInt32 31).toBitVec % 32).toNat = l := by decide +kernel
theorem nf_tp : ∀ l, l < 32 → BitVec.twoPow 32 l ≠ 0#32 := by decide +kernel
theorem nf_bit (m : Int32) (l : Nat) (hl : l < 32) : ((m.toUInt32 >>> ((nI l).toUInt32 &&& Int32.toUInt32 31)).toInt32 &&& 1) = 0 ↔ (m &&& ((1 : Int32) <<< (nI l &&& 31))) = 0 := by
  have e : ((m.toUInt32 >>> ((nI l).toUInt32 &&& Int32.toUInt32 31)).toInt32).toBitVec = m.toBitVec >>> l := by
    show m.toBitVec >>> (((nI l).toUInt32 &&& Int32.toUInt32 31).toBitVec % 32) = m.toBitVec >>> l
    rw [BitVec.ushiftRight_eq', nf_sl l hl]
  rw [← Int32.toBitVec_inj, ← Int32.toBitVec_inj, Int32.toBitVec_and, Int32.toBitVec_and, nf_sh l hl, e, BitVec.and_twoPow]
  show (m.toBitVec >>> l &&& 1#32) = 0#32 ↔ _ = 0#32
  rw [BitVec.and_one_eq_setWidth_ofBool_getLsbD, BitVec.getLsbD_ushiftRight, Nat.add_zero]
  cases hb : m.toBitVec.getLsbD l
  · exact ⟨fun _ => by simp, fun _ => by decide⟩
  · exact ⟨fun z => absurd z (by decide), fun z => absurd ((if_pos rfl).symm.trans z) (nf_tp l hl)⟩
theorem nf_gr (m k : Int32) (h : m &&& k = 0) (hk : k ≠ 0) : nf_M (m ||| k) < nf_M m := by
  have hm := m.toBitVec.isLt
  have hm' := (m ||| k).toBitVec.isLt
  have h1 : m.toBitVec.toNat ≤ (m ||| k).toBitVec.toNat := by
    rw [Int32.toBitVec_or, BitVec.toNat_or]
    exact Nat.left_le_or
  have h2 : m.toBitVec.toNat ≠ (m ||| k).toBitVec.toNat := by
    intro e
    have e2 : m = m ||| k := Int32.toBitVec_inj.mp (BitVec.eq_of_toNat_eq e)
    apply hk
    apply Int32.toBitVec_inj.mp
    show k.toBitVec = 0#32
    apply BitVec.eq_of_getLsbD_eq
    intro i hi
    have a : m.toBitVec.getLsbD i = (m.toBitVec.getLsbD i || k.toBitVec.getLsbD i) := by rw [← BitVec.getLsbD_or, ← Int32.toBitVec_or, ← e2]
    have b : (m.toBitVec.getLsbD i && k.toBitVec.getLsbD i) = false := by
      rw [← BitVec.getLsbD_and, ← Int32.toBitVec_and, h]
      exact BitVec.getLsbD_zero
    rw [BitVec.getLsbD_zero]
    revert a b
    cases m.toBitVec.getLsbD i <;> cases k.toBitVec.getLsbD i <;> simp
  unfold nf_M
  omega
/-! ===== a byte read unsigned ===== -/
theorem bp_b (x : Int32) : x.toInt8.toInt32 &&& 255 = x &&& 255 := by
  apply Int32.toBitVec_inj.mp
  rw [Int32.toBitVec_and, Int32.toBitVec_and, Int8.toBitVec_toInt32, Int32.toBitVec_toInt8]
  apply BitVec.eq_of_getLsbD_eq
  intro i hi
  rw [BitVec.getLsbD_and, BitVec.getLsbD_and]
  have hm : ∀ i < 32, 8 ≤ i → (255 : Int32).toBitVec.getLsbD i = false := by decide
  rcases Nat.lt_or_ge i 8 with z | z
  · rw [BitVec.getLsbD_signExtend, BitVec.getLsbD_signExtend, if_pos z, if_pos hi]
    simp only [z, hi, decide_true, Bool.true_and]
  · rw [hm i hi z]; simp
/-! ===== the char cast and 65535 ===== -/
theorem em_w (v : Int32) : ∃ w : Nat, w < 65536 ∧ (v.toUInt32 % 65536).toInt32 = nI w ∧ v &&& 65535 = nI w := by
  have hr := lw_u16_r v
  have h0 : (0 : Int32).toInt = 0 := by decide
  obtain ⟨w, h1, h2⟩ := nI_of (x := lw_u16 v) (by rw [Int32.lt_iff_toInt_lt]; omega)
  have h3 : (v.toUInt32 % 65536).toInt32 = nI w := h2
  rw [h2, nI_toInt h1] at hr
  exact ⟨w, by omega, h3, by rw [← lg_i2c_mask, ← lg_i2c_nf, h3]⟩
/-! ===== Int64 as a set of bits: test, set, clear ===== -/
theorem ts_nf {x : Bool} (h : ¬ x = false) : x = true := by cases x <;> first | rfl | exact absurd rfl h
theorem ts_nt {x : Bool} (h : ¬ x = true) : x = false := by cases x <;> first | rfl | exact absurd rfl h
theorem ts_bit {w : Int64} {s : UInt64} {j : Nat} (hj : j < 64) (hs : s.toNat = j) : ((w.toUInt64 >>> s).toInt64 &&& 1) = 0 ↔ w.toBitVec.getLsbD j = false := by
  have e : (w.toUInt64 >>> s).toInt64.toBitVec = w.toBitVec >>> j := by
    apply BitVec.eq_of_toNat_eq
    show (w.toUInt64 >>> s).toNat = _
    rw [UInt64.toNat_shiftRight, hs, Nat.mod_eq_of_lt hj, BitVec.toNat_ushiftRight]
    rfl
  rw [← Int64.toBitVec_inj, Int64.toBitVec_and, e]
  show w.toBitVec >>> j &&& 1#64 = 0#64 ↔ _
  constructor
  · intro h
    have t := congrArg (fun x => x.getLsbD 0) h
    simpa using t
  · intro h
    apply BitVec.eq_of_getLsbD_eq
    intro i hi
    cases i with
    | zero => simp [h]
    | succ i => simp
theorem ts_or {w m : Int64} {j : Nat} (hj : j < 64) (hm : m.toBitVec = BitVec.twoPow 64 j) : (w ||| m) = w ↔ w.toBitVec.getLsbD j = true := by
  rw [← Int64.toBitVec_inj, Int64.toBitVec_or, hm]
  constructor
  · intro h
    have t := congrArg (fun x => x.getLsbD j) h
    simp only [BitVec.getLsbD_or, BitVec.getLsbD_twoPow] at t
    simpa [hj] using t.symm
  · intro h
    apply BitVec.eq_of_getLsbD_eq
    intro i hi
    rw [BitVec.getLsbD_or, BitVec.getLsbD_twoPow]
    by_cases e : j = i
    · subst e; rw [h, Bool.true_or]
    · simp [e]
theorem ts_and {w m : Int64} {j : Nat} (hj : j < 64) (hm : m.toBitVec = BitVec.twoPow 64 j) : (w &&& (m ^^^ (-1))) = w ↔ w.toBitVec.getLsbD j = false := by
  have ha : (-1 : Int64).toBitVec = BitVec.allOnes 64 := by decide
  rw [← Int64.toBitVec_inj, Int64.toBitVec_and, Int64.toBitVec_xor, hm, ha]
  constructor
  · intro h
    have t := congrArg (fun x => x.getLsbD j) h
    simp only [BitVec.getLsbD_and, BitVec.getLsbD_xor, BitVec.getLsbD_twoPow, BitVec.getLsbD_allOnes] at t
    simpa [hj] using t.symm
  · intro h
    apply BitVec.eq_of_getLsbD_eq
    intro i hi
    rw [BitVec.getLsbD_and, BitVec.getLsbD_xor, BitVec.getLsbD_twoPow, BitVec.getLsbD_allOnes]
    by_cases e : j = i
    · subst e; rw [h, Bool.false_and]
    · simp [e, hi]
/-! ===== lN n to 2^64: shifts, and, or, masks, one bit ===== -/
theorem wb_tb (n : Nat) : (lN n).toBitVec = BitVec.ofNat 64 n := rfl
theorem wb_inj {a b : Int64} (h : a.toBitVec = b.toBitVec) : a = b := Int64.toBitVec_inj.mp h
theorem wb_tn {n : Nat} (h : n < 2 ^ 64) : (lN n).toBitVec.toNat = n := by rw [wb_tb, BitVec.toNat_ofNat, Nat.mod_eq_of_lt h]
theorem wb_of (x : Int64) : ∃ n, n < 2 ^ 64 ∧ x = lN n := ⟨x.toBitVec.toNat, x.toBitVec.isLt, wb_inj (by rw [wb_tb]; simp)⟩
theorem wb_of32 (x : Int32) : ∃ n, n < 2 ^ 32 ∧ x = nI n := ⟨x.toBitVec.toNat, x.toBitVec.isLt, Int32.toBitVec_inj.mp (by show _ = BitVec.ofNat 32 _; simp)⟩
theorem wb_c : ∀ k, k < 64 → ((nI k).toInt64 &&& 63) = lN k := by decide +kernel
theorem wb_cu : ∀ k, k < 64 → ((nI k).toInt64.toUInt64 &&& Int64.toUInt64 63) = UInt64.ofNat k := by decide +kernel
theorem wb_sm : ∀ k, k < 64 → (BitVec.ofNat 64 k).smod 64 = BitVec.ofNat 64 k := by decide +kernel
theorem wb_pw {a b : Nat} (h : a ≤ b) : 2 ^ b = 2 ^ a * 2 ^ (b - a) := by rw [← Nat.pow_add]; congr 1; omega
theorem wb_lt2 {a b : Nat} (h : a < b) : 2 ^ a < 2 ^ b := Nat.pow_lt_pow_right (by decide) h
theorem wb_mod (n : Nat) : lN n = lN (n % 2 ^ 64) := wb_inj (by rw [wb_tb, wb_tb]; apply BitVec.eq_of_toNat_eq; rw [BitVec.toNat_ofNat, BitVec.toNat_ofNat, Nat.mod_mod])
theorem wb_shr {n k : Nat} (hn : n < 2 ^ 64) (hk : k < 64) : ((lN n).toUInt64 >>> ((nI k).toInt64.toUInt64 &&& Int64.toUInt64 63)).toInt64 = lN (n / 2 ^ k) := by
  rw [wb_cu k hk]
  apply wb_inj
  apply BitVec.eq_of_toNat_eq
  show ((lN n).toUInt64 >>> UInt64.ofNat k).toNat = (BitVec.ofNat 64 _).toNat
  have h1 : (UInt64.ofNat k).toNat = k := by
    show (BitVec.ofNat 64 k).toNat = k
    rw [BitVec.toNat_ofNat, Nat.mod_eq_of_lt (by omega)]
  have h2 : (lN n).toUInt64.toNat = n := wb_tn hn
  rw [UInt64.toNat_shiftRight, h1, h2, Nat.mod_eq_of_lt hk, Nat.shiftRight_eq_div_pow, BitVec.toNat_ofNat, Nat.mod_eq_of_lt (Nat.lt_of_le_of_lt (Nat.div_le_self _ _) hn)]
theorem wb_shl (n : Nat) {k : Nat} (hk : k < 64) : lN n <<< ((nI k).toInt64 &&& 63) = lN (n * 2 ^ k) := by
  rw [wb_c k hk]
  apply wb_inj
  rw [Int64.toBitVec_shiftLeft, wb_tb, wb_tb, wb_tb, wb_sm k hk]
  apply BitVec.eq_of_toNat_eq
  rw [BitVec.shiftLeft_eq', BitVec.toNat_shiftLeft, BitVec.toNat_ofNat, BitVec.toNat_ofNat, BitVec.toNat_ofNat, Nat.mod_eq_of_lt (show k < 2 ^ 64 by omega), Nat.shiftLeft_eq, Nat.mul_mod, Nat.mod_mod, ← Nat.mul_mod]
theorem wb_and {a b : Nat} (ha : a < 2 ^ 64) (hb : b < 2 ^ 64) : lN a &&& lN b = lN (a &&& b) := by
  apply wb_inj
  rw [Int64.toBitVec_and, wb_tb, wb_tb, wb_tb]
  apply BitVec.eq_of_toNat_eq
  rw [BitVec.toNat_and, BitVec.toNat_ofNat, BitVec.toNat_ofNat, BitVec.toNat_ofNat, Nat.mod_eq_of_lt ha, Nat.mod_eq_of_lt hb, Nat.mod_eq_of_lt (Nat.and_lt_two_pow _ hb)]
theorem wb_or {a b : Nat} (ha : a < 2 ^ 64) (hb : b < 2 ^ 64) : lN a ||| lN b = lN (a ||| b) := by
  apply wb_inj
  rw [Int64.toBitVec_or, wb_tb, wb_tb, wb_tb]
  apply BitVec.eq_of_toNat_eq
  rw [BitVec.toNat_or, BitVec.toNat_ofNat, BitVec.toNat_ofNat, BitVec.toNat_ofNat, Nat.mod_eq_of_lt ha, Nat.mod_eq_of_lt hb, Nat.mod_eq_of_lt (Nat.or_lt_two_pow ha hb)]
theorem wb_mask {n k : Nat} (hn : n < 2 ^ 64) (hk : k < 64) : lN n &&& lN (2 ^ k - 1) = lN (n % 2 ^ k) := by
  rw [wb_and hn (by have := wb_lt2 hk; omega), Nat.and_two_pow_sub_one_eq_mod]
theorem wb_a1 {n : Nat} (hn : n < 2 ^ 64) : lN n &&& 1 = lN (n % 2) := wb_mask (k := 1) hn (by decide)
theorem wb_bit {n k : Nat} (hn : n < 2 ^ 64) (hk : k < 64) : ((lN n).toUInt64 >>> ((nI k).toInt64.toUInt64 &&& Int64.toUInt64 63)).toInt64 &&& 1 = lN (n / 2 ^ k % 2) := by
  rw [wb_shr hn hk, wb_a1 (Nat.lt_of_le_of_lt (Nat.div_le_self _ _) hn)]
theorem wb_xor {q k : Nat} (hk : k < 63) (h : 2 ^ k ≤ q) (h2 : q < 2 ^ (k + 1)) : lN q ^^^ lN (2 ^ k) = lN (q - 2 ^ k) := by
  obtain ⟨r, rfl⟩ : ∃ r, q = 2 ^ k + r := ⟨q - 2 ^ k, by omega⟩
  have hr : r < 2 ^ k := by rw [Nat.pow_succ] at h2; omega
  have hx : (2 ^ k + r) ^^^ 2 ^ k = r := by
    apply Nat.eq_of_testBit_eq
    intro i
    rw [Nat.testBit_xor, Nat.testBit_two_pow]
    rcases Nat.lt_trichotomy i k with h | h | h
    · rw [Nat.testBit_two_pow_add_gt h]
      simp [show ¬ k = i by omega]
    · subst h
      rw [Nat.testBit_two_pow_add_eq]
      simp
    · have a1 : 2 ^ (k + 1) ≤ 2 ^ i := Nat.pow_le_pow_right (by decide) h
      rw [Nat.testBit_lt_two_pow (show 2 ^ k + r < 2 ^ i by omega), Nat.testBit_lt_two_pow (show r < 2 ^ i by omega)]
      simp [show ¬ k = i by omega]
  have b1 := wb_lt2 (show k + 1 < 64 by omega)
  have b2 := wb_lt2 (show k < 64 by omega)
  apply wb_inj
  rw [Int64.toBitVec_xor, wb_tb, wb_tb, wb_tb]
  apply BitVec.eq_of_toNat_eq
  rw [BitVec.toNat_xor, BitVec.toNat_ofNat, BitVec.toNat_ofNat, BitVec.toNat_ofNat, Nat.mod_eq_of_lt (by omega : 2 ^ k + r < 2 ^ 64), Nat.mod_eq_of_lt b2, hx, Nat.add_sub_cancel_left, Nat.mod_eq_of_lt (by omega)]
/-! ===== lN: masks, 'or' of parts that don't overlap is a sum ===== -/
theorem u_tn {n : Nat} (h : n < 2 ^ 64) : (UInt64.ofNat n).toNat = n := Nat.mod_eq_of_lt h
theorem g_and {a b c : Nat} (ha : a < 2 ^ 64) (hb : b < 2 ^ 64) (hc : a &&& b = c) : lN a &&& lN b = lN c := by
  subst hc
  have h : UInt64.ofNat a &&& UInt64.ofNat b = UInt64.ofNat (a &&& b) := UInt64.toNat_inj.mp (by rw [UInt64.toNat_and, u_tn ha, u_tn hb, u_tn (Nat.and_lt_two_pow a hb)])
  have h2 := congrArg UInt64.toInt64 h
  exact h2
theorem g_and1 {a : Nat} (ha : a < 2 ^ 64) : lN a &&& 1 = lN (a % 2) := g_and (b := 1) ha (by decide) (Nat.and_two_pow_sub_one_eq_mod a 1)
theorem g_mask {a s p : Nat} (hp : 2 ^ s = p) (hs : s < 64) (ha : a < 2 ^ 64) : lN a &&& lN (p - 1) = lN (a % p) := by
  subst hp
  have := Nat.pow_lt_pow_right (show 1 < 2 by decide) hs
  exact g_and ha (by omega) (Nat.and_two_pow_sub_one_eq_mod a s)
theorem g_or {k p a b : Nat} (hp : 2 ^ k = p) (ha : a < p) (h : b * p + a < 2 ^ 64) : lN (b * p) ||| lN a = lN (b * p + a) := by
  subst hp
  have h1 : b * 2 ^ k ||| a = b * 2 ^ k + a := by rw [← Nat.shiftLeft_eq, Nat.shiftLeft_add_eq_or_of_lt ha]
  have h3 : UInt64.ofNat (b * 2 ^ k) ||| UInt64.ofNat a = UInt64.ofNat (b * 2 ^ k + a) := UInt64.toNat_inj.mp (by rw [UInt64.toNat_or, u_tn (by omega), u_tn (by omega), u_tn h, h1])
  have h2 := congrArg UInt64.toInt64 h3
  exact h2
theorem g_or' {k p a b : Nat} (hp : 2 ^ k = p) (ha : a < p) (h : a + b * p < 2 ^ 64) : lN a ||| lN (b * p) = lN (a + b * p) := by
  rw [Int64.or_comm, g_or hp ha (by omega), Nat.add_comm]
theorem g_ushr {a k p : Nat} {y : UInt64} (hy : y = UInt64.ofNat k) (hk : k < 64) (hp : 2 ^ k = p) (ha : a < 2 ^ 64) : ((lN a).toUInt64 >>> y).toInt64 = lN (a / p) := by
  subst hy hp
  have h : UInt64.ofNat a >>> UInt64.ofNat k = UInt64.ofNat (a / 2 ^ k) := UInt64.toNat_inj.mp (by rw [UInt64.toNat_shiftRight, u_tn ha, u_tn (by omega), u_tn (Nat.lt_of_le_of_lt (Nat.div_le_self _ _) ha), Nat.mod_eq_of_lt hk, Nat.shiftRight_eq_div_pow])
  have h2 := congrArg UInt64.toInt64 h
  exact h2
theorem g_shl {a k p : Nat} {y : Int64} (hy : y.toBitVec.smod 64 = BitVec.ofNat 64 k) (hk : k < 64) (hp : 2 ^ k = p) (ha : a < 2 ^ 64) : lN a <<< y = lN (a * p) := by
  subst hp
  apply Int64.toBitVec_inj.mp
  rw [Int64.toBitVec_shiftLeft, hy]
  apply BitVec.eq_of_toNat_eq
  have hb : (lN a).toBitVec.toNat = a := Nat.mod_eq_of_lt ha
  have hk' : (BitVec.ofNat 64 k).toNat = k := Nat.mod_eq_of_lt (by omega)
  have h : ((lN a).toBitVec <<< BitVec.ofNat 64 k).toNat = (a * 2 ^ k) % 2 ^ 64 := by simp only [BitVec.shiftLeft_eq', BitVec.toNat_shiftLeft, hb, hk', Nat.shiftLeft_eq]
  exact h
/-! ===== lN to 2^62 under >> and >>> ===== -/
theorem pf_lI {a : Nat} (h : a < 2 ^ 63) : (lN a).toInt = (a : Int) := lg_ofNat_toInt h
theorem pf_shr {a d : Nat} {D : Int64} (hD : (D.toBitVec.smod 64).toNat = d) (h : a < 2 ^ 62) : lN a >>> D = lN (a / 2 ^ d) := by
  have hd : a / 2 ^ d ≤ a := Nat.div_le_self _ _
  apply Int64.toInt_inj.mp
  have e : (lN a >>> D).toInt = (lN a).toInt >>> d := by
    rw [← hD]
    exact BitVec.toInt_sshiftRight ..
  rw [e, Int.shiftRight_eq_div_pow, pf_lI (by omega), pf_lI (by omega)]
  rfl
theorem pf_ushr {a d : Nat} {D : UInt64} (hD : D.toNat % 64 = d) (h : a < 2 ^ 62) : ((lN a).toUInt64 >>> D).toInt64 = lN (a / 2 ^ d) := by
  have hd : a / 2 ^ d ≤ a := Nat.div_le_self _ _
  have e : (lN a).toUInt64 >>> D = UInt64.ofNat (a / 2 ^ d) := UInt64.toNat_inj.mp (by
    rw [UInt64.toNat_shiftRight, hD, Nat.shiftRight_eq_div_pow, UInt64.toNat_ofNat']
    show (UInt64.ofNat a).toNat / 2 ^ d = _
    rw [UInt64.toNat_ofNat', Nat.mod_eq_of_lt (by omega), Nat.mod_eq_of_lt (by omega)])
  rw [e]
  rfl
theorem pf_andw (x : Int64) : ∃ m, m < 2 ^ 32 ∧ x &&& 4294967295 = lN m := ⟨x.toBitVec.toNat % 2 ^ 32, Nat.mod_lt _ (by decide), Int64.toBitVec_inj.mp (BitVec.eq_of_toNat_eq (by
  show (x.toBitVec &&& 4294967295#64).toNat = (BitVec.ofNat 64 (x.toBitVec.toNat % 2 ^ 32)).toNat
  rw [BitVec.toNat_and, show (4294967295#64).toNat = 2 ^ 32 - 1 from by decide, Nat.and_two_pow_sub_one_eq_mod, BitVec.toNat_ofNat]
  omega))⟩
/-! ===== Int64 as an unsigned number: uN x ===== -/
def uN (x : Int64) : Nat := x.toUInt64.toNat
theorem uN_lt (x : Int64) : uN x < 18446744073709551616 := x.toUInt64.toNat_lt
theorem uN_inj {x y : Int64} (h : uN x = uN y) : x = y := congrArg UInt64.toInt64 (UInt64.toNat_inj.mp h)
theorem uN_add (x y : Int64) : uN (x + y) = (uN x + uN y) % 18446744073709551616 := by
  show (x.toUInt64 + y.toUInt64).toNat = _
  exact UInt64.toNat_add _ _
theorem uN_mul (x y : Int64) : uN (x * y) = (uN x * uN y) % 18446744073709551616 := by
  show (x.toUInt64 * y.toUInt64).toNat = _
  exact UInt64.toNat_mul _ _
theorem uN_shl (x : Int64) : uN (x <<< ((1 : Int32).toInt64 &&& 63)) = (2 * uN x) % 18446744073709551616 := by
  have h : (((1 : Int32).toInt64 &&& 63).toBitVec.smod 64).toNat = 1 := by decide
  show (x.toBitVec <<< (((1 : Int32).toInt64 &&& 63).toBitVec.smod 64).toNat).toNat = _
  rw [h, BitVec.toNat_shiftLeft, Nat.shiftLeft_eq, Nat.mul_comm]
  rfl
theorem uN_shr (x : Int64) (s : UInt64) : uN (x.toUInt64 >>> s).toInt64 = uN x / 2 ^ (s.toNat % 64) := by
  show (x.toUInt64 >>> s).toNat = _
  rw [UInt64.toNat_shiftRight, Nat.shiftRight_eq_div_pow]
  rfl
theorem uN_s32 (x : Int64) : uN (x.toUInt64 >>> ((32 : Int32).toInt64.toUInt64 &&& Int64.toUInt64 63)).toInt64 = uN x / 4294967296 := by
  have h : ((32 : Int32).toInt64.toUInt64 &&& Int64.toUInt64 63).toNat % 64 = 32 := by decide
  rw [uN_shr, h]
theorem uN_s63 (x : Int64) : uN (x.toUInt64 >>> ((63 : Int32).toInt64.toUInt64 &&& Int64.toUInt64 63)).toInt64 = uN x / 9223372036854775808 := by
  have h : ((63 : Int32).toInt64.toUInt64 &&& Int64.toUInt64 63).toNat % 64 = 63 := by decide
  rw [uN_shr, h]
theorem uN_lo (x : Int64) : uN (x &&& 4294967295) = uN x % 4294967296 := by
  show (x.toUInt64 &&& Int64.toUInt64 4294967295).toNat = _
  rw [UInt64.toNat_and]
  exact Nat.and_two_pow_sub_one_eq_mod _ 32
theorem uN_bit (x : Int64) : (x &&& 1) = 0 ↔ uN x % 2 = 0 := by
  have h : uN (x &&& 1) = uN x % 2 := by
    show (x.toUInt64 &&& Int64.toUInt64 1).toNat = _
    rw [UInt64.toNat_and]
    exact Nat.and_two_pow_sub_one_eq_mod _ 1
  rw [← h]
  exact ⟨fun z => by rw [z]; rfl, fun z => uN_inj (z.trans rfl)⟩
theorem uN_or {x y : Int64} (hy : uN y < 2) : uN ((x <<< ((1 : Int32).toInt64 &&& 63)) ||| y) = (2 * uN x) % 18446744073709551616 + uN y := by
  have h1 : uN ((x <<< ((1 : Int32).toInt64 &&& 63)) ||| y) = uN (x <<< ((1 : Int32).toInt64 &&& 63)) ||| uN y := UInt64.toNat_or _ _
  have h2 : (2 * uN x) % 18446744073709551616 = 2 ^ 1 * (uN x % 9223372036854775808) := by omega
  rw [h1, uN_shl, h2]
  exact (Nat.two_pow_add_eq_or_of_lt (i := 1) hy _).symm
theorem nat_xor {a : Nat} (h : a < 18446744073709551616) : a ^^^ 2 ^ 63 = (a + 9223372036854775808) % 18446744073709551616 := by
  have h1 : (a ^^^ 2 ^ 63) % 2 ^ 63 = a % 2 ^ 63 := by rw [Nat.xor_mod_two_pow, Nat.mod_self, Nat.xor_zero]
  have h2 : (a ^^^ 2 ^ 63) / 2 ^ 63 = (a / 2 ^ 63) ^^^ 1 := by rw [Nat.xor_div_two_pow, Nat.div_self (Nat.two_pow_pos 63)]
  have h3 : a / 2 ^ 63 = 0 ∨ a / 2 ^ 63 = 1 := by omega
  generalize a ^^^ 2 ^ 63 = t at h1 h2
  rcases h3 with h3 | h3
  · rw [h3] at h2
    have h2 : t / 2 ^ 63 = 1 := h2
    omega
  · rw [h3] at h2
    have h2 : t / 2 ^ 63 = 0 := h2
    omega
theorem uN_xor (x : Int64) : uN (x ^^^ (-9223372036854775808)) = (uN x + 9223372036854775808) % 18446744073709551616 := by
  rw [← nat_xor (uN_lt x)]
  exact UInt64.toNat_xor _ _
theorem uN_int (x : Int64) : x.toInt = if 2 * uN x < 18446744073709551616 then (uN x : Int) else (uN x : Int) - 18446744073709551616 := BitVec.toInt_eq_toNat_cond _
theorem uN_le (x y : Int64) : (x ^^^ (-9223372036854775808)) ≤ (y ^^^ (-9223372036854775808)) ↔ uN x ≤ uN y := by
  have hx := uN_lt x
  have hy := uN_lt y
  rw [Int64.le_iff_toInt_le, uN_int, uN_int, uN_xor, uN_xor]
  omega
theorem uN_sk (x : Int64) {k : Nat} (hk : k < 64) : uN (x.toUInt64 >>> ((nI k).toInt64.toUInt64 &&& Int64.toUInt64 63)).toInt64 = uN x / 2 ^ k := by
  have h : ((nI k).toInt64.toUInt64 &&& Int64.toUInt64 63).toNat % 64 = k := by
    rw [nI_l (by omega), UInt64.toNat_and]
    have e : (lN k).toUInt64.toNat = k % 2 ^ 64 := rfl
    have e2 : (Int64.toUInt64 63).toNat = 2 ^ 6 - 1 := by decide
    rw [e, e2, Nat.and_two_pow_sub_one_eq_mod]
    omega
  rw [uN_shr, h]
/-! ===== unsigned comparison by xor with the least ===== -/
theorem lN_bv (n : Nat) : (lN n).toBitVec = BitVec.ofNat 64 n := rfl
theorem lN_nat {n : Nat} (h : n < 2 ^ 64) : (lN n).toBitVec.toNat = n := by rw [lN_bv, BitVec.toNat_ofNat]; exact Nat.mod_eq_of_lt h
theorem lN_xor (a b : Nat) : lN a ^^^ lN b = lN (a ^^^ b) := by
  apply Int64.toBitVec_inj.mp; rw [Int64.toBitVec_xor, lN_bv, lN_bv, lN_bv]; apply BitVec.eq_of_getLsbD_eq; intro i hi; simp [BitVec.getLsbD_ofNat, Nat.testBit_xor, hi]
theorem lN_ti {m : Nat} (h : m < 2 ^ 64) : (lN m).toInt = if m < 2 ^ 63 then (m : Int) else (m : Int) - 2 ^ 64 := by
  have c := BitVec.toInt_eq_toNat_cond (lN m).toBitVec
  rw [lN_nat h] at c
  show (lN m).toBitVec.toInt = _
  rw [c]
  split <;> split <;> omega
theorem xor63 {x : Nat} (h : x < 2 ^ 63) : x ^^^ 2 ^ 63 = 2 ^ 63 + x := by
  apply Nat.eq_of_testBit_eq
  intro i
  rw [Nat.testBit_xor, Nat.testBit_two_pow]
  rcases Nat.lt_trichotomy i 63 with z | z | z
  · rw [Nat.testBit_two_pow_add_gt z, decide_eq_false (by omega)]; simp
  · subst z; rw [Nat.testBit_two_pow_add_eq]; simp
  · have hp : 2 ^ 64 ≤ 2 ^ i := Nat.pow_le_pow_right (by decide) z
    rw [Nat.testBit_lt_two_pow (show x < 2 ^ i by omega), Nat.testBit_lt_two_pow (show 2 ^ 63 + x < 2 ^ i by omega), decide_eq_false (by omega)]; rfl
theorem xorS {a : Nat} (h : a < 2 ^ 64) : (lN a ^^^ (-9223372036854775808)).toInt = (a : Int) - 2 ^ 63 := by
  rw [show (-9223372036854775808 : Int64) = lN (2 ^ 63) from by decide +kernel, lN_xor]
  rcases Nat.lt_or_ge a (2 ^ 63) with z | z
  · rw [xor63 z, lN_ti (by omega), if_neg (by omega)]; omega
  · obtain ⟨x, rfl⟩ : ∃ x, a = 2 ^ 63 + x := ⟨a - 2 ^ 63, by omega⟩
    rw [← xor63 (by omega), Nat.xor_assoc, Nat.xor_self, Nat.xor_zero, lN_ti (by omega), if_pos (by omega), xor63 (by omega)]; omega
theorem ultL {a b : Nat} (ha : a < 2 ^ 64) (hb : b < 2 ^ 64) : ((lN b ^^^ (-9223372036854775808)) ≤ (lN a ^^^ (-9223372036854775808))) ↔ b ≤ a := by
  rw [Int64.le_iff_toInt_le, xorS ha, xorS hb]; omega
/-! ===== Int64 masks of n low bits ===== -/
theorem cr_bits (W U M : BitVec 64) : ((W &&& U) &&& (U &&& (M ^^^ BitVec.allOnes 64))) = 0#64 ↔ (W &&& U) &&& M = W &&& U := by
  constructor
  · intro h
    apply BitVec.eq_of_getLsbD_eq
    intro i hi
    have e := congrArg (fun x => BitVec.getLsbD x i) h
    simp only [BitVec.getLsbD_and, BitVec.getLsbD_xor, BitVec.getLsbD_allOnes, BitVec.getLsbD_zero, hi, decide_true] at e ⊢
    revert e
    cases W.getLsbD i <;> cases U.getLsbD i <;> cases M.getLsbD i <;> decide
  · intro h
    apply BitVec.eq_of_getLsbD_eq
    intro i hi
    have e := congrArg (fun x => BitVec.getLsbD x i) h
    simp only [BitVec.getLsbD_and, BitVec.getLsbD_xor, BitVec.getLsbD_allOnes, BitVec.getLsbD_zero, hi, decide_true] at e ⊢
    revert e
    cases W.getLsbD i <;> cases U.getLsbD i <;> cases M.getLsbD i <;> decide
theorem cr_mask (w U m : Int64) (n : Nat) (hm : m.toBitVec.toNat = 2 ^ n - 1) : ((w &&& U) &&& (U &&& (m ^^^ (-1)))) = 0 ↔ (w &&& U).toBitVec.toNat < 2 ^ n := by
  have e0 : (-1 : Int64).toBitVec = BitVec.allOnes 64 := by decide
  have z0 : (0 : Int64).toBitVec = 0#64 := by decide
  rw [← Int64.toBitVec_inj, z0, Int64.toBitVec_and, Int64.toBitVec_and, Int64.toBitVec_and, Int64.toBitVec_xor, e0, cr_bits]
  generalize w.toBitVec &&& U.toBitVec = T
  rw [← BitVec.toNat_inj, BitVec.toNat_and, hm, Nat.and_two_pow_sub_one_eq_mod]
  constructor
  · intro h
    have t := Nat.mod_lt T.toNat (Nat.two_pow_pos n)
    rw [h] at t
    exact t
  · exact Nat.mod_eq_of_lt
theorem cr_shr (t : Int64) (x : UInt64) (n : Nat) (hx : x.toNat % 64 = n) : (t.toUInt64 >>> x).toInt64 = 0 ↔ t.toBitVec.toNat < 2 ^ n := by
  rw [← Int64.toBitVec_inj, ← BitVec.toNat_inj]
  show (t.toUInt64 >>> x).toNat = 0 ↔ t.toUInt64.toNat < 2 ^ n
  rw [UInt64.toNat_shiftRight, hx, Nat.shiftRight_eq_div_pow]
  constructor
  · intro h
    have d : t.toUInt64.toNat / 2 ^ n < 1 := by
      rw [h]
      decide
    have e := (Nat.div_lt_iff_lt_mul (Nat.two_pow_pos n)).mp d
    rw [Nat.one_mul] at e
    exact e
  · exact Nat.div_eq_of_lt
theorem cr_amt (s : Int64) : ∃ n, n < 64 ∧ s &&& 63 = lN n ∧ (s.toUInt64 &&& Int64.toUInt64 63).toNat % 64 = n := by
  have e : (s.toUInt64 &&& Int64.toUInt64 63).toNat = s.toUInt64.toNat % 2 ^ 6 := by
    rw [UInt64.toNat_and, show (Int64.toUInt64 63).toNat = 2 ^ 6 - 1 from by decide, Nat.and_two_pow_sub_one_eq_mod]
  refine ⟨s.toUInt64.toNat % 2 ^ 6, by omega, ?_, by omega⟩
  rw [← Int64.toBitVec_inj, ← BitVec.toNat_inj]
  show (s.toUInt64 &&& Int64.toUInt64 63).toNat = (BitVec.ofNat 64 (s.toUInt64.toNat % 2 ^ 6)).toNat
  rw [e, BitVec.toNat_ofNat]
  omega
end
section
/-! the pool of nodes as a set of trees: F x s is the value of node x under the assignment s -/
def ad_up (s : Nat → Bool) (v : Nat) (b : Bool) : Nat → Bool := fun i => if i = v then b else s i
theorem ad_up_s (s : Nat → Bool) (v : Nat) (b : Bool) : ad_up s v b v = b := if_pos rfl
theorem ad_up_n {s : Nat → Bool} {v : Nat} {b : Bool} {i : Nat} (h : i ≠ v) : ad_up s v b i = s i := if_neg h
theorem ad_up_id (s : Nat → Bool) (v : Nat) : ad_up s v (s v) = s := by
  funext i
  by_cases h : i = v
  · rw [h, ad_up_s]
  · rw [ad_up_n h]
theorem ad_up_up (s : Nat → Bool) (v : Nat) (b c : Bool) : ad_up (ad_up s v c) v b = ad_up s v b := by
  funext i
  by_cases h : i = v
  · rw [h, ad_up_s, ad_up_s]
  · rw [ad_up_n h, ad_up_n h, ad_up_n h]
theorem ad_up_c (s : Nat → Bool) {v w : Nat} (b c : Bool) (hv : v ≠ w) : ad_up (ad_up s v b) w c = ad_up (ad_up s w c) v b := by
  funext i
  by_cases h : i = v
  · rw [h, ad_up_n hv, ad_up_s, ad_up_s]
  · by_cases h2 : i = w
    · rw [h2, ad_up_s, ad_up_n (Ne.symm hv), ad_up_s]
    · rw [ad_up_n h2, ad_up_n h, ad_up_n h, ad_up_n h2]
/-- a node's level as a number; 9: free -/
def ad_l (lv : Nat → Int32) (x : Nat) : Nat := if lv x < 0 then 9 else (lv x).toNatClampNeg
theorem ad_l_nI {lv : Nat → Int32} {x v : Nat} (h : lv x = nI v) (hv : v < 9) : ad_l lv x = v := by
  unfold ad_l
  rw [h, if_neg (nI_pos (by omega)), nI_clamp (by omega)]
theorem ad_l_8 {lv : Nat → Int32} {x : Nat} (h : lv x = 8) : ad_l lv x = 8 := ad_l_nI (v := 8) h (by decide)
theorem ad_l_m {lv : Nat → Int32} {x : Nat} (h : lv x = -1) : ad_l lv x = 9 := by
  unfold ad_l
  rw [h]
  exact if_pos (by decide)
theorem ad_l_e {lv lv' : Nat → Int32} {x y : Nat} (h : lv' x = lv y) : ad_l lv' x = ad_l lv y := by
  unfold ad_l
  rw [h]
theorem ad_l_us {lv : Nat → Int32} {k v : Nat} (hv : v < 9) : ad_l (upd lv k (nI v)) k = v := ad_l_nI pk_us hv
theorem ad_l_un {lv : Nat → Int32} {k j : Nat} {z : Int32} (h : j ≠ k) : ad_l (upd lv k z) j = ad_l lv j := ad_l_e (pk_un h)
def ad_Lf (low upper : Int32) (lev : Int32) (G : (Nat → Bool) → Int32) : Prop := lev = 8 ∧ upper = 0 ∧ ∀ s, G s = low
def ad_In (n : Nat) (F : Nat → (Nat → Bool) → Int32) (lv : Nat → Int32) (low upper lev : Int32) (G : (Nat → Bool) → Int32) (v a b : Nat) : Prop :=
  v < n ∧ lev = nI v ∧ low = nI a ∧ upper = nI b ∧ a < 768 ∧ b < 768 ∧ a ≠ b ∧ (v < ad_l lv a ∧ ad_l lv a < 9) ∧ (v < ad_l lv b ∧ ad_l lv b < 9) ∧ ∀ s, G s = cond (s v) (F b s) (F a s)
/-- the contents of a node: a value, or a test of variable v -/
def ad_Nd (n : Nat) (F : Nat → (Nat → Bool) → Int32) (lv : Nat → Int32) (low upper lev : Int32) (G : (Nat → Bool) → Int32) : Prop :=
  ad_Lf low upper lev G ∨ ∃ v a b, ad_In n F lv low upper lev G v a b
def ad_Tr (n : Nat) (F : Nat → (Nat → Bool) → Int32) (lv lo hi : Nat → Int32) : Prop :=
  n ≤ 5 ∧ (∀ x, x < 768 → lv x = -1 ∨ ad_Nd n F lv (lo x) (hi x) (lv x) (F x)) ∧
  ∀ x y, x < 768 → y < 768 → ad_l lv x < 9 → ad_l lv y < 9 → lv x = lv y → lo x = lo y → hi x = hi y → x = y
theorem ad_Nd_l {n : Nat} {F : Nat → (Nat → Bool) → Int32} {lv : Nat → Int32} {low upper lev : Int32} {G : (Nat → Bool) → Int32} (hn : n ≤ 5) (h : ad_Nd n F lv low upper lev G) : ∃ v, v < 9 ∧ lev = nI v := by
  rcases h with ⟨h, _, _⟩ | ⟨v, a, b, h, e, _⟩
  · exact ⟨8, by decide, h⟩
  · exact ⟨v, by omega, e⟩
theorem ad_Nd_det {n : Nat} {F : Nat → (Nat → Bool) → Int32} {lv : Nat → Int32} {low upper lev : Int32} {G G' : (Nat → Bool) → Int32} (hn : n ≤ 5) (h : ad_Nd n F lv low upper lev G) (h' : ad_Nd n F lv low upper lev G') : ∀ s, G s = G' s := by
  rcases h with ⟨h, _, h2⟩ | ⟨v, a, b, hv, e, ea, eb, ha, hb, _, _, _, h2⟩
  · rcases h' with ⟨_, _, h3⟩ | ⟨v, a, b, hv, e, _⟩
    · intro s
      rw [h2, h3]
    · exfalso
      rw [h] at e
      have := (nI_eq (a := 8) (b := v) (by decide) (by omega)).mp e
      omega
  · rcases h' with ⟨h, _, h3⟩ | ⟨v', a', b', hv', e', ea', eb', ha', hb', _, _, _, h3⟩
    · exfalso
      rw [h] at e
      have := (nI_eq (a := 8) (b := v) (by decide) (by omega)).mp e
      omega
    · have e1 := (nI_eq (by omega) (by omega)).mp (e.symm.trans e')
      have e2 := (nI_eq (by omega) (by omega)).mp (ea.symm.trans ea')
      have e3 := (nI_eq (by omega) (by omega)).mp (eb.symm.trans eb')
      subst e1 e2 e3
      intro s
      rw [h2, h3]
section
variable {n : Nat} {F : Nat → (Nat → Bool) → Int32} {lv lo hi : Nat → Int32}
theorem ad_cs (T : ad_Tr n F lv lo hi) {x : Nat} (hx : x < 768) (hu : ad_l lv x < 9) : ad_Nd n F lv (lo x) (hi x) (lv x) (F x) := by
  rcases T.2.1 x hx with h | h
  · have := ad_l_m h
    omega
  · exact h
theorem ad_InL (T : ad_Tr n F lv lo hi) {x v a b : Nat} (h : ad_In n F lv (lo x) (hi x) (lv x) (F x) v a b) : ad_l lv x = v := ad_l_nI h.2.1 (by have := T.1; have := h.1; omega)
theorem ad_LfL {x : Nat} (h : ad_Lf (lo x) (hi x) (lv x) (F x)) : ad_l lv x = 8 := ad_l_8 h.1
/-- a used node's level is 8 or below n -/
theorem ad_lev (T : ad_Tr n F lv lo hi) {x : Nat} (hx : x < 768) (hu : ad_l lv x < 9) : lv x = nI (ad_l lv x) ∧ (ad_l lv x = 8 ∨ ad_l lv x < n) := by
  rcases ad_cs T hx hu with h | ⟨v, a, b, h⟩
  · rw [ad_LfL h]
    exact ⟨h.1, Or.inl rfl⟩
  · rw [ad_InL T h]
    exact ⟨h.2.1, Or.inr h.1⟩
theorem ad_leaf (T : ad_Tr n F lv lo hi) {x : Nat} (hx : x < 768) (hu : ad_l lv x = 8) : ad_Lf (lo x) (hi x) (lv x) (F x) := by
  rcases ad_cs T hx (by omega) with h | ⟨v, a, b, h⟩
  · exact h
  · have := ad_InL T h
    have := h.1
    have := T.1
    omega
theorem ad_inner (T : ad_Tr n F lv lo hi) {x : Nat} (hx : x < 768) (hu : ad_l lv x < 8) : ∃ a b, ad_In n F lv (lo x) (hi x) (lv x) (F x) (ad_l lv x) a b := by
  rcases ad_cs T hx (by omega) with h | ⟨v, a, b, h⟩
  · have := ad_LfL h
    omega
  · rw [ad_InL T h]
    exact ⟨a, b, h⟩
/-- a node's value rests on the variables from its level on -/
theorem ad_dep (T : ad_Tr n F lv lo hi) : ∀ d x, x < 768 → ad_l lv x < 9 → 9 ≤ ad_l lv x + d → ∀ s t : Nat → Bool, (∀ i, ad_l lv x ≤ i → i < n → s i = t i) → F x s = F x t := by
  intro d
  induction d with
  | zero => intro x hx hu h; omega
  | succ d ih =>
    intro x hx hu h s t hst
    rcases ad_cs T hx hu with hl | ⟨v, a, b, hi⟩
    · rw [hl.2.2 s, hl.2.2 t]
    · have e := ad_InL T hi
      rw [e] at hst h
      obtain ⟨hv, _, _, _, ha, hb, _, ⟨la, la'⟩, ⟨lb, lb'⟩, hF⟩ := hi
      rw [hF s, hF t, hst v (Nat.le_refl v) hv]
      rw [ih a ha la' (by omega) s t (fun i h1 h2 => hst i (by omega) h2), ih b hb lb' (by omega) s t (fun i h1 h2 => hst i (by omega) h2)]
theorem ad_dp (T : ad_Tr n F lv lo hi) {x : Nat} (hx : x < 768) (hu : ad_l lv x < 9) {s t : Nat → Bool} (h : ∀ i, ad_l lv x ≤ i → i < n → s i = t i) : F x s = F x t := ad_dep T 9 x hx hu (by omega) s t h
theorem ad_dpu (T : ad_Tr n F lv lo hi) {x v : Nat} (hx : x < 768) (hu : ad_l lv x < 9) (hv : v < ad_l lv x) (s : Nat → Bool) (b : Bool) : F x (ad_up s v b) = F x s := ad_dp T hx hu (fun i h _ => ad_up_n (by omega))
theorem ad_kid (T : ad_Tr n F lv lo hi) {x v a b : Nat} (h : ad_In n F lv (lo x) (hi x) (lv x) (F x) v a b) (s : Nat → Bool) (c : Bool) : F x (ad_up s v c) = F (cond c b a) s := by
  obtain ⟨hv, _, _, _, ha, hb, _, ⟨la, la'⟩, ⟨lb, lb'⟩, hF⟩ := h
  rw [hF, ad_up_s]
  cases c
  · exact ad_dpu T ha la' la s false
  · exact ad_dpu T hb lb' lb s true
/-- equal functions, one node -/
theorem ad_can0 (T : ad_Tr n F lv lo hi) : ∀ d x y, x < 768 → y < 768 → ad_l lv x < 9 → ad_l lv y < 9 → 9 ≤ ad_l lv x + d → 9 ≤ ad_l lv y + d → (∀ s, F x s = F y s) → x = y := by
  intro d
  induction d with
  | zero => intro x y hx hy hu; omega
  | succ d ih =>
    intro x y hx hy ux uy dx dy e
    have key : ∀ x y, x < 768 → y < 768 → ad_l lv x < 9 → ad_l lv y < 9 → 9 ≤ ad_l lv x + (d + 1) → 9 ≤ ad_l lv y + (d + 1) → (∀ s, F x s = F y s) → ¬ ad_l lv x < ad_l lv y := by
      intro x y hx hy ux uy dx dy e hlt
      have hn := T.1
      have h8 : ad_l lv x < 8 := by
        rcases (ad_lev T hy uy).2 with h | h <;> omega
      obtain ⟨a, b, h⟩ := ad_inner T hx h8
      have ka := fun s => ad_kid T h s false
      have kb := fun s => ad_kid T h s true
      obtain ⟨hv, _, _, _, ha, hb, hab, ⟨la, la'⟩, ⟨lb, lb'⟩, hF⟩ := h
      apply hab
      apply ih a b ha hb la' lb' (by omega) (by omega)
      intro s
      have k1 : F a s = F y s := by
        rw [show F a s = F x (ad_up s (ad_l lv x) false) from (ka s).symm, e]
        exact ad_dpu T hy uy hlt s false
      have k2 : F b s = F y s := by
        rw [show F b s = F x (ad_up s (ad_l lv x) true) from (kb s).symm, e]
        exact ad_dpu T hy uy hlt s true
      rw [k1, k2]
    have k1 := key x y hx hy ux uy dx dy e
    have k2 := key y x hy hx uy ux dy dx (fun s => (e s).symm)
    have el : ad_l lv x = ad_l lv y := by omega
    have ex := (ad_lev T hx ux).1
    have ey := (ad_lev T hy uy).1
    have elv : lv x = lv y := by rw [ex, ey, el]
    by_cases h8 : ad_l lv x = 8
    · have h1 := ad_leaf T hx h8
      have h2 := ad_leaf T hy (by omega)
      refine T.2.2 x y hx hy ux uy elv ?_ (by rw [h1.2.1, h2.2.1])
      rw [← h1.2.2 (fun _ => false), ← h2.2.2 (fun _ => false), e]
    · have hn := T.1
      have h8' : ad_l lv x < 8 := by omega
      obtain ⟨a, b, h⟩ := ad_inner T hx h8'
      obtain ⟨a', b', h'⟩ := ad_inner T hy (by omega : ad_l lv y < 8)
      have ka := fun s => ad_kid T h s false
      have kb := fun s => ad_kid T h s true
      have ka' := fun s => ad_kid T h' s false
      have kb' := fun s => ad_kid T h' s true
      obtain ⟨hv, _, ea, eb, ha, hb, hab, ⟨la, la'⟩, ⟨lb, lb'⟩, hF⟩ := h
      obtain ⟨hv', _, ea', eb', ha', hb', hab', ⟨lc, lc'⟩, ⟨ld, ld'⟩, hF'⟩ := h'
      have e1 : a = a' := by
        apply ih a a' ha ha' la' lc' (by omega) (by omega)
        intro s
        rw [show F a s = F x (ad_up s (ad_l lv x) false) from (ka s).symm, show F a' s = F y (ad_up s (ad_l lv y) false) from (ka' s).symm, e, el]
      have e2 : b = b' := by
        apply ih b b' hb hb' lb' ld' (by omega) (by omega)
        intro s
        rw [show F b s = F x (ad_up s (ad_l lv x) true) from (kb s).symm, show F b' s = F y (ad_up s (ad_l lv y) true) from (kb' s).symm, e, el]
      exact T.2.2 x y hx hy ux uy elv (by rw [ea, ea', e1]) (by rw [eb, eb', e2])
theorem ad_can (T : ad_Tr n F lv lo hi) {x y : Nat} (hx : x < 768) (hy : y < 768) (ux : ad_l lv x < 9) (uy : ad_l lv y < 9) (e : ∀ s, F x s = F y s) : x = y := ad_can0 T 9 x y hx hy ux uy (by omega) (by omega) e
end
end
section
/-! chains, the free list, the pool's invariant, a new node -/
theorem ad_pig : ∀ (N : Nat) (l : List Nat), l.Nodup → (∀ x ∈ l, x < N) → l.length ≤ N := by
  intro N
  induction N with
  | zero =>
    intro l _ h
    cases l with
    | nil => exact Nat.le_refl 0
    | cons x l => exact absurd (h x List.mem_cons_self) (by omega)
  | succ N ih =>
    intro l hn h
    have k := ih (l.erase N) (hn.erase N) (fun x hx => by
      rw [hn.mem_erase_iff] at hx
      have := h x hx.2
      omega)
    rw [List.length_erase] at k
    split at k <;> omega
theorem ad_s16 {v : Nat} (h : v < 32768) : (nI v).toInt16.toInt32 = nI v := lg_i2s_small (by rw [nI_toInt (by omega)]; omega) (by rw [nI_toInt (by omega)]; omega)
theorem ad_s8 {v : Nat} (h : v < 128) : (nI v).toInt8.toInt32 = nI v := lg_i2b_small (by rw [nI_toInt (by omega)]; omega) (by rw [nI_toInt (by omega)]; omega)
theorem ad_vs {v : Nat} (h : v < 32768) : vp_nar .short (nI v) = nI v := by rw [vp_nar_short, ad_s16 h]
theorem ad_vs2 {v : Nat} (h : v < 32768) : vp_nar .short (nI v).toInt16.toInt32 = nI v := by rw [pk_vs, ad_s16 h]
theorem ad_vb {v : Nat} (h : v < 128) : vp_nar .byte (nI v) = nI v := by rw [vp_nar_byte, ad_s8 h]
theorem ad_vb2 {v : Nat} (h : v < 128) : vp_nar .byte (nI v).toInt8.toInt32 = nI v := by rw [pk_vb, ad_s8 h]
theorem ad_vsm : vp_nar .short (-1) = -1 := by rw [vp_nar_short]; decide
theorem ad_vbm : vp_nar .byte (-1) = -1 := by rw [vp_nar_byte]; decide
theorem ad_vs0 : vp_nar .short 0 = 0 := by rw [vp_nar_short]; decide
def ad_hd (b : Int32) : Prop := b = -1 ∨ ∃ x, x < 768 ∧ b = nI x
theorem ad_hd_s {b : Int32} (h : ad_hd b) : vp_nar .short b = b := by
  rcases h with rfl | ⟨x, hx, rfl⟩
  · exact ad_vsm
  · exact ad_vs (by omega)
theorem ad_hd_s2 {b : Int32} (h : ad_hd b) : vp_nar .short b.toInt16.toInt32 = b := by rw [pk_vs, ← vp_nar_short, ad_hd_s h]
def ad_chn (ch : Nat → Int32) : Int32 → List Nat → Prop
  | b, [] => b = -1
  | b, x :: l => b = nI x ∧ x < 768 ∧ ad_chn ch (ch x) l
theorem ad_chn_hd {ch : Nat → Int32} {b : Int32} {l : List Nat} (h : ad_chn ch b l) : ad_hd b := by
  cases l with
  | nil => exact Or.inl h
  | cons x l => exact Or.inr ⟨x, h.2.1, h.1⟩
theorem ad_chn_k {ch ch' : Nat → Int32} (l : List Nat) : ∀ {b : Int32}, (∀ x ∈ l, ch' x = ch x) → ad_chn ch b l → ad_chn ch' b l := by
  induction l with
  | nil => intro b _ h; exact h
  | cons x l ih =>
    intro b hk h
    refine ⟨h.1, h.2.1, ?_⟩
    rw [hk x List.mem_cons_self]
    exact ih (fun y hy => hk y (List.mem_cons_of_mem _ hy)) h.2.2
theorem ad_chn_u {ch : Nat → Int32} {l : List Nat} {b z : Int32} {f : Nat} (hf : ¬ f ∈ l) (h : ad_chn ch b l) : ad_chn (upd ch f z) b l :=
  ad_chn_k l (fun x hx => pk_un (fun e => hf (e ▸ hx))) h
theorem ad_chn_lt {ch : Nat → Int32} (l : List Nat) : ∀ {b : Int32}, ad_chn ch b l → ∀ x ∈ l, x < 768 := by
  induction l with
  | nil => intro b _ x hx; cases hx
  | cons y l ih =>
    intro b h x hx
    rcases List.mem_cons.mp hx with rfl | hx
    · exact h.2.1
    · exact ih h.2.2 x hx
def ad_hs (lev low upper : Int32) : Nat := ((((lev * 5) + (low * 7)) + (upper * 11)) &&& 63).toNatClampNeg
theorem ad_hs_e (lev low upper : Int32) : (((lev * 5) + (low * 7)) + (upper * 11)) &&& 63 = nI (ad_hs lev low upper) ∧ ad_hs lev low upper < 64 := by
  obtain ⟨j, hj, e⟩ := pk_andE (((lev * 5) + (low * 7)) + (upper * 11)) (m := 63) 6 (by decide)
  unfold ad_hs
  rw [e, nI_clamp (by omega)]
  exact ⟨rfl, hj⟩
/-- freeHead, freeCount, level, low, high, chain, bucket -/
abbrev ad_P : Type := Int32 × Int32 × (Nat → Int32) × (Nat → Int32) × (Nat → Int32) × (Nat → Int32) × (Nat → Int32)
abbrev ad_fh (p : ad_P) : Int32 := p.1
abbrev ad_fc (p : ad_P) : Int32 := p.2.1
abbrev ad_lv (p : ad_P) : Nat → Int32 := p.2.2.1
abbrev ad_lo (p : ad_P) : Nat → Int32 := p.2.2.2.1
abbrev ad_hi (p : ad_P) : Nat → Int32 := p.2.2.2.2.1
abbrev ad_ch (p : ad_P) : Nat → Int32 := p.2.2.2.2.2.1
abbrev ad_bu (p : ad_P) : Nat → Int32 := p.2.2.2.2.2.2
def ad_Hs (H : Nat → List Nat) (lv lo hi ch bu : Nat → Int32) : Prop := ∀ h, h < 64 → ad_chn ch (bu h) (H h) ∧ (H h).Nodup ∧ ∀ x, x ∈ H h ↔ (x < 768 ∧ ad_l lv x < 9 ∧ ad_hs (lv x) (lo x) (hi x) = h)
def ad_Fl (fl : List Nat) (c : Nat) (fh fc : Int32) (lv ch : Nat → Int32) : Prop := ad_chn ch fh fl ∧ fl.Nodup ∧ (∀ x ∈ fl, lv x = -1) ∧ fl.length = c ∧ fc = nI c
def ad_I (n c : Nat) (F : Nat → (Nat → Bool) → Int32) (p : ad_P) : Prop :=
  ad_Tr n F (ad_lv p) (ad_lo p) (ad_hi p) ∧ (∃ H, ad_Hs H (ad_lv p) (ad_lo p) (ad_hi p) (ad_ch p) (ad_bu p)) ∧ ∃ fl, ad_Fl fl c (ad_fh p) (ad_fc p) (ad_lv p) (ad_ch p)
/-- a used node: x below 768, its level at least l -/
def ad_U (p : ad_P) (l x : Nat) : Prop := x < 768 ∧ l ≤ ad_l (ad_lv p) x ∧ ad_l (ad_lv p) x < 9
def ad_Ext (F : Nat → (Nat → Bool) → Int32) (p : ad_P) (F' : Nat → (Nat → Bool) → Int32) (p' : ad_P) : Prop :=
  ∀ x, x < 768 → ad_l (ad_lv p) x < 9 → ad_lv p' x = ad_lv p x ∧ ad_lo p' x = ad_lo p x ∧ ad_hi p' x = ad_hi p x ∧ F' x = F x
theorem ad_Ext_r {F : Nat → (Nat → Bool) → Int32} {p : ad_P} : ad_Ext F p F p := fun _ _ _ => ⟨rfl, rfl, rfl, rfl⟩
theorem ad_Ext_l {F F' : Nat → (Nat → Bool) → Int32} {p p' : ad_P} (h : ad_Ext F p F' p') {x : Nat} (hx : x < 768) (hu : ad_l (ad_lv p) x < 9) : ad_l (ad_lv p') x = ad_l (ad_lv p) x := ad_l_e (h x hx hu).1
theorem ad_Ext_t {F F' F'' : Nat → (Nat → Bool) → Int32} {p p' p'' : ad_P} (h : ad_Ext F p F' p') (h' : ad_Ext F' p' F'' p'') : ad_Ext F p F'' p'' := by
  intro x hx hu
  have e := ad_Ext_l h hx hu
  obtain ⟨a, b, c, d⟩ := h x hx hu
  obtain ⟨a', b', c', d'⟩ := h' x hx (by omega)
  exact ⟨a'.trans a, b'.trans b, c'.trans c, d'.trans d⟩
theorem ad_Ext_U {F F' : Nat → (Nat → Bool) → Int32} {p p' : ad_P} (h : ad_Ext F p F' p') {l x : Nat} (hu : ad_U p l x) : ad_U p' l x := by
  refine ⟨hu.1, ?_⟩
  rw [ad_Ext_l h hu.1 hu.2.2]
  exact hu.2
theorem ad_Ext_F {F F' : Nat → (Nat → Bool) → Int32} {p p' : ad_P} (h : ad_Ext F p F' p') {l x : Nat} (hu : ad_U p l x) : F' x = F x := (h x hu.1 hu.2.2).2.2.2
theorem ad_U_w {p : ad_P} {l l' x : Nat} (hu : ad_U p l x) (h : l' ≤ l) : ad_U p l' x := ⟨hu.1, by have := hu.2.1; omega, hu.2.2⟩
theorem ad_Nd_k {n : Nat} {F F' : Nat → (Nat → Bool) → Int32} {lv lv' : Nat → Int32} {low upper lev : Int32} {G : (Nat → Bool) → Int32} (hk : ∀ x, x < 768 → ad_l lv x < 9 → ad_l lv' x = ad_l lv x ∧ F' x = F x) (h : ad_Nd n F lv low upper lev G) : ad_Nd n F' lv' low upper lev G := by
  rcases h with h | ⟨v, a, b, hv, e, ea, eb, ha, hb, hab, la, lb, hF⟩
  · exact Or.inl h
  · obtain ⟨e1, e2⟩ := hk a ha la.2
    obtain ⟨e3, e4⟩ := hk b hb lb.2
    refine Or.inr ⟨v, a, b, hv, e, ea, eb, ha, hb, hab, ?_, ?_, ?_⟩
    · rw [e1]; exact la
    · rw [e3]; exact lb
    · rw [e2, e4]; exact hF
theorem ad_new {n c : Nat} {F : Nat → (Nat → Bool) → Int32} {fh fc : Int32} {lv lo hi ch bu : Nat → Int32} (I : ad_I n (c + 1) F (fh, fc, lv, lo, hi, ch, bu)) {low upper lev : Int32} {G : (Nat → Bool) → Int32}
    (hN : ad_Nd n F lv low upper lev G) (hno : ∀ x, x < 768 → ad_l lv x < 9 → ¬ (lv x = lev ∧ lo x = low ∧ hi x = upper)) :
    ∃ f, f < 768 ∧ fh = nI f ∧ ∃ F', ad_I n c F' (ch f, fc - 1, upd lv f lev, upd lo f low, upd hi f upper, upd ch f (bu (ad_hs lev low upper)), upd bu (ad_hs lev low upper) (nI f)) ∧
      ad_Ext F (fh, fc, lv, lo, hi, ch, bu) F' (ch f, fc - 1, upd lv f lev, upd lo f low, upd hi f upper, upd ch f (bu (ad_hs lev low upper)), upd bu (ad_hs lev low upper) (nI f)) ∧ F' f = G := by
  obtain ⟨T, ⟨H, hH⟩, fl, hch, hnd, hfree, hlen, hfc⟩ := I
  dsimp only [ad_fh, ad_fc, ad_lv, ad_lo, ad_hi, ad_ch, ad_bu] at T hH hch hfree hfc
  cases fl with
  | nil => exact absurd hlen (by simp)
  | cons f fl =>
  have hf : f < 768 := hch.2.1
  have ef : fh = nI f := hch.1
  have lf : lv f = -1 := hfree f List.mem_cons_self
  have lf9 : ad_l lv f = 9 := ad_l_m lf
  obtain ⟨v0, hv0, ev0⟩ := ad_Nd_l T.1 hN
  obtain ⟨hnf, hnd'⟩ := List.nodup_cons.mp hnd
  have hne : ∀ x, ad_l lv x < 9 → x ≠ f := by
    intro x hx e
    rw [e] at hx
    omega
  have hk : ∀ x, x < 768 → ad_l lv x < 9 → ad_l (upd lv f lev) x = ad_l lv x ∧ (fun x => if x = f then G else F x) x = F x := by
    intro x hx hu
    exact ⟨ad_l_un (hne x hu), if_neg (hne x hu)⟩
  have hl' : ∀ x, ad_l (upd lv f lev) x < 9 → x = f ∨ (x ≠ f ∧ ad_l lv x < 9) := by
    intro x hx
    by_cases e : x = f
    · exact Or.inl e
    · rw [ad_l_un e] at hx
      exact Or.inr ⟨e, hx⟩
  refine ⟨f, hf, ef, fun x => if x = f then G else F x, ⟨⟨T.1, ?_, ?_⟩, ⟨fun h => if h = ad_hs lev low upper then f :: H h else H h, ?_⟩, fl, ?_, hnd', ?_, ?_, ?_⟩, ?_, ?_⟩
  · intro x hx
    dsimp only [ad_fh, ad_fc, ad_lv, ad_lo, ad_hi, ad_ch, ad_bu]
    by_cases e : x = f
    · right
      rw [e, pk_us, pk_us, pk_us, if_pos rfl]
      exact ad_Nd_k hk hN
    · rw [pk_un e, pk_un e, pk_un e, if_neg e]
      rcases T.2.1 x hx with h | h
      · exact Or.inl h
      · exact Or.inr (ad_Nd_k hk h)
  · intro x y hx hy ux uy
    dsimp only [ad_fh, ad_fc, ad_lv, ad_lo, ad_hi, ad_ch, ad_bu] at ux uy ⊢
    rcases hl' x ux with rfl | ⟨ex, ux'⟩
    · rcases hl' y uy with rfl | ⟨ey, uy'⟩
      · intro _ _ _
        rfl
      · rw [pk_us, pk_us, pk_us, pk_un ey, pk_un ey, pk_un ey]
        intro a b c
        exact absurd ⟨a.symm, b.symm, c.symm⟩ (hno y hy uy')
    · rcases hl' y uy with rfl | ⟨ey, uy'⟩
      · rw [pk_us, pk_us, pk_us, pk_un ex, pk_un ex, pk_un ex]
        intro a b c
        exact absurd ⟨a, b, c⟩ (hno x hx ux')
      · rw [pk_un ex, pk_un ex, pk_un ex, pk_un ey, pk_un ey, pk_un ey]
        exact T.2.2 x y hx hy ux' uy'
  · intro h hh
    obtain ⟨h1, h2, h3⟩ := hH h hh
    have hfn : ¬ f ∈ H h := by
      intro hm
      have := ((h3 f).mp hm).2.1
      omega
    dsimp only [ad_fh, ad_fc, ad_lv, ad_lo, ad_hi, ad_ch, ad_bu]
    by_cases e : h = ad_hs lev low upper
    · rw [if_pos e, ← e, pk_us]
      refine ⟨⟨rfl, hf, ?_⟩, List.nodup_cons.mpr ⟨hfn, h2⟩, ?_⟩
      · rw [pk_us]
        exact ad_chn_u hfn h1
      · intro x
        rw [List.mem_cons, h3]
        constructor
        · rintro (rfl | ⟨hx, hu, hs⟩)
          · refine ⟨hf, ?_, ?_⟩
            · rw [ev0, ad_l_us hv0]
              exact hv0
            · rw [pk_us, pk_us, pk_us]
              exact e.symm
          · have en := hne x hu
            refine ⟨hx, ?_, ?_⟩
            · rw [ad_l_un en]
              exact hu
            · rw [pk_un en, pk_un en, pk_un en]
              exact hs
        · rintro ⟨hx, hu, hs⟩
          rcases hl' x hu with rfl | ⟨ex, ux⟩
          · exact Or.inl rfl
          · rw [pk_un ex, pk_un ex, pk_un ex] at hs
            exact Or.inr ⟨hx, ux, hs⟩
    · rw [if_neg e, pk_un e]
      refine ⟨ad_chn_u hfn h1, h2, ?_⟩
      intro x
      rw [h3]
      constructor
      · rintro ⟨hx, hu, hs⟩
        have en := hne x hu
        refine ⟨hx, ?_, ?_⟩
        · rw [ad_l_un en]
          exact hu
        · rw [pk_un en, pk_un en, pk_un en]
          exact hs
      · rintro ⟨hx, hu, hs⟩
        rcases hl' x hu with rfl | ⟨ex, ux⟩
        · rw [pk_us, pk_us, pk_us] at hs
          exact absurd hs.symm e
        · rw [pk_un ex, pk_un ex, pk_un ex] at hs
          exact ⟨hx, ux, hs⟩
  · exact ad_chn_u hnf hch.2.2
  · intro x hx
    dsimp only [ad_fh, ad_fc, ad_lv, ad_lo, ad_hi, ad_ch, ad_bu]
    have en : x ≠ f := fun e => hnf (by rw [← e]; exact hx)
    rw [pk_un en]
    exact hfree x (List.mem_cons_of_mem _ hx)
  · simpa using hlen
  · dsimp only [ad_fc]
    rw [hfc, nI_pred]
  · intro x hx hu
    dsimp only [ad_fh, ad_fc, ad_lv, ad_lo, ad_hi, ad_ch, ad_bu] at hu ⊢
    have en := hne x hu
    rw [pk_un en, pk_un en, pk_un en, if_neg en]
    exact ⟨rfl, rfl, rfl, rfl⟩
  · exact if_pos rfl
theorem ad_I_c {n c : Nat} {F : Nat → (Nat → Bool) → Int32} {p : ad_P} (I : ad_I n c F p) : c ≤ 768 ∧ ad_fc p = nI c := by
  obtain ⟨_, _, fl, hch, hnd, _, hlen, hfc⟩ := I
  exact ⟨hlen ▸ ad_pig 768 fl hnd (ad_chn_lt fl hch), hfc⟩
end
section
/-! the state by its groups; find, value, node -/
/-- frameA, frameB, frameC, frameLevel, frameStage, frameLow -/
abbrev ad_Fr : Type := (Nat → Int32) × (Nat → Int32) × (Nat → Int32) × (Nat → Int32) × (Nat → Int32) × (Nat → Int32)
/-- cacheA, cacheB, cacheC, cacheResult -/
abbrev ad_Ca : Type := (Nat → Int32) × (Nat → Int32) × (Nat → Int32) × (Nat → Int32)
abbrev ad_S (vc md rl rb : Int32) (mk : Nat → Int64) (pl : Nat → Int32) (f : ad_Fr) (k : ad_Ca) (wn ww : Nat → Int32) (p : ad_P) : SX :=
  (vc, p.1, p.2.1, md, rl, rb, p.2.2.1, p.2.2.2.1, p.2.2.2.2.1, p.2.2.2.2.2.1, p.2.2.2.2.2.2, mk, pl, f.1, f.2.1, f.2.2.1, f.2.2.2.1, f.2.2.2.2.1, f.2.2.2.2.2, k.1, k.2.1, k.2.2.1, k.2.2.2, wn, ww)
section
variable {post : Int32 → SX → Prop} {vc fh fc md rl rb : Int32} {lv lo hi ch bu : Nat → Int32} {mk : Nat → Int64} {pl fA fB fC fL fS fW cA cB cC cR wn ww : Nat → Int32}
theorem ad_find30 {lev low upper h4 : Int32} (l : List Nat) : ∀ {b : Int32} {j m : Nat}, ad_chn ch b l → j + l.length ≤ 768 → l.length < m →
    (∀ x ∈ l, lv x = lev → lo x = low → hi x = upper → post (nI x) (vc, fh, fc, md, rl, rb, lv, lo, hi, ch, bu, mk, pl, fA, fB, fC, fL, fS, fW, cA, cB, cC, cR, wn, ww)) →
    ((∀ x ∈ l, ¬ (lv x = lev ∧ lo x = low ∧ hi x = upper)) → wX_find_94 post lev low upper h4 vc fh fc md rl rb lv lo hi ch bu mk pl fA fB fC fL fS fW cA cB cC cR wn ww) →
    wX_find_30 post lev low upper h4 vc fh fc md rl rb lv lo hi ch bu mk pl fA fB fC fL fS fW cA cB cC cR wn ww m b (nI j) := by
  induction l with
  | nil =>
    intro b j m hch hj hm hp hn
    obtain ⟨m, rfl⟩ : ∃ m', m = m' + 1 := ⟨m - 1, by omega⟩
    have e : b = -1 := hch
    subst e
    have hn' := hn (fun x hx => nomatch hx)
    rw [wX_find_30]
    dsimp only
    exact br_c (fun _ => hn') (fun _ => br_t (by decide) hn')
  | cons x l ih =>
    intro b j m hch hj hm hp hn
    rw [List.length_cons] at hj hm
    obtain ⟨m, rfl⟩ : ∃ m', m = m' + 1 := ⟨m - 1, by omega⟩
    obtain ⟨e, hx, hch'⟩ := hch
    subst e
    have hx' : x < 2 ^ 31 := by omega
    have hi' : vp_in (nI x) 768 := vp_in_nI hx (by decide)
    have rest : ∀ y : Int32, y = ch x → ∀ z : Int32, z = nI j + 1 → ¬ (lv x = lev ∧ lo x = low ∧ hi x = upper) → wX_find_30 post lev low upper h4 vc fh fc md rl rb lv lo hi ch bu mk pl fA fB fC fL fS fW cA cB cC cR wn ww m y z := by
      intro y ey z ez hno
      rw [ey, ez, nI_1]
      refine ih hch' (by omega) (by omega) (fun y hy => hp y (List.mem_cons_of_mem _ hy)) (fun hn2 => hn ?_)
      intro y hy
      rcases List.mem_cons.mp hy with rfl | hy
      · exact hno
      · exact hn2 y hy
    rw [wX_find_30]
    dsimp only
    rw [nI_clamp hx']
    refine pk_le 768 j (fun h => absurd h (by omega)) (fun _ => br_f (nI_pos hx') ⟨hi', br_c (fun h1 => ⟨hi', br_c (fun h2 => ⟨hi', br_c (fun h3 => ?_) (fun h3 => ⟨hi', fun y ey z ez => rest y ey z ez (fun h => h3 h.2.2)⟩)⟩) (fun h2 => ⟨hi', fun y ey z ez => rest y ey z ez (fun h => h2 h.2.1)⟩)⟩) (fun h1 => ⟨hi', fun y ey z ez => rest y ey z ez (fun h => h1 h.1)⟩)⟩)
    exact hp x List.mem_cons_self h1 h2 h3
end
section
variable {post : Int32 → SX → Prop} {vc md rl rb : Int32} {mk : Nat → Int64} {pl : Nat → Int32} {f : ad_Fr} {k : ad_Ca} {wn ww : Nat → Int32}
theorem ad_find {n c : Nat} {F : Nat → (Nat → Bool) → Int32} {p : ad_P} (I : ad_I n c F p) (hc : 1 ≤ c) {lev low upper : Int32} {G : (Nat → Bool) → Int32} (hN : ad_Nd n F (ad_lv p) low upper lev G)
    (K : ∀ r F' p' c', ad_U p' 0 r → ad_I n c' F' p' → ad_Ext F p F' p' → c ≤ c' + 1 → ad_lv p' r = lev → (∀ s, F' r s = G s) → post (nI r) (ad_S vc md rl rb mk pl f k wn ww p')) :
    wpX_find post (ad_S vc md rl rb mk pl f k wn ww p) lev low upper := by
  obtain ⟨fh, fc, lv, lo, hi, ch, bu⟩ := p
  obtain ⟨fA, fB, fC, fL, fS, fW⟩ := f
  obtain ⟨cA, cB, cC, cR⟩ := k
  obtain ⟨eh, lh⟩ := ad_hs_e lev low upper
  have hT : ad_Tr n F lv lo hi := I.1
  obtain ⟨H, hH⟩ := I.2.1
  dsimp only [ad_fh, ad_fc, ad_lv, ad_lo, ad_hi, ad_ch, ad_bu] at hH hN
  obtain ⟨hch, hnd, hmem⟩ := hH _ lh
  obtain ⟨v0, hv0, ev0⟩ := ad_Nd_l hT.1 hN
  unfold wpX_find
  dsimp only
  refine nm_r eh ⟨vp_in_nI lh (by decide), nm_r (by rw [nI_clamp (by omega)]) ⟨769, ?_⟩⟩
  have hlen : (H (ad_hs lev low upper)).length ≤ 768 := ad_pig 768 _ hnd (fun x hx => ((hmem x).mp hx).1)
  refine ad_find30 (j := 0) (H (ad_hs lev low upper)) hch (by omega) (by omega) ?_ ?_
  · intro x hx h1 h2 h3
    obtain ⟨hx', hu, _⟩ := (hmem x).mp hx
    refine K x F (fh, fc, lv, lo, hi, ch, bu) c ⟨hx', Nat.zero_le _, hu⟩ I ad_Ext_r (by omega) h1 ?_
    have h := ad_cs hT hx' hu
    rw [h1, h2, h3] at h
    exact ad_Nd_det hT.1 h hN
  · intro hno
    obtain ⟨c, rfl⟩ : ∃ c', c = c' + 1 := ⟨c - 1, by omega⟩
    have hno' : ∀ x, x < 768 → ad_l lv x < 9 → ¬ (lv x = lev ∧ lo x = low ∧ hi x = upper) := by
      rintro x hx hu ⟨h1, h2, h3⟩
      refine hno x ((hmem x).mpr ⟨hx, hu, ?_⟩) ⟨h1, h2, h3⟩
      rw [h1, h2, h3]
    obtain ⟨f, hf, ef, F', I', E', eG⟩ := ad_new I hN hno'
    have hup : vp_nar .short upper.toInt16.toInt32 = upper := by
      rcases hN with ⟨_, h, _⟩ | ⟨_, a, b, _, _, _, eb, _, hb, _⟩
      · rw [h]
        exact ad_vs2 (v := 0) (by decide)
      · rw [eb]
        exact ad_vs2 (by omega)
    have hlv : vp_nar .byte lev.toInt8.toInt32 = lev := by
      rw [ev0]
      exact ad_vb2 (by omega)
    have hif : vp_in fh 768 := by
      rw [ef]
      exact vp_in_nI hf (by decide)
    have ecl : fh.toNatClampNeg = f := by
      rw [ef]
      exact nI_clamp (by omega)
    have ecl2 : (nI (ad_hs lev low upper)).toNatClampNeg = ad_hs lev low upper := nI_clamp (by omega)
    unfold wX_find_94
    rw [ecl, ecl2, hlv, hup, ad_hd_s (ad_chn_hd hch), show vp_nar .short fh.toInt16.toInt32 = nI f from by rw [ef]; exact ad_vs2 (by omega)]
    refine ⟨hif, nm_e (nm_e ⟨hif, nm_e ⟨hif, nm_e ⟨hif, nm_e ⟨vp_in_nI lh (by decide), hif, nm_e ⟨vp_in_nI lh (by decide), nm_e ?_⟩⟩⟩⟩⟩)⟩
    rw [ef]
    refine K f F' _ c ⟨hf, Nat.zero_le _, ?_⟩ I' (by rw [← ef]; exact E') (Nat.le_refl _) pk_us (fun s => by rw [eG])
    show ad_l (upd lv f lev) f < 9
    rw [ev0, ad_l_us hv0]
    exact hv0
theorem ad_value {n c : Nat} {F : Nat → (Nat → Bool) → Int32} {p : ad_P} (I : ad_I n c F p) (hc : 1 ≤ c) (z : Int32)
    (K : ∀ r F' p' c', ad_U p' 8 r → ad_I n c' F' p' → ad_Ext F p F' p' → c ≤ c' + 1 → (∀ s, F' r s = z) → post (nI r) (ad_S vc md rl rb mk pl f k wn ww p')) :
    wpX_value post (ad_S vc md rl rb mk pl f k wn ww p) z := by
  unfold wpX_value
  dsimp only
  exact ad_find (p := p) (f := f) (k := k) (G := fun _ => z) I hc (Or.inl ⟨rfl, rfl, fun _ => rfl⟩) (fun r F' p' c' u I' E hc' el hF => K r F' p' c' ⟨u.1, by rw [ad_l_8 el]; exact Nat.le_refl 8, u.2.2⟩ I' E hc' hF)
theorem ad_node {n c v a b : Nat} {F : Nat → (Nat → Bool) → Int32} {p : ad_P} (I : ad_I n c F p) (hc : a = b ∨ 1 ≤ c) (hv : v < n) (ua : ad_U p (v + 1) a) (ub : ad_U p (v + 1) b)
    (K : ∀ r F' p' c', ad_U p' v r → ad_I n c' F' p' → ad_Ext F p F' p' → (a = b → c = c') → c ≤ c' + 1 → (∀ s, F' r s = cond (s v) (F b s) (F a s)) → post (nI r) (ad_S vc md rl rb mk pl f k wn ww p')) :
    wpX_node post (ad_S vc md rl rb mk pl f k wn ww p) (nI v) (nI a) (nI b) := by
  unfold wpX_node
  dsimp only
  have h5 := I.1.1
  refine pk_eq a b (fun e => ?_) (fun e => ?_) rfl rfl (by have := ua.1; omega) (by have := ub.1; omega)
  · subst e
    exact K a F p c (ad_U_w ua (by omega)) I ad_Ext_r (fun _ => rfl) (by omega) (fun s => by cases s v <;> rfl)
  · refine ad_find (p := p) (f := f) (k := k) (G := fun s => cond (s v) (F b s) (F a s)) I (hc.resolve_left e) (Or.inr ⟨v, a, b, hv, rfl, rfl, rfl, ua.1, ub.1, e, ⟨ua.2.1, ua.2.2⟩, ⟨ub.2.1, ub.2.2⟩, fun _ => rfl⟩) ?_
    intro r F' p' c' u I' E hc' el hF
    refine K r F' p' c' ⟨u.1, ?_, u.2.2⟩ I' E (fun h => absurd h e) hc' hF
    rw [ad_l_nI el (by omega)]
    exact Nat.le_refl v
end
end
section
/-! what an operation computes; settle, topLevel, cofactor, openCofactor, remember -/
def ad_op (m : Nat) (p q : Int32) : Int32 :=
  if m = 0 then p + q else if m = 1 then p - q else if m = 2 then p * q else if m = 3 then (if q ≤ p then q else p) else if m = 4 then (if p ≤ q then q else p) else if m = 5 then (if q ≤ p then 0 else 1) else (if p = q then 1 else 0)
def ad_tg (m R : Nat) (B : Bool) (F : Nat → (Nat → Bool) → Int32) (a b d : Nat) (s : Nat → Bool) : Int32 :=
  if m = 8 then F a (ad_up s R B) else if m = 7 then (if F d s = 0 then F b s else F a s) else ad_op m (F a s) (F b s)
def ad_G (m R : Nat) (B : Bool) (F : Nat → (Nat → Bool) → Int32) (p : ad_P) (a b d r : Nat) : Prop :=
  ad_U p 0 r ∧ (∀ l, ad_U p l a → ad_U p l b → ad_U p l d → ad_U p l r) ∧ ∀ s, F r s = ad_tg m R B F a b d s
def ad_sh (m a b d : Nat) : Prop := (m = 8 → b = a ∧ d = a) ∧ (m < 7 → d = a)
def ad_CV (m R : Nat) (B : Bool) (F : Nat → (Nat → Bool) → Int32) (p : ad_P) (k : ad_Ca) : Prop :=
  ∀ i, i < 32 → k.2.2.2 i = -1 ∨ ∃ a b d r, k.1 i = nI a ∧ k.2.1 i = nI b ∧ k.2.2.1 i = nI d ∧ k.2.2.2 i = nI r ∧ ad_U p 0 a ∧ ad_U p 0 b ∧ ad_U p 0 d ∧ ad_G m R B F p a b d r
def ad_bi (b : Bool) : Int32 := cond b 1 0
def ad_Md (n m R : Nat) (B : Bool) (rl rb : Int32) : Prop := m ≤ 8 ∧ (m = 8 → R < n ∧ rl = nI R ∧ rb = ad_bi B)
theorem ad_Ext_Ui {F F' : Nat → (Nat → Bool) → Int32} {p p' : ad_P} (h : ad_Ext F p F' p') {l l' x : Nat} (hu : ad_U p l' x) (hu' : ad_U p' l x) : ad_U p l x := by
  refine ⟨hu.1, ?_, hu.2.2⟩
  rw [← ad_Ext_l h hu.1 hu.2.2]
  exact hu'.2.1
theorem ad_tg_e {m R : Nat} {B : Bool} {F F' : Nat → (Nat → Bool) → Int32} {a b d : Nat} (ea : F' a = F a) (eb : F' b = F b) (ed : F' d = F d) (s : Nat → Bool) : ad_tg m R B F' a b d s = ad_tg m R B F a b d s := by
  unfold ad_tg
  rw [ea, eb, ed]
theorem ad_G_k {m R : Nat} {B : Bool} {F F' : Nat → (Nat → Bool) → Int32} {p p' : ad_P} (h : ad_Ext F p F' p') {a b d r : Nat} (ua : ad_U p 0 a) (ub : ad_U p 0 b) (ud : ad_U p 0 d) (g : ad_G m R B F p a b d r) : ad_G m R B F' p' a b d r := by
  obtain ⟨g1, g2, g3⟩ := g
  refine ⟨ad_Ext_U h g1, fun l la lb ld => ad_Ext_U h (g2 l (ad_Ext_Ui h ua la) (ad_Ext_Ui h ub lb) (ad_Ext_Ui h ud ld)), fun s => ?_⟩
  rw [ad_Ext_F h g1, g3, ad_tg_e (ad_Ext_F h ua) (ad_Ext_F h ub) (ad_Ext_F h ud)]
theorem ad_CV_k {m R : Nat} {B : Bool} {F F' : Nat → (Nat → Bool) → Int32} {p p' : ad_P} {k : ad_Ca} (h : ad_Ext F p F' p') (g : ad_CV m R B F p k) : ad_CV m R B F' p' k := by
  intro i hi
  rcases g i hi with e | ⟨a, b, d, r, e1, e2, e3, e4, ua, ub, ud, g⟩
  · exact Or.inl e
  · exact Or.inr ⟨a, b, d, r, e1, e2, e3, e4, ad_Ext_U h ua, ad_Ext_U h ub, ad_Ext_U h ud, ad_G_k h ua ub ud g⟩
theorem ad_U_lev {n c : Nat} {F : Nat → (Nat → Bool) → Int32} {p : ad_P} (I : ad_I n c F p) {l x : Nat} (u : ad_U p l x) : ad_lv p x = nI (ad_l (ad_lv p) x) := (ad_lev I.1 u.1 u.2.2).1
theorem ad_U_in {p : ad_P} {l x : Nat} (u : ad_U p l x) : vp_in (nI x) 768 := vp_in_nI u.1 (by decide)
theorem ad_U_cl {p : ad_P} {l x : Nat} (u : ad_U p l x) : (nI x).toNatClampNeg = x := nI_clamp (by have := u.1; omega)
section
variable {post : Int32 → SX → Prop} {vc rl rb : Int32} {mk : Nat → Int64} {pl : Nat → Int32} {f : ad_Fr} {k : ad_Ca} {wn ww : Nat → Int32}
theorem ad_compute {Q : Int32 → Prop} {m : Nat} (hm : m < 7) {p : ad_P} (x y : Int32) (h : Q (ad_op m x y)) : wpX_compute Q (ad_S vc (nI m) rl rb mk pl f k wn ww p) x y := by
  unfold wpX_compute
  dsimp only
  unfold ad_op at h
  refine pk_eq m 0 (fun e => by rw [if_pos e] at h; exact h) (fun e0 => pk_eq m 1 (fun e => ?_) (fun e1 => pk_eq m 2 (fun e => ?_) (fun e2 => pk_eq m 3 (fun e => ?_) (fun e3 => pk_eq m 4 (fun e => ?_) (fun e4 => pk_eq m 5 (fun e => ?_) (fun e5 => ?_))))))
  · rw [if_neg e0, if_pos e] at h
    exact h
  · rw [if_neg e0, if_neg e1, if_pos e] at h
    exact h
  · rw [if_neg e0, if_neg e1, if_neg e2, if_pos e] at h
    exact br_c (fun c => by rw [if_pos c] at h; exact h) (fun c => by rw [if_neg c] at h; exact h)
  · rw [if_neg e0, if_neg e1, if_neg e2, if_neg e3, if_pos e] at h
    exact br_c (fun c => by rw [if_pos c] at h; exact h) (fun c => by rw [if_neg c] at h; exact h)
  · rw [if_neg e0, if_neg e1, if_neg e2, if_neg e3, if_neg e4, if_pos e] at h
    exact br_c (fun c => by rw [if_pos c] at h; exact h) (fun c => by rw [if_neg c] at h; exact h)
  · rw [if_neg e0, if_neg e1, if_neg e2, if_neg e3, if_neg e4, if_neg e5] at h
    exact br_c (fun c => by rw [if_pos c] at h; exact h) (fun c => by rw [if_neg c] at h; exact h)
theorem ad_settle113 {m R : Nat} {B : Bool} {F : Nat → (Nat → Bool) → Int32} {p : ad_P} {a b d : Nat} (ua : ad_U p 0 a) (ub : ad_U p 0 b) (ud : ad_U p 0 d) (hk : ad_CV m R B F p k)
    (K1 : ∀ r, ad_G m R B F p a b d r → post (nI r) (ad_S vc (nI m) rl rb mk pl f k wn ww p)) (K2 : post (-1) (ad_S vc (nI m) rl rb mk pl f k wn ww p)) :
    wX_settle_113 post (nI a) (nI b) (nI d) vc p.1 p.2.1 (nI m) rl rb p.2.2.1 p.2.2.2.1 p.2.2.2.2.1 p.2.2.2.2.2.1 p.2.2.2.2.2.2 mk pl f.1 f.2.1 f.2.2.1 f.2.2.2.1 f.2.2.2.2.1 f.2.2.2.2.2 k.1 k.2.1 k.2.2.1 k.2.2.2 wn ww := by
  unfold wX_settle_113
  obtain ⟨i, hi, e⟩ := pk_andE ((nI a + 3 * nI b) + 5 * nI d) (m := 31) 5 (by decide)
  have hi' : vp_in (nI i) 32 := vp_in_nI hi (by decide)
  refine nm_r e ⟨hi', ?_⟩
  rw [nI_clamp (by omega)]
  have ha := ua.1
  have hb := ub.1
  have hd := ud.1
  rcases hk i hi with e | ⟨a', b', d', r, e1, e2, e3, e4, ua', ub', ud', g⟩
  · rw [e]
    exact br_t (by decide) K2
  · rw [e1, e2, e3, e4]
    have hr := g.1.1
    have ha' := ua'.1
    have hb' := ub'.1
    have hd' := ud'.1
    refine br_f (nI_pos (by omega)) ⟨hi', pk_eq a' a (fun ea => ⟨hi', pk_eq b' b (fun eb => ⟨hi', pk_eq d' d (fun ed => ⟨hi', ?_⟩) (fun _ => K2)⟩) (fun _ => K2)⟩) (fun _ => K2)⟩
    subst ea eb ed
    exact K1 r g
theorem ad_settle {n c m R : Nat} {B : Bool} {F : Nat → (Nat → Bool) → Int32} {p : ad_P} {a b d : Nat} (I : ad_I n c F p) (hM : ad_Md n m R B rl rb) (ua : ad_U p 0 a) (ub : ad_U p 0 b) (ud : ad_U p 0 d) (hs : ad_sh m a b d) (hk : ad_CV m R B F p k) (hc : m < 7 → 1 ≤ c)
    (K1 : ∀ r F' p' c', ad_I n c' F' p' → ad_Ext F p F' p' → ad_G m R B F' p' a b d r → c ≤ c' + (if m < 7 then 1 else 0) → post (nI r) (ad_S vc (nI m) rl rb mk pl f k wn ww p'))
    (K2 : (m = 8 → ad_l (ad_lv p) a ≤ R) → (m = 7 → ad_l (ad_lv p) d < 8) → (m < 7 → ad_l (ad_lv p) a < 8 ∨ ad_l (ad_lv p) b < 8) → post (-1) (ad_S vc (nI m) rl rb mk pl f k wn ww p)) :
    wpX_settle post (ad_S vc (nI m) rl rb mk pl f k wn ww p) (nI a) (nI b) (nI d) := by
  have la := ad_U_lev I ua
  have lb := ad_U_lev I ub
  have ld := ad_U_lev I ud
  have h5 := I.1.1
  have hm := hM.1
  have e8 : (8 : Int32) = nI 8 := rfl
  have K1' : ∀ r, ad_G m R B F p a b d r → post (nI r) (ad_S vc (nI m) rl rb mk pl f k wn ww p) := fun r g => K1 r F p c I ad_Ext_r g (by omega)
  unfold wpX_settle
  dsimp only
  rw [ad_U_cl ua, ad_U_cl ub, ad_U_cl ud]
  dsimp only [ad_lv] at la lb ld
  rw [la, lb, ld]
  have la9 : ad_l p.2.2.1 a < 9 := ua.2.2
  have lb9 : ad_l p.2.2.1 b < 9 := ub.2.2
  have ld9 : ad_l p.2.2.1 d < 9 := ud.2.2
  refine pk_eq m 8 (fun em => ?_) (fun em => pk_eq m 7 (fun em7 => ?_) (fun em7 => ?_))
  · obtain ⟨hR, eR, _⟩ := hM.2 em
    obtain ⟨eb, ed⟩ := hs.1 em
    have eb' := eb.symm
    have ed' := ed.symm
    subst eb' ed'
    refine ⟨ad_U_in ua, pk_le (ad_l p.2.2.1 a) R (fun h => ?_) (fun h => ?_) rfl eR⟩
    · exact ad_settle113 ua ua ua hk K1' (K2 (fun _ => h) (fun e => by omega) (fun e => by omega))
    · refine K1' a ⟨ua, fun l u _ _ => u, fun s => ?_⟩
      unfold ad_tg
      rw [if_pos em]
      exact (ad_dpu I.1 ua.1 ua.2.2 h s B).symm
  · refine pk_eq a b (fun e => ?_) (fun e => ⟨ad_U_in ud, pk_eq (ad_l p.2.2.1 d) 8 (fun h8 => ⟨ad_U_in ud, ?_⟩) (fun h8 => ?_)⟩) rfl rfl (by have := ua.1; omega) (by have := ub.1; omega)
    · subst e
      refine K1' a ⟨ua, fun l u _ _ => u, fun s => ?_⟩
      unfold ad_tg
      rw [if_neg em, if_pos em7]
      split <;> rfl
    · have hl := ad_leaf I.1 ud.1 h8
      refine br_c (fun z => ?_) (fun z => ?_)
      · refine K1' b ⟨ub, fun l _ u _ => u, fun s => ?_⟩
        unfold ad_tg
        rw [if_neg em, if_pos em7, if_pos ((hl.2.2 s).trans z)]
      · refine K1' a ⟨ua, fun l u _ _ => u, fun s => ?_⟩
        unfold ad_tg
        rw [if_neg em, if_pos em7, if_neg (fun h => z ((hl.2.2 s).symm.trans h))]
    · exact ad_settle113 ua ub ud hk K1' (K2 (fun e => by omega) (fun _ => by show ad_l p.2.2.1 d < 8; omega) (fun e => by omega))
  · have hm7 : m < 7 := by omega
    refine ⟨ad_U_in ua, pk_eq (ad_l p.2.2.1 a) 8 (fun ha8 => ⟨ad_U_in ub, pk_eq (ad_l p.2.2.1 b) 8 (fun hb8 => ⟨ad_U_in ua, ad_U_in ub, ?_⟩) (fun hb8 => ?_)⟩) (fun ha8 => ?_)⟩
    · refine ad_compute (p := p) (f := f) (k := k) hm7 _ _ ?_
      refine ad_value (p := p) (f := f) (k := k) I (hc hm7) _ ?_
      intro r F' p' c' u I' E hc' hF
      refine K1 r F' p' c' I' E ⟨ad_U_w u (by omega), fun l u1 _ _ => ad_U_w u ?_, fun s => ?_⟩ (by rw [if_pos hm7]; exact hc')
      · have := ad_Ext_l E ua.1 ua.2.2
        have h1 := u1.2.1
        dsimp only [ad_lv] at this h1
        omega
      · have hla := ad_leaf I.1 ua.1 ha8
        have hlb := ad_leaf I.1 ub.1 hb8
        unfold ad_tg
        rw [if_neg em, if_neg em7, hF, ad_Ext_F E ua, ad_Ext_F E ub, hla.2.2, hlb.2.2]
    · exact ad_settle113 ua ub ud hk K1' (K2 (fun e => by omega) (fun e => by omega) (fun _ => Or.inr (by show ad_l p.2.2.1 b < 8; omega)))
    · exact ad_settle113 ua ub ud hk K1' (K2 (fun e => by omega) (fun e => by omega) (fun _ => Or.inl (by show ad_l p.2.2.1 a < 8; omega)))
theorem ad_topLevel {Q : Int32 → Prop} {md : Int32} {n c D : Nat} {F : Nat → (Nat → Bool) → Int32} {p : ad_P} {a b d : Nat} (I : ad_I n c F p) (hD : D < 8) (ua : ad_U p 0 a) (ub : ad_U p 0 b) (ud : ad_U p 0 d) (ea : f.1 D = nI a) (eb : f.2.1 D = nI b) (ed : f.2.2.1 D = nI d)
    (K : ∀ t, ad_U p t a → ad_U p t b → ad_U p t d → (t = ad_l (ad_lv p) a ∨ t = ad_l (ad_lv p) b ∨ t = ad_l (ad_lv p) d) → Q (nI t)) :
    wpX_topLevel Q (ad_S vc md rl rb mk pl f k wn ww p) (nI D) := by
  have la := ad_U_lev I ua
  have lb := ad_U_lev I ub
  have ld := ad_U_lev I ud
  have la9 := ua.2.2
  have lb9 := ub.2.2
  have ld9 := ud.2.2
  have hD' : vp_in (nI D) 8 := vp_in_nI hD (by decide)
  unfold wpX_topLevel
  dsimp only
  rw [nI_clamp (by omega), ea, eb, ed, ad_U_cl ua, ad_U_cl ub, ad_U_cl ud]
  dsimp only [ad_lv] at la lb ld la9 lb9 ld9
  refine ⟨hD', ad_U_in ua, nm_r la ⟨hD', ad_U_in ub, nm_r lb ⟨hD', ad_U_in ud, nm_r ld ?_⟩⟩⟩
  refine pk_le (ad_l p.2.2.1 a) (ad_l p.2.2.1 b) (fun h => ?_) (fun h => ?_)
  · unfold wX_topLevel_44
    refine pk_le (ad_l p.2.2.1 a) (ad_l p.2.2.1 d) (fun h2 => K _ ?_ ?_ ?_ (Or.inl rfl)) (fun h2 => K _ ?_ ?_ ?_ (Or.inr (Or.inr rfl)))
    · exact ⟨ua.1, Nat.le_refl _, ua.2.2⟩
    · exact ⟨ub.1, h, ub.2.2⟩
    · exact ⟨ud.1, h2, ud.2.2⟩
    · exact ⟨ua.1, by show ad_l p.2.2.1 d ≤ ad_l p.2.2.1 a; omega, ua.2.2⟩
    · exact ⟨ub.1, by show ad_l p.2.2.1 d ≤ ad_l p.2.2.1 b; omega, ub.2.2⟩
    · exact ⟨ud.1, Nat.le_refl _, ud.2.2⟩
  · unfold wX_topLevel_44
    refine pk_le (ad_l p.2.2.1 b) (ad_l p.2.2.1 d) (fun h2 => K _ ?_ ?_ ?_ (Or.inr (Or.inl rfl))) (fun h2 => K _ ?_ ?_ ?_ (Or.inr (Or.inr rfl)))
    · exact ⟨ua.1, by show ad_l p.2.2.1 b ≤ ad_l p.2.2.1 a; omega, ua.2.2⟩
    · exact ⟨ub.1, Nat.le_refl _, ub.2.2⟩
    · exact ⟨ud.1, h2, ud.2.2⟩
    · exact ⟨ua.1, by show ad_l p.2.2.1 d ≤ ad_l p.2.2.1 a; omega, ua.2.2⟩
    · exact ⟨ub.1, by show ad_l p.2.2.1 d ≤ ad_l p.2.2.1 b; omega, ub.2.2⟩
    · exact ⟨ud.1, Nat.le_refl _, ud.2.2⟩
end
end
section
/-! cofactor, openCofactor, remember -/
def ad_cf (p : ad_P) (t : Nat) (c : Bool) (x : Nat) : Nat := if ad_l (ad_lv p) x = t then cond c (ad_hi p x).toNatClampNeg (ad_lo p x).toNatClampNeg else x
/-- the bit that a cofactor takes -/
def ad_bb (m R t : Nat) (B b : Bool) : Bool := if m = 8 ∧ t = R then B else b
theorem ad_cf_in {n c t x a b : Nat} {F : Nat → (Nat → Bool) → Int32} {p : ad_P} (I : ad_I n c F p) (h : ad_In n F (ad_lv p) (ad_lo p x) (ad_hi p x) (ad_lv p x) (F x) t a b) (y : Bool) : ad_cf p t y x = cond y b a := by
  unfold ad_cf
  rw [if_pos (ad_InL I.1 h)]
  obtain ⟨_, _, ea, eb, ha, hb, _⟩ := h
  rw [ea, eb, nI_clamp (by omega), nI_clamp (by omega)]
theorem ad_cf_U {n c t x : Nat} {F : Nat → (Nat → Bool) → Int32} {p : ad_P} (I : ad_I n c F p) (ht : t < n) (u : ad_U p t x) (y : Bool) : ad_U p (t + 1) (ad_cf p t y x) ∧ ∀ s, F (ad_cf p t y x) s = F x (ad_up s t y) := by
  have h5 := I.1.1
  by_cases e : ad_l (ad_lv p) x = t
  · obtain ⟨a, b, h⟩ := ad_inner I.1 u.1 (by omega)
    rw [e] at h
    rw [ad_cf_in I h y]
    have hk := fun s => ad_kid I.1 h s y
    obtain ⟨_, _, ea, eb, ha, hb, _, la, lb, _⟩ := h
    refine ⟨?_, fun s => (hk s).symm⟩
    cases y
    · exact ⟨ha, la.1, la.2⟩
    · exact ⟨hb, lb.1, lb.2⟩
  · unfold ad_cf
    rw [if_neg e]
    have hl : t + 1 ≤ ad_l (ad_lv p) x := by have := u.2.1; omega
    exact ⟨⟨u.1, hl, u.2.2⟩, fun s => (ad_dpu I.1 u.1 u.2.2 hl s y).symm⟩
section
variable {vc rl rb : Int32} {mk : Nat → Int64} {pl : Nat → Int32} {f : ad_Fr} {k : ad_Ca} {wn ww : Nat → Int32}
theorem ad_bi0 {A C : Prop} (b : Bool) (h1 : b = false → A) (h2 : b = true → C) : (ad_bi b = 0 → A) ∧ (¬ ad_bi b = 0 → C) := by
  cases b
  · exact br_t rfl (h1 rfl)
  · exact br_f (by decide) (h2 rfl)
theorem ad_cofactor {Q : Int32 → Prop} {n c m R t x : Nat} {B b : Bool} {F : Nat → (Nat → Bool) → Int32} {p : ad_P} (I : ad_I n c F p) (hM : ad_Md n m R B rl rb) (ht : t < n) (u : ad_U p t x)
    (h : Q (nI (ad_cf p t (ad_bb m R t B b) x))) : wpX_cofactor Q (ad_S vc (nI m) rl rb mk pl f k wn ww p) (nI x) (nI t) (ad_bi b) := by
  have h5 := I.1.1
  have lx := ad_U_lev I u
  have lx9 := u.2.2
  have ix := ad_U_in u
  have hm := hM.1
  unfold wpX_cofactor
  dsimp only
  rw [ad_U_cl u]
  refine ⟨ix, ?_⟩
  dsimp only [ad_lv] at lx lx9
  rw [lx]
  refine pk_eq (ad_l p.2.2.1 x) t (fun e => ?_) (fun e => ?_)
  · obtain ⟨a, b', hi⟩ := ad_inner I.1 u.1 (by show ad_l p.2.2.1 x < 8; omega)
    rw [show ad_l (ad_lv p) x = t from e] at hi
    rw [ad_cf_in I hi] at h
    obtain ⟨_, _, ea, eb, ha, hb, _⟩ := hi
    have k37 : ∀ y : Bool, y = ad_bb m R t B b → wX_cofactor_37 Q (nI x) (ad_bi y) vc p.1 p.2.1 (nI m) rl rb p.2.2.1 p.2.2.2.1 p.2.2.2.2.1 p.2.2.2.2.2.1 p.2.2.2.2.2.2 mk pl f.1 f.2.1 f.2.2.1 f.2.2.2.1 f.2.2.2.2.1 f.2.2.2.2.2 k.1 k.2.1 k.2.2.1 k.2.2.2 wn ww := by
      intro y ey
      rw [← ey] at h
      unfold wX_cofactor_37
      rw [ad_U_cl u]
      refine ad_bi0 y (fun z => ⟨ix, ?_⟩) (fun z => ⟨ix, ?_⟩)
      · subst z
        rw [show p.2.2.2.1 x = nI a from ea]
        exact h
      · subst z
        rw [show p.2.2.2.2.1 x = nI b' from eb]
        exact h
    refine pk_eq m 8 (fun em => ?_) (fun em => ?_)
    · obtain ⟨hR, eR, eB⟩ := hM.2 em
      refine pk_eq t R (fun e2 => ?_) (fun e2 => ?_) rfl eR
      · rw [eB]
        exact k37 B (by unfold ad_bb; rw [if_pos ⟨em, e2⟩])
      · unfold wX_cofactor_36
        exact k37 b (by unfold ad_bb; rw [if_neg (fun z => e2 z.2)])
    · unfold wX_cofactor_36
      exact k37 b (by unfold ad_bb; rw [if_neg (fun z => em z.1)])
  · unfold ad_cf at h
    rw [if_neg (show ¬ ad_l (ad_lv p) x = t from e)] at h
    exact h
theorem ad_openCofactor {Q : SX → Prop} {n c m R t D a b d : Nat} {B y : Bool} {F : Nat → (Nat → Bool) → Int32} {p : ad_P} (I : ad_I n c F p) (hM : ad_Md n m R B rl rb) (ht : t < n) (hD : D + 1 < 8) (ua : ad_U p t a) (ub : ad_U p t b) (ud : ad_U p t d) (ea : f.1 D = nI a) (eb : f.2.1 D = nI b) (ed : f.2.2.1 D = nI d) (et : f.2.2.2.1 D = nI t)
    (h : Q (ad_S vc (nI m) rl rb mk pl (upd f.1 (D + 1) (nI (ad_cf p t (ad_bb m R t B y) a)), upd f.2.1 (D + 1) (nI (ad_cf p t (ad_bb m R t B y) b)), upd f.2.2.1 (D + 1) (nI (ad_cf p t (ad_bb m R t B y) d)), f.2.2.2.1, upd f.2.2.2.2.1 (D + 1) 0, f.2.2.2.2.2) k wn ww p)) :
    wpX_openCofactor Q (ad_S vc (nI m) rl rb mk pl f k wn ww p) (nI D) (ad_bi y) := by
  have h5 := I.1.1
  have hD' : vp_in (nI D) 8 := vp_in_nI (by omega) (by decide)
  have hD1 : vp_in (nI (D + 1)) 8 := vp_in_nI (by omega) (by decide)
  have c1 := (ad_cf_U I ht ua (ad_bb m R t B y)).1.1
  have c2 := (ad_cf_U I ht ub (ad_bb m R t B y)).1.1
  have c3 := (ad_cf_U I ht ud (ad_bb m R t B y)).1.1
  unfold wpX_openCofactor
  dsimp only
  rw [nI_clamp (by omega), ea, eb, ed, et]
  refine ⟨hD', nm_e ⟨hD', ?_⟩⟩
  refine ad_cofactor (p := p) (f := f) (k := k) I hM ht ua ⟨hD', ?_⟩
  refine ad_cofactor (p := p) (f := f) (k := k) I hM ht ub ⟨hD', ?_⟩
  refine ad_cofactor (p := p) (f := f) (k := k) I hM ht ud ?_
  unfold wpX_open
  dsimp only
  rw [nI_1, nI_clamp (by omega), ad_vs2 (by omega), ad_vs2 (by omega), ad_vs2 (by omega), show vp_nar .byte 0 = 0 from ad_vb (v := 0) (by decide)]
  exact ⟨hD1, nm_e ⟨hD1, nm_e ⟨hD1, nm_e ⟨hD1, nm_e h⟩⟩⟩⟩
theorem ad_remember {Q : SX → Prop} {md : Int32} {m R D a b d r : Nat} {B : Bool} {F : Nat → (Nat → Bool) → Int32} {p : ad_P} (hD : D < 8) (ua : ad_U p 0 a) (ub : ad_U p 0 b) (ud : ad_U p 0 d) (ea : f.1 D = nI a) (eb : f.2.1 D = nI b) (ed : f.2.2.1 D = nI d) (hk : ad_CV m R B F p k) (g : ad_G m R B F p a b d r)
    (K : ∀ k' : ad_Ca, ad_CV m R B F p k' → Q (ad_S vc md rl rb mk pl f k' wn ww p)) :
    wpX_remember Q (ad_S vc md rl rb mk pl f k wn ww p) (nI D) (nI r) := by
  have hD' : vp_in (nI D) 8 := vp_in_nI hD (by decide)
  unfold wpX_remember
  dsimp only
  rw [nI_clamp (by omega), ea, eb, ed]
  obtain ⟨i, hi, e⟩ := pk_andE ((nI a + 3 * nI b) + 5 * nI d) (m := 31) 5 (by decide)
  have hi' : vp_in (nI i) 32 := vp_in_nI hi (by decide)
  have c1 := ua.1
  have c2 := ub.1
  have c3 := ud.1
  have c4 := g.1.1
  refine ⟨hD', nm_e ⟨hD', nm_e ⟨hD', nm_e (nm_r e ?_)⟩⟩⟩
  rw [nI_clamp (by omega), ad_vs2 (by omega), ad_vs2 (by omega), ad_vs2 (by omega), ad_vs2 (by omega)]
  refine ⟨hi', nm_e ⟨hi', nm_e ⟨hi', nm_e ⟨hi', nm_e ?_⟩⟩⟩⟩
  refine K (upd k.1 i (nI a), upd k.2.1 i (nI b), upd k.2.2.1 i (nI d), upd k.2.2.2 i (nI r)) ?_
  intro j hj
  dsimp only
  by_cases e : j = i
  · rw [e, pk_us, pk_us, pk_us, pk_us]
    exact Or.inr ⟨a, b, d, r, rfl, rfl, rfl, rfl, ua, ub, ud, g⟩
  · rw [pk_un e, pk_un e, pk_un e, pk_un e]
    exact hk j hj
end
/-- the target splits at variable t -/
theorem ad_tg_split {m R t a b d a0 b0 d0 a1 b1 d1 : Nat} {B : Bool} {F : Nat → (Nat → Bool) → Int32}
    (h0 : ∀ s, F a0 s = F a (ad_up s t (ad_bb m R t B false))) (h0' : ∀ s, F b0 s = F b (ad_up s t (ad_bb m R t B false))) (h0'' : ∀ s, F d0 s = F d (ad_up s t (ad_bb m R t B false)))
    (h1 : ∀ s, F a1 s = F a (ad_up s t (ad_bb m R t B true))) (h1' : ∀ s, F b1 s = F b (ad_up s t (ad_bb m R t B true))) (h1'' : ∀ s, F d1 s = F d (ad_up s t (ad_bb m R t B true))) (s : Nat → Bool) :
    cond (s t) (ad_tg m R B F a1 b1 d1 s) (ad_tg m R B F a0 b0 d0 s) = ad_tg m R B F a b d s := by
  unfold ad_tg
  by_cases em : m = 8
  · rw [if_pos em, if_pos em, if_pos em, h0, h1]
    by_cases et : t = R
    · have e : ∀ y, ad_bb m R t B y = B := fun y => by unfold ad_bb; rw [if_pos ⟨em, et⟩]
      rw [e, e, et, ad_up_up]
      cases s R <;> rfl
    · have e : ∀ y, ad_bb m R t B y = y := fun y => by unfold ad_bb; rw [if_neg (fun z => et z.2)]
      have e2 : ad_up s R B t = s t := ad_up_n et
      rw [e, e]
      cases h : s t
      · rw [h] at e2
        show F a (ad_up (ad_up s R B) t false) = _
        rw [← e2, ad_up_id]
      · rw [h] at e2
        show F a (ad_up (ad_up s R B) t true) = _
        rw [← e2, ad_up_id]
  · have e : ∀ y, ad_bb m R t B y = y := fun y => by unfold ad_bb; rw [if_neg (fun z => em z.1)]
    simp only [e] at h0 h0' h0'' h1 h1' h1''
    have hid := ad_up_id s t
    cases h : s t
    · rw [h] at hid
      show (if m = 8 then _ else _) = _
      rw [if_neg em, if_neg em, h0, h0', h0'', hid]
    · rw [h] at hid
      show (if m = 8 then _ else _) = _
      rw [if_neg em, if_neg em, h1, h1', h1'', hid]
end
section
/-! combine's loop -/
def ad_cost : Nat → Nat
  | 0 => 1
  | h + 1 => 2 * ad_cost h + 3
def ad_frE (D : Nat) (f f' : ad_Fr) : Prop := ∀ i, i < D → f'.1 i = f.1 i ∧ f'.2.1 i = f.2.1 i ∧ f'.2.2.1 i = f.2.2.1 i ∧ f'.2.2.2.1 i = f.2.2.2.1 i ∧ f'.2.2.2.2.1 i = f.2.2.2.2.1 i ∧ f'.2.2.2.2.2 i = f.2.2.2.2.2 i
abbrev ad_c47 (post : Int32 → SX → Prop) (q : Nat) (x5 x6 x7 : Int32) (vc md rl rb : Int32) (mk : Nat → Int64) (pl : Nat → Int32) (f : ad_Fr) (k : ad_Ca) (wn ww : Nat → Int32) (p : ad_P) : Prop :=
  wX_combine_47 post q x5 x6 x7 vc p.1 p.2.1 md rl rb p.2.2.1 p.2.2.2.1 p.2.2.2.2.1 p.2.2.2.2.2.1 p.2.2.2.2.2.2 mk pl f.1 f.2.1 f.2.2.1 f.2.2.2.1 f.2.2.2.2.1 f.2.2.2.2.2 k.1 k.2.1 k.2.2.1 k.2.2.2 wn ww
section
variable {post : Int32 → SX → Prop} {vc rl rb : Int32} {mk : Nat → Int64} {pl wn ww : Nat → Int32}
theorem ad_comb {n m R : Nat} {B : Bool} (cn : Nat → Nat) (hM : ad_Md n m R B rl rb) (hcn1 : m < 7 → ∀ l, 1 ≤ cn l) (hcn2 : ∀ l t, l ≤ t → t < n → (m = 8 → t ≤ R) → 2 * cn (t + 1) + (if m = 8 ∧ t = R then 0 else 1) ≤ cn l) :
    ∀ (h l D a b d : Nat) (F : Nat → (Nat → Bool) → Int32) (p : ad_P) (f : ad_Fr) (k : ad_Ca) (c q s : Nat) (x6 : Int32), 5 ≤ l + h → D ≤ l → l ≤ 5 → ad_I n c F p → ad_U p l a → ad_U p l b → ad_U p l d → ad_sh m a b d → ad_CV m R B F p k →
      f.1 D = nI a → f.2.1 D = nI b → f.2.2.1 D = nI d → f.2.2.2.2.1 D = 0 → q + s = 401 → s + ad_cost h ≤ 399 → cn l ≤ c →
      (∀ (q' s' r : Nat) (F' : Nat → (Nat → Bool) → Int32) (p' : ad_P) (f' : ad_Fr) (k' : ad_Ca) (c' : Nat), q' + s' = 401 → s' ≤ s + ad_cost h → ad_I n c' F' p' → ad_Ext F p F' p' → c ≤ c' + cn l → ad_CV m R B F' p' k' → ad_frE D f f' → ad_G m R B F' p' a b d r →
        ad_c47 post q' (nI D + (-1)) (nI r) (nI s') vc (nI m) rl rb mk pl f' k' wn ww p') →
      ad_c47 post q (nI D) x6 (nI s) vc (nI m) rl rb mk pl f k wn ww p := by
  intro h
  induction h with
  | zero =>
    intro l D a b d F p f k c q s x6 hl hDl hl5 I ua ub ud hs hk eA eB eC eS hq hcost hc K
    have h5 := I.1.1
    have hm := hM.1
    have ecost : ad_cost 0 = 1 := rfl
    obtain ⟨q, rfl⟩ : ∃ q', q = q' + 1 := ⟨q - 1, by omega⟩
    have hD8 : vp_in (nI D) 8 := vp_in_nI (by omega) (by decide)
    show wX_combine_47 post (q + 1) _ _ _ _ _ _ _ _ _ _ _ _ _ _ _ _ _ _ _ _ _ _ _ _ _ _ _ _
    rw [wX_combine_47]
    dsimp only
    rw [nI_clamp (by omega), eA, eB, eC, eS]
    refine pk_le 400 s (fun z => absurd z (by omega)) (fun _ => br_f (nI_pos (by omega)) ⟨hD8, nm_e (br_t rfl ⟨hD8, hD8, hD8, ?_⟩)⟩)
    refine ad_settle (p := p) (f := f) (k := k) I hM (ad_U_w ua (Nat.zero_le _)) (ad_U_w ub (Nat.zero_le _)) (ad_U_w ud (Nat.zero_le _)) hs hk (fun hm7 => Nat.le_trans (hcn1 hm7 l) hc) ?_ ?_
    · intro r F' p' c' I' E g hc'
      dsimp only
      have hr := g.1.1
      refine br_f (nI_pos (by omega)) (nm_e (nm_r (nI_1 s) ?_))
      refine K q (s + 1) r F' p' f k c' (by omega) (by omega) I' E ?_ (ad_CV_k E hk) (fun i _ => ⟨rfl, rfl, rfl, rfl, rfl, rfl⟩) g
      by_cases hm7 : m < 7
      · have := hcn1 hm7 l
        rw [if_pos hm7] at hc'
        omega
      · rw [if_neg hm7] at hc'
        omega
    · intro k1 k2 k3
      exfalso
      have ga := (ad_lev I.1 ua.1 ua.2.2).2
      have gb := (ad_lev I.1 ub.1 ub.2.2).2
      have gd := (ad_lev I.1 ud.1 ud.2.2).2
      have ha := ua.2.1
      have hb := ub.2.1
      have hd := ud.2.1
      by_cases e8 : m = 8
      · have := k1 e8
        have := (hM.2 e8).1
        omega
      · by_cases e7 : m = 7
        · have := k2 e7
          omega
        · have := k3 (by omega)
          omega
  | succ h ih =>
    intro l D a b d F p f k c q s x6 hl hDl hl5 I ua ub ud hs hk eA eB eC eS hq hcost hc K
    have h5 := I.1.1
    have hm := hM.1
    have ecost : ad_cost (h + 1) = 2 * ad_cost h + 3 := rfl
    obtain ⟨q, rfl⟩ : ∃ q', q = q' + 1 := ⟨q - 1, by omega⟩
    have hD8 : vp_in (nI D) 8 := vp_in_nI (by omega) (by decide)
    show wX_combine_47 post (q + 1) _ _ _ _ _ _ _ _ _ _ _ _ _ _ _ _ _ _ _ _ _ _ _ _ _ _ _ _
    rw [wX_combine_47]
    dsimp only
    rw [nI_clamp (by omega), eA, eB, eC, eS]
    refine pk_le 400 s (fun z => absurd z (by omega)) (fun _ => br_f (nI_pos (by omega)) ⟨hD8, nm_e (br_t rfl ⟨hD8, hD8, hD8, ?_⟩)⟩)
    refine ad_settle (p := p) (f := f) (k := k) I hM (ad_U_w ua (Nat.zero_le _)) (ad_U_w ub (Nat.zero_le _)) (ad_U_w ud (Nat.zero_le _)) hs hk (fun hm7 => Nat.le_trans (hcn1 hm7 l) hc) ?_ ?_
    · intro r F' p' c' I' E g hc'
      dsimp only
      have hr := g.1.1
      refine br_f (nI_pos (by omega)) (nm_e (nm_r (nI_1 s) ?_))
      refine K q (s + 1) r F' p' f k c' (by omega) (by omega) I' E ?_ (ad_CV_k E hk) (fun i _ => ⟨rfl, rfl, rfl, rfl, rfl, rfl⟩) g
      by_cases hm7 : m < 7
      · have := hcn1 hm7 l
        rw [if_pos hm7] at hc'
        omega
      · rw [if_neg hm7] at hc'
        omega
    · intro k1 k2 k3
      dsimp only
      refine br_t (by decide) ?_
      refine ad_topLevel (p := p) (f := f) (k := k) I (by omega) (ad_U_w ua (Nat.zero_le _)) (ad_U_w ub (Nat.zero_le _)) (ad_U_w ud (Nat.zero_le _)) eA eB eC ?_
      intro t ta tb td ht
      have ga := (ad_lev I.1 ua.1 ua.2.2).2
      have gb := (ad_lev I.1 ub.1 ub.2.2).2
      have gd := (ad_lev I.1 ud.1 ud.2.2).2
      have htl : l ≤ t := by
        have ha := ua.2.1
        have hb := ub.2.1
        have hd := ud.2.1
        omega
      have htn : t < n ∧ (m = 8 → t ≤ R) := by
        have ha := ta.2.1
        have hb := tb.2.1
        have hd := td.2.1
        by_cases e8 : m = 8
        · have := k1 e8
          have := (hM.2 e8).1
          omega
        · by_cases e7 : m = 7
          · have := k2 e7
            omega
          · have := k3 (by omega)
            omega
      obtain ⟨htn, htR⟩ := htn
      have hcn := hcn2 l t htl htn htR
      rw [ad_vb2 (by omega), show vp_nar .byte 1 = nI 1 from ad_vb (v := 1) (by decide)]
      refine ⟨hD8, nm_e ⟨hD8, nm_e ?_⟩⟩
      -- the first cofactor
      refine ad_openCofactor (p := p) (k := k) (y := false) (f := (f.1, f.2.1, f.2.2.1, upd f.2.2.2.1 D (nI t), upd f.2.2.2.2.1 D (nI 1), f.2.2.2.2.2)) I hM htn (by omega) ta tb td eA eB eC pk_us ?_
      dsimp only
      refine nm_r (nI_1 D) (nm_r (nI_1 s) ?_)
      obtain ⟨u0a, e0a⟩ := ad_cf_U I htn ta (ad_bb m R t B false)
      obtain ⟨u0b, e0b⟩ := ad_cf_U I htn tb (ad_bb m R t B false)
      obtain ⟨u0d, e0d⟩ := ad_cf_U I htn td (ad_bb m R t B false)
      refine ih (t + 1) (D + 1) _ _ _ F p (upd f.1 (D + 1) _, upd f.2.1 (D + 1) _, upd f.2.2.1 (D + 1) _, upd f.2.2.2.1 D (nI t), upd (upd f.2.2.2.2.1 D (nI 1)) (D + 1) 0, f.2.2.2.2.2) k c q (s + 1) x6 (by omega) (by omega) (by omega) I u0a u0b u0d ?_ hk pk_us pk_us pk_us pk_us (by omega) (by omega) (by omega) ?_
      · refine ⟨fun e => ?_, fun e => ?_⟩
        · obtain ⟨eb, ed⟩ := hs.1 e
          rw [eb, ed]
          exact ⟨rfl, rfl⟩
        · rw [hs.2 e]
      intro q1 s1 r0 F1 p1 f1 kk1 c1 hq1 hs1 I1 E1 hc1 hk1 fE1 g0
      obtain ⟨eA1, eB1, eC1, eL1, eS1, eW1⟩ := fE1 D (Nat.lt_succ_self D)
      dsimp only at eA1 eB1 eC1 eL1 eS1 eW1
      rw [pk_un (Nat.ne_of_lt (Nat.lt_succ_self D))] at eA1 eB1 eC1
      rw [pk_un (Nat.ne_of_lt (Nat.lt_succ_self D)), pk_us] at eS1
      rw [pk_us] at eL1
      rw [eA] at eA1
      rw [eB] at eB1
      rw [eC] at eC1
      have hr0 := g0.1.1
      have ta1 := ad_Ext_U E1 ta
      have tb1 := ad_Ext_U E1 tb
      have td1 := ad_Ext_U E1 td
      rw [pk_m1]
      obtain ⟨q1, rfl⟩ : ∃ q', q1 = q' + 1 := ⟨q1 - 1, by omega⟩
      show wX_combine_47 post (q1 + 1) _ _ _ _ _ _ _ _ _ _ _ _ _ _ _ _ _ _ _ _ _ _ _ _ _ _ _ _
      rw [wX_combine_47]
      dsimp only
      rw [nI_clamp (by omega), eS1, ad_vs2 (by omega), show vp_nar .byte 2 = nI 2 from ad_vb (v := 2) (by decide)]
      refine pk_le 400 s1 (fun z => absurd z (by omega)) (fun _ => br_f (nI_pos (by omega)) ⟨hD8, nm_e (br_f (by decide) (br_t rfl ⟨hD8, nm_e ⟨hD8, nm_e ?_⟩⟩))⟩)
      -- the second cofactor
      refine ad_openCofactor (p := p1) (k := kk1) (y := true) (f := (f1.1, f1.2.1, f1.2.2.1, f1.2.2.2.1, upd f1.2.2.2.2.1 D (nI 2), upd f1.2.2.2.2.2 D (nI r0))) I1 hM htn (by omega) ta1 tb1 td1 eA1 eB1 eC1 eL1 ?_
      dsimp only
      refine nm_r (nI_1 D) (nm_r (nI_1 s1) ?_)
      obtain ⟨u1a, e1a⟩ := ad_cf_U I1 htn ta1 (ad_bb m R t B true)
      obtain ⟨u1b, e1b⟩ := ad_cf_U I1 htn tb1 (ad_bb m R t B true)
      obtain ⟨u1d, e1d⟩ := ad_cf_U I1 htn td1 (ad_bb m R t B true)
      refine ih (t + 1) (D + 1) _ _ _ F1 p1 (upd f1.1 (D + 1) _, upd f1.2.1 (D + 1) _, upd f1.2.2.1 (D + 1) _, f1.2.2.2.1, upd (upd f1.2.2.2.2.1 D (nI 2)) (D + 1) 0, upd f1.2.2.2.2.2 D (nI r0)) kk1 c1 q1 (s1 + 1) (nI r0) (by omega) (by omega) (by omega) I1 u1a u1b u1d ?_ hk1 pk_us pk_us pk_us pk_us (by omega) (by omega) (by omega) ?_
      · refine ⟨fun e => ?_, fun e => ?_⟩
        · obtain ⟨eb, ed⟩ := hs.1 e
          rw [eb, ed]
          exact ⟨rfl, rfl⟩
        · rw [hs.2 e]
      intro q2 s2 r1 F2 p2 f2 kk2 c2 hq2 hs2 I2 E2 hc2 hk2 fE2 g1
      obtain ⟨eA2, eB2, eC2, eL2, eS2, eW2⟩ := fE2 D (Nat.lt_succ_self D)
      dsimp only at eA2 eB2 eC2 eL2 eS2 eW2
      rw [pk_un (Nat.ne_of_lt (Nat.lt_succ_self D))] at eA2 eB2 eC2
      rw [pk_un (Nat.ne_of_lt (Nat.lt_succ_self D)), pk_us] at eS2
      rw [pk_us] at eW2
      rw [eA1] at eA2
      rw [eB1] at eB2
      rw [eC1] at eC2
      rw [eL1] at eL2
      have hr1 := g1.1.1
      have E12 := ad_Ext_t E1 E2
      have ta2 := ad_Ext_U E12 ta
      have tb2 := ad_Ext_U E12 tb
      have td2 := ad_Ext_U E12 td
      have g0' := ad_G_k E2 (ad_U_w (ad_Ext_U E1 u0a) (Nat.zero_le _)) (ad_U_w (ad_Ext_U E1 u0b) (Nat.zero_le _)) (ad_U_w (ad_Ext_U E1 u0d) (Nat.zero_le _)) g0
      have ur0 : ad_U p2 (t + 1) r0 := g0'.2.1 (t + 1) (ad_Ext_U E12 u0a) (ad_Ext_U E12 u0b) (ad_Ext_U E12 u0d)
      have ur1 : ad_U p2 (t + 1) r1 := g1.2.1 (t + 1) (ad_Ext_U E2 u1a) (ad_Ext_U E2 u1b) (ad_Ext_U E2 u1d)
      -- the cofactors' meanings in the present pool
      have z0a : ∀ s, F2 (ad_cf p t (ad_bb m R t B false) a) s = F2 a (ad_up s t (ad_bb m R t B false)) := fun s => by rw [ad_Ext_F E12 u0a, ad_Ext_F E12 ta, e0a]
      have z0b : ∀ s, F2 (ad_cf p t (ad_bb m R t B false) b) s = F2 b (ad_up s t (ad_bb m R t B false)) := fun s => by rw [ad_Ext_F E12 u0b, ad_Ext_F E12 tb, e0b]
      have z0d : ∀ s, F2 (ad_cf p t (ad_bb m R t B false) d) s = F2 d (ad_up s t (ad_bb m R t B false)) := fun s => by rw [ad_Ext_F E12 u0d, ad_Ext_F E12 td, e0d]
      have z1a : ∀ s, F2 (ad_cf p1 t (ad_bb m R t B true) a) s = F2 a (ad_up s t (ad_bb m R t B true)) := fun s => by rw [ad_Ext_F E2 u1a, ad_Ext_F E2 ta1, e1a]
      have z1b : ∀ s, F2 (ad_cf p1 t (ad_bb m R t B true) b) s = F2 b (ad_up s t (ad_bb m R t B true)) := fun s => by rw [ad_Ext_F E2 u1b, ad_Ext_F E2 tb1, e1b]
      have z1d : ∀ s, F2 (ad_cf p1 t (ad_bb m R t B true) d) s = F2 d (ad_up s t (ad_bb m R t B true)) := fun s => by rw [ad_Ext_F E2 u1d, ad_Ext_F E2 td1, e1d]
      have hsame : m = 8 ∧ t = R → r0 = r1 := by
        rintro ⟨e8, eR⟩
        refine ad_can I2.1 ur0.1 ur1.1 ur0.2.2 ur1.2.2 (fun s => ?_)
        have e : ∀ y, ad_bb m R t B y = B := fun y => by unfold ad_bb; rw [if_pos ⟨e8, eR⟩]
        rw [g0'.2.2, g1.2.2]
        unfold ad_tg
        rw [if_pos e8, if_pos e8, z0a, z1a, e, e]
      rw [pk_m1]
      obtain ⟨q2, rfl⟩ : ∃ q', q2 = q' + 1 := ⟨q2 - 1, by omega⟩
      show wX_combine_47 post (q2 + 1) _ _ _ _ _ _ _ _ _ _ _ _ _ _ _ _ _ _ _ _ _ _ _ _ _ _ _ _
      rw [wX_combine_47]
      dsimp only
      rw [nI_clamp (by omega), eS2, eL2, eW2]
      refine pk_le 400 s2 (fun z => absurd z (by omega)) (fun _ => br_f (nI_pos (by omega)) ⟨hD8, nm_e (br_f (by decide) (br_f (by decide) ⟨hD8, hD8, ?_⟩))⟩)
      refine ad_node (p := p2) (f := f2) (k := kk2) I2 ?_ htn ur0 ur1 ?_
      · by_cases e : m = 8 ∧ t = R
        · exact Or.inl (hsame e)
        · rw [if_neg e] at hcn
          exact Or.inr (by omega)
      intro r F3 p3 c3 ur I3 E3 hc3 hc3' hF3
      dsimp only
      have E13 := ad_Ext_t E12 E3
      have G3 : ad_G m R B F3 p3 a b d r := by
        refine ⟨ad_U_w ur (Nat.zero_le _), fun l' wa wb wd => ad_U_w ur ?_, fun s => ?_⟩
        · have wa' := (ad_Ext_Ui E13 ta wa).2.1
          have wb' := (ad_Ext_Ui E13 tb wb).2.1
          have wd' := (ad_Ext_Ui E13 td wd).2.1
          omega
        · rw [hF3, g0'.2.2, g1.2.2, ad_tg_split z0a z0b z0d z1a z1b z1d, ad_tg_e (ad_Ext_F E3 ta2) (ad_Ext_F E3 tb2) (ad_Ext_F E3 td2)]
      refine ad_remember (p := p3) (f := f2) (k := kk2) (by omega) (ad_U_w (ad_Ext_U E13 ta) (Nat.zero_le _)) (ad_U_w (ad_Ext_U E13 tb) (Nat.zero_le _)) (ad_U_w (ad_Ext_U E13 td) (Nat.zero_le _)) eA2 eB2 eC2 (ad_CV_k E3 hk2) G3 ?_
      intro k' hk'
      dsimp only
      refine nm_e (nm_r (nI_1 s2) ?_)
      refine K q2 (s2 + 1) r F3 p3 f2 k' c3 (by omega) (by omega) I3 E13 ?_ hk' ?_ G3
      · by_cases e : m = 8 ∧ t = R
        · have := hc3 (hsame e)
          rw [if_pos e] at hcn
          omega
        · rw [if_neg e] at hcn
          omega
      · intro i hi
        obtain ⟨y1, y2, y3, y4, y5, y6⟩ := fE1 i (by omega)
        obtain ⟨w1, w2, w3, w4, w5, w6⟩ := fE2 i (by omega)
        dsimp only at y1 y2 y3 y4 y5 y6 w1 w2 w3 w4 w5 w6
        rw [pk_un (show i ≠ D + 1 by omega)] at y1 y2 y3 y5 w1 w2 w3 w5
        rw [pk_un (show i ≠ D by omega)] at y4 y5 w5 w6
        exact ⟨w1.trans y1, w2.trans y2, w3.trans y3, w4.trans y4, w5.trans y5, w6.trans y6⟩
end
end
section
/-! combine, restrict, bitOf, exchanged -/
/-- a state with these parts; the rest is free -/
def ad_St (vc : Int32) (mk : Nat → Int64) (pl wn ww : Nat → Int32) (p : ad_P) (u : SX) : Prop := ∃ md rl rb f k, u = ad_S vc md rl rb mk pl f k wn ww p
/-- nodes made from level l on: with values, without, and by a restriction at R -/
def ad_c6 (l : Nat) : Nat := if l = 0 then 63 else if l = 1 then 31 else if l = 2 then 15 else if l = 3 then 7 else if l = 4 then 3 else 1
def ad_c7 (l : Nat) : Nat := if l = 0 then 31 else if l = 1 then 15 else if l = 2 then 7 else if l = 3 then 3 else if l = 4 then 1 else 0
def ad_c8 (R l : Nat) : Nat := 2 ^ (R - l) - 1
theorem ad_c6_1 (l : Nat) : 1 ≤ ad_c6 l := by
  unfold ad_c6
  repeat' split
  all_goals omega
theorem ad_c6_s : ∀ t, t < 5 → ∀ l, l ≤ t → 2 * ad_c6 (t + 1) + 1 ≤ ad_c6 l := by decide
theorem ad_c7_s : ∀ t, t < 5 → ∀ l, l ≤ t → 2 * ad_c7 (t + 1) + 1 ≤ ad_c7 l := by decide
theorem ad_c8_s : ∀ R, R < 5 → ∀ t, t < 5 → t ≤ R → ∀ l, l ≤ t → 2 * ad_c8 R (t + 1) + (if t = R then 0 else 1) ≤ ad_c8 R l := by decide
theorem ad_c8_0 : ∀ R, R < 5 → ad_c8 R 0 ≤ 15 := by decide
section
variable {post : Int32 → SX → Prop} {vc md rl rb : Int32} {mk : Nat → Int64} {pl : Nat → Int32} {f : ad_Fr} {k : ad_Ca} {wn ww : Nat → Int32}
theorem ad_comb8 {x2 x3 x4 : Int32} {fA fB fC fL fS fW cA cB cC : Nat → Int32} {p : ad_P} (K : ∀ cR : Nat → Int32, (∀ j, j < 32 → cR j = -1) → wpX_open (fun u => match u with | (a1, a2, a3, a4, a5, a6, a7, a8, a9, a10, a11, a12, a13, a14, a15, a16, a17, a18, a19, a20, a21, a22, a23, a24, a25) => (∃ n47 : Nat, wX_combine_47 post n47 0 0 0 a1 a2 a3 a4 a5 a6 a7 a8 a9 a10 a11 a12 a13 a14 a15 a16 a17 a18 a19 a20 a21 a22 a23 a24 a25)) (vc, p.1, p.2.1, md, rl, rb, p.2.2.1, p.2.2.2.1, p.2.2.2.2.1, p.2.2.2.2.2.1, p.2.2.2.2.2.2, mk, pl, fA, fB, fC, fL, fS, fW, cA, cB, cC, cR, wn, ww) 0 x2 x3 x4) :
    ∀ (d i : Nat) (cR : Nat → Int32), i + d = 32 → (∀ j, j < i → cR j = -1) → wX_combine_8 post x2 x3 x4 vc p.1 p.2.1 md rl rb (d + 1) (nI i) p.2.2.1 p.2.2.2.1 p.2.2.2.2.1 p.2.2.2.2.2.1 p.2.2.2.2.2.2 mk pl fA fB fC fL fS fW cA cB cC cR wn ww := by
  intro d
  induction d with
  | zero =>
    intro i cR hi hc
    rw [wX_combine_8]
    dsimp only
    have e : i = 32 := by omega
    subst e
    exact br_t (by decide) (K cR hc)
  | succ d ih =>
    intro i cR hi hc
    rw [wX_combine_8]
    dsimp only
    rw [nI_clamp (by omega), ad_vsm]
    refine pk_le 32 i (fun h => absurd h (by omega)) (fun _ => ⟨vp_in_nI (by omega) (by decide), nm_e (nm_r (nI_1 i) ?_)⟩)
    refine ih (i + 1) _ (by omega) ?_
    intro j hj
    by_cases e : j = i
    · rw [e, pk_us]
    · rw [pk_un e]
      exact hc j (by omega)
theorem ad_combine {n c m R a b d : Nat} {B : Bool} {F : Nat → (Nat → Bool) → Int32} {p : ad_P} {md : Int32} (cn : Nat → Nat) (hM : ad_Md n m R B rl rb) (hcn1 : m < 7 → ∀ l, 1 ≤ cn l) (hcn2 : ∀ l t, l ≤ t → t < n → (m = 8 → t ≤ R) → 2 * cn (t + 1) + (if m = 8 ∧ t = R then 0 else 1) ≤ cn l)
    (I : ad_I n c F p) (ua : ad_U p 0 a) (ub : ad_U p 0 b) (ud : ad_U p 0 d) (hs : ad_sh m a b d) (hc : cn 0 ≤ c)
    (K : ∀ r F' p' c' u', ad_St vc mk pl wn ww p' u' → ad_I n c' F' p' → ad_Ext F p F' p' → c ≤ c' + cn 0 → ad_U p' 0 r → (∀ s, F' r s = ad_tg m R B F a b d s) → post (nI r) u') :
    wpX_combine post (ad_S vc md rl rb mk pl f k wn ww p) (nI m) (nI a) (nI b) (nI d) := by
  unfold wpX_combine
  dsimp only
  refine ⟨33, ad_comb8 (p := p) ?_ 32 0 _ rfl (fun j hj => absurd hj (by omega))⟩
  intro cR hcR
  unfold wpX_open
  dsimp only
  have h1 := ua.1
  have h2 := ub.1
  have h3 := ud.1
  have h0 : vp_in 0 8 := vp_in_nI (n := 0) (by decide) (by decide)
  rw [sb_cl0, ad_vs2 (by omega), ad_vs2 (by omega), ad_vs2 (by omega), show vp_nar .byte 0 = 0 from ad_vb (v := 0) (by decide)]
  refine ⟨h0, nm_e ⟨h0, nm_e ⟨h0, nm_e ⟨h0, nm_e ⟨401, ?_⟩⟩⟩⟩⟩
  have g1 : upd f.1 0 (nI a) 0 = nI a := pk_us
  have g2 : upd f.2.1 0 (nI b) 0 = nI b := pk_us
  have g3 : upd f.2.2.1 0 (nI d) 0 = nI d := pk_us
  have g4 : upd f.2.2.2.2.1 0 0 0 = 0 := pk_us
  refine ad_comb (p := p) (f := (upd f.1 0 (nI a), upd f.2.1 0 (nI b), upd f.2.2.1 0 (nI d), f.2.2.2.1, upd f.2.2.2.2.1 0 0, f.2.2.2.2.2)) (k := (k.1, k.2.1, k.2.2.1, cR)) cn hM hcn1 hcn2 5 0 0 a b d F c 401 0 0 (by omega) (by omega) (by omega) I ua ub ud hs (fun i hi => Or.inl (hcR i hi)) g1 g2 g3 g4 rfl (by decide) hc ?_
  intro q' s' r F' p' f' k' c' hq hs' I' E hc' hk' fE g
  have ecost : ad_cost 5 = 125 := by decide
  obtain ⟨q', rfl⟩ : ∃ q, q' = q + 1 := ⟨q' - 1, by omega⟩
  show wX_combine_47 post (q' + 1) _ _ _ _ _ _ _ _ _ _ _ _ _ _ _ _ _ _ _ _ _ _ _ _ _ _ _ _
  rw [wX_combine_47]
  dsimp only
  refine pk_le 400 s' (fun z => absurd z (by omega)) (fun _ => br_t (by decide) ?_)
  refine K r F' p' c' _ ⟨nI m, rl, rb, f', k', rfl⟩ I' E hc' g.1 (fun s => ?_)
  rw [g.2.2, ad_tg_e (ad_Ext_F E ua) (ad_Ext_F E ub) (ad_Ext_F E ud)]
end
section
variable {post : Int32 → SX → Prop} {vc : Int32} {mk : Nat → Int64} {pl wn ww : Nat → Int32} {u : SX} {p : ad_P} {n c : Nat} {F : Nat → (Nat → Bool) → Int32}
/-- an operation by values -/
theorem ad_comb_op (hu : ad_St vc mk pl wn ww p u) (I : ad_I n c F p) {m a b : Nat} (hm : m < 7) (ua : ad_U p 0 a) (ub : ad_U p 0 b) (hc : 63 ≤ c)
    (K : ∀ r F' p' c' u', ad_St vc mk pl wn ww p' u' → ad_I n c' F' p' → ad_Ext F p F' p' → c ≤ c' + 63 → ad_U p' 0 r → (∀ s, F' r s = ad_op m (F a s) (F b s)) → post (nI r) u') :
    wpX_combine post u (nI m) (nI a) (nI b) (nI a) := by
  obtain ⟨md, rl, rb, f, k, rfl⟩ := hu
  have h5 := I.1.1
  refine ad_combine (R := 0) (B := false) (p := p) (f := f) (k := k) ad_c6 ⟨by omega, fun e => by omega⟩ (fun _ => ad_c6_1) ?_ I ua ub ua ⟨fun e => by omega, fun _ => rfl⟩ hc ?_
  · intro l t hl ht _
    rw [if_neg (fun z => by omega)]
    exact ad_c6_s t (by omega) l hl
  · intro r F' p' c' u' h1 h2 h3 h4 h5 h6
    refine K r F' p' c' u' h1 h2 h3 h4 h5 (fun s => ?_)
    rw [h6]
    unfold ad_tg
    rw [if_neg (by omega), if_neg (by omega)]
theorem ad_comb_ch (hu : ad_St vc mk pl wn ww p u) (I : ad_I n c F p) {a b d : Nat} (ua : ad_U p 0 a) (ub : ad_U p 0 b) (ud : ad_U p 0 d) (hc : 31 ≤ c)
    (K : ∀ r F' p' c' u', ad_St vc mk pl wn ww p' u' → ad_I n c' F' p' → ad_Ext F p F' p' → c ≤ c' + 31 → ad_U p' 0 r → (∀ s, F' r s = if F d s = 0 then F b s else F a s) → post (nI r) u') :
    wpX_combine post u 7 (nI a) (nI b) (nI d) := by
  obtain ⟨md, rl, rb, f, k, rfl⟩ := hu
  have h5 := I.1.1
  refine ad_combine (m := 7) (R := 0) (B := false) (p := p) (f := f) (k := k) ad_c7 ⟨by omega, fun e => by omega⟩ (fun e => by omega) ?_ I ua ub ud ⟨fun e => by omega, fun e => by omega⟩ hc ?_
  · intro l t hl ht _
    rw [if_neg (fun z => by omega)]
    exact ad_c7_s t (by omega) l hl
  · intro r F' p' c' u' h1 h2 h3 h4 h5 h6
    refine K r F' p' c' u' h1 h2 h3 h4 h5 (fun s => ?_)
    rw [h6]
    unfold ad_tg
    rw [if_neg (by omega), if_pos rfl]
theorem ad_restrict (hu : ad_St vc mk pl wn ww p u) (I : ad_I n c F p) {a R : Nat} (B : Bool) (hR : R < n) (ua : ad_U p 0 a) (hc : 15 ≤ c)
    (K : ∀ r F' p' c' u', ad_St vc mk pl wn ww p' u' → ad_I n c' F' p' → ad_Ext F p F' p' → c ≤ c' + 15 → ad_U p' 0 r → (∀ s, F' r s = F a (ad_up s R B)) → post (nI r) u') :
    wpX_restrict post u (nI a) (nI R) (ad_bi B) := by
  obtain ⟨md, rl, rb, f, k, rfl⟩ := hu
  have h5 := I.1.1
  have h15 := ad_c8_0 R (by omega)
  unfold wpX_restrict
  dsimp only
  refine ad_combine (m := 8) (R := R) (B := B) (p := p) (f := f) (k := k) (ad_c8 R) ⟨by omega, fun e => ⟨hR, rfl, rfl⟩⟩ (fun e => by omega) ?_ I ua ua ua ⟨fun e => ⟨rfl, rfl⟩, fun e => rfl⟩ (by omega) ?_
  · intro l t hl ht htR
    have := ad_c8_s R (by omega) t (by omega) (htR rfl) l hl
    by_cases e : t = R
    · rw [if_pos ⟨rfl, e⟩]
      rw [if_pos e] at this
      exact this
    · rw [if_neg (fun z => e z.2)]
      rw [if_neg e] at this
      exact this
  · intro r F' p' c' u' h1 h2 h3 h4 h5 h6
    refine K r F' p' c' u' h1 h2 h3 (by omega) h5 (fun s => ?_)
    rw [h6]
    unfold ad_tg
    rw [if_pos rfl]
theorem ad_valueS (hu : ad_St vc mk pl wn ww p u) (I : ad_I n c F p) (hc : 1 ≤ c) (z : Int32)
    (K : ∀ r F' p' c' u', ad_St vc mk pl wn ww p' u' → ad_U p' 8 r → ad_I n c' F' p' → ad_Ext F p F' p' → c ≤ c' + 1 → (∀ s, F' r s = z) → post (nI r) u') : wpX_value post u z := by
  obtain ⟨md, rl, rb, f, k, rfl⟩ := hu
  exact ad_value (p := p) (f := f) (k := k) I hc z (fun r F' p' c' u I' E hc' hF => K r F' p' c' _ ⟨md, rl, rb, f, k, rfl⟩ u I' E hc' hF)
theorem ad_bitOf (hu : ad_St vc mk pl wn ww p u) (I : ad_I n c F p) {v : Nat} (hv : v < n) (hc : 3 ≤ c)
    (K : ∀ r F' p' c' u', ad_St vc mk pl wn ww p' u' → ad_I n c' F' p' → ad_Ext F p F' p' → c ≤ c' + 3 → ad_U p' 0 r → (∀ s, F' r s = ad_bi (s v)) → post (nI r) u') : wpX_bitOf post u (nI v) := by
  have h5 := I.1.1
  obtain ⟨md, rl, rb, f, k, rfl⟩ := hu
  unfold wpX_bitOf
  dsimp only
  refine ad_value (p := p) (f := f) (k := k) I (by omega) 0 ?_
  intro r0 F0 p0 c0 u0 I0 E0 hc0 hF0
  dsimp only
  refine ad_value (p := p0) (f := f) (k := k) I0 (by omega) 1 ?_
  intro r1 F1 p1 c1 u1 I1 E1 hc1 hF1
  dsimp only
  refine ad_node (p := p1) (f := f) (k := k) I1 (Or.inr (by omega)) hv (ad_U_w (ad_Ext_U E1 u0) (by omega)) (ad_U_w u1 (by omega)) ?_
  intro r F2 p2 c2 ur I2 E2 _ hc2 hF2
  refine K r F2 p2 c2 _ ⟨md, rl, rb, f, k, rfl⟩ I2 (ad_Ext_t E0 (ad_Ext_t E1 E2)) (by omega) (ad_U_w ur (Nat.zero_le _)) (fun s => ?_)
  rw [hF2, hF1, ad_Ext_F E1 u0, hF0]
  cases s v <;> rfl
/-- the exchange of two variables -/
theorem ad_exchanged (hu : ad_St vc mk pl wn ww p u) (I : ad_I n c F p) {a x y : Nat} (hx : x < n) (hy : y < n) (ua : ad_U p 0 a) (hc : 189 ≤ c)
    (K : ∀ r F' p' c' u', ad_St vc mk pl wn ww p' u' → ad_I n c' F' p' → ad_Ext F p F' p' → ad_U p' 0 r → (∀ s, F' r s = F a (ad_up (ad_up s x (s y)) y (s x))) → post (nI r) u') :
    wpX_exchanged post u (nI a) (nI x) (nI y) := by
  obtain ⟨md, rl, rb, f, k, rfl⟩ := hu
  unfold wpX_exchanged
  dsimp only
  refine ad_restrict (p := p) ⟨md, rl, rb, f, k, rfl⟩ I false hx ua (by omega) ?_
  rintro r1 F1 p1 c1 _ ⟨md1, rl1, rb1, f1, k1, rfl⟩ I1 E1 hc1 u1 hF1
  dsimp only
  refine ad_restrict (p := p1) ⟨md1, rl1, rb1, f1, k1, rfl⟩ I1 true hx (ad_Ext_U E1 ua) (by omega) ?_
  rintro r2 F2 p2 c2 _ ⟨md2, rl2, rb2, f2, k2, rfl⟩ I2 E2 hc2 u2 hF2
  dsimp only
  refine ad_restrict (p := p2) ⟨md2, rl2, rb2, f2, k2, rfl⟩ I2 false hy (ad_Ext_U E2 u1) (by omega) ?_
  rintro r3 F3 p3 c3 _ ⟨md3, rl3, rb3, f3, k3, rfl⟩ I3 E3 hc3 u3 hF3
  dsimp only
  refine ad_restrict (p := p3) ⟨md3, rl3, rb3, f3, k3, rfl⟩ I3 true hy (ad_Ext_U E3 (ad_Ext_U E2 u1)) (by omega) ?_
  rintro r4 F4 p4 c4 _ ⟨md4, rl4, rb4, f4, k4, rfl⟩ I4 E4 hc4 u4 hF4
  dsimp only
  refine ad_restrict (p := p4) ⟨md4, rl4, rb4, f4, k4, rfl⟩ I4 false hy (ad_Ext_U E4 (ad_Ext_U E3 u2)) (by omega) ?_
  rintro r5 F5 p5 c5 _ ⟨md5, rl5, rb5, f5, k5, rfl⟩ I5 E5 hc5 u5 hF5
  dsimp only
  refine ad_restrict (p := p5) ⟨md5, rl5, rb5, f5, k5, rfl⟩ I5 true hy (ad_Ext_U E5 (ad_Ext_U E4 (ad_Ext_U E3 u2))) (by omega) ?_
  rintro r6 F6 p6 c6 _ ⟨md6, rl6, rb6, f6, k6, rfl⟩ I6 E6 hc6 u6 hF6
  dsimp only
  refine ad_bitOf (p := p6) ⟨md6, rl6, rb6, f6, k6, rfl⟩ I6 hx (by omega) ?_
  rintro r7 F7 p7 c7 _ ⟨md7, rl7, rb7, f7, k7, rfl⟩ I7 E7 hc7 u7 hF7
  dsimp only
  refine ad_bitOf (p := p7) ⟨md7, rl7, rb7, f7, k7, rfl⟩ I7 hy (by omega) ?_
  rintro r8 F8 p8 c8 _ ⟨md8, rl8, rb8, f8, k8, rfl⟩ I8 E8 hc8 u8 hF8
  dsimp only
  have w1 := ad_Ext_t E7 E8
  have w2 := ad_Ext_t E6 w1
  have w3 := ad_Ext_t E5 w2
  have w4 := ad_Ext_t E4 w3
  refine ad_comb_ch (p := p8) ⟨md8, rl8, rb8, f8, k8, rfl⟩ I8 (ad_Ext_U w1 u6) (ad_Ext_U w3 u4) u8 (by omega) ?_
  rintro r9 F9 p9 c9 _ ⟨md9, rl9, rb9, f9, k9, rfl⟩ I9 E9 hc9 u9 hF9
  dsimp only
  refine ad_comb_ch (p := p9) ⟨md9, rl9, rb9, f9, k9, rfl⟩ I9 (ad_Ext_U E9 (ad_Ext_U w2 u5)) (ad_Ext_U E9 (ad_Ext_U w4 u3)) (ad_Ext_U E9 u8) (by omega) ?_
  rintro ra Fa pa ca _ ⟨mda, rla, rba, fa, ka, rfl⟩ Ia Ea hca ua' hFa
  dsimp only
  refine ad_comb_ch (p := pa) ⟨mda, rla, rba, fa, ka, rfl⟩ Ia (ad_Ext_U Ea u9) ua' (ad_Ext_U Ea (ad_Ext_U E9 (ad_Ext_U E8 u7))) (by omega) ?_
  rintro r F' p' c' u' hu' I' E' hc' ur hF'
  have z4 := ad_Ext_t E4 w3
  have z3 := ad_Ext_t E3 z4
  have z2 := ad_Ext_t E2 z3
  have z1 := ad_Ext_t E1 z2
  obtain ⟨md', rl', rb', f', k', rfl⟩ := hu'
  refine K r F' p' c' _ ⟨md', rl', rb', f', k', rfl⟩ I' (ad_Ext_t z1 (ad_Ext_t E9 (ad_Ext_t Ea E'))) ur (fun s => ?_)
  have e7 : Fa r7 s = ad_bi (s x) := by rw [ad_Ext_F Ea (ad_Ext_U E9 (ad_Ext_U E8 u7)), ad_Ext_F E9 (ad_Ext_U E8 u7), ad_Ext_F E8 u7, hF7]
  have e8 : F8 r8 s = ad_bi (s y) := hF8 s
  have e8' : F9 r8 s = ad_bi (s y) := by rw [ad_Ext_F E9 u8, hF8]
  have e1 : F2 r1 = F1 r1 := ad_Ext_F E2 u1
  have e1' : F3 r1 = F1 r1 := by rw [ad_Ext_F E3 (ad_Ext_U E2 u1), e1]
  have e2 : F4 r2 = F2 r2 := by rw [ad_Ext_F E4 (ad_Ext_U E3 u2), ad_Ext_F E3 u2]
  have e2' : F5 r2 = F2 r2 := by rw [ad_Ext_F E5 (ad_Ext_U E4 (ad_Ext_U E3 u2)), e2]
  have e0 : F1 a = F a := ad_Ext_F E1 ua
  -- what the four corners are
  have y3 : F9 r3 s = F a (ad_up (ad_up s y false) x false) := by rw [ad_Ext_F E9 (ad_Ext_U z4 u3), ad_Ext_F z4 u3, hF3, e1, hF1]
  have y4 : F8 r4 s = F a (ad_up (ad_up s y true) x false) := by rw [ad_Ext_F w3 u4, hF4, e1', hF1]
  have y5 : F9 r5 s = F a (ad_up (ad_up s y false) x true) := by rw [ad_Ext_F E9 (ad_Ext_U w2 u5), ad_Ext_F w2 u5, hF5, e2, hF2, e0]
  have y6 : F8 r6 s = F a (ad_up (ad_up s y true) x true) := by rw [ad_Ext_F w1 u6, hF6, e2', hF2, e0]
  rw [hF', e7, hFa, ad_Ext_F Ea u9, hF9, e8, e8', y3, y4, y5, y6]
  by_cases exy : x = y
  · subst exy
    cases h : s x <;> rfl
  · rw [ad_up_c s (v := y) (w := x) false false (Ne.symm exy), ad_up_c s (v := y) (w := x) false true (Ne.symm exy), ad_up_c s (v := y) (w := x) true false (Ne.symm exy), ad_up_c s (v := y) (w := x) true true (Ne.symm exy)]
    cases h : s x <;> cases h' : s y <;> rfl
end
end
section
/-! marks -/
def ad_m (mk : Nat → Int64) (y : Nat) : Bool := (mk (y / 64)).toBitVec.getLsbD (y % 64)
def ad_cnt (P : Nat → Bool) : Nat → Nat
  | 0 => 0
  | k + 1 => ad_cnt P k + cond (P k) 1 0
theorem ad_cnt_e {P Q : Nat → Bool} : ∀ {N : Nat}, (∀ y, y < N → P y = Q y) → ad_cnt P N = ad_cnt Q N := by
  intro N
  induction N with
  | zero => intro _; rfl
  | succ N ih =>
    intro h
    unfold ad_cnt
    rw [ih (fun y hy => h y (by omega)), h N (by omega)]
theorem ad_cnt_z {P : Nat → Bool} : ∀ {N : Nat}, (∀ y, y < N → P y = false) → ad_cnt P N = 0 := by
  intro N
  induction N with
  | zero => intro _; rfl
  | succ N ih =>
    intro h
    unfold ad_cnt
    rw [ih (fun y hy => h y (by omega)), h N (by omega)]
    rfl
theorem ad_cnt_s {P Q : Nat → Bool} {x : Nat} (hQ : ∀ y, Q y = (P y || decide (y = x))) (hx : P x = false) : ∀ N, ad_cnt Q N = ad_cnt P N + (if x < N then 1 else 0) := by
  intro N
  induction N with
  | zero => rfl
  | succ N ih =>
    unfold ad_cnt
    rw [ih, hQ N]
    by_cases e : N = x
    · subst e
      rw [hx, if_neg (by omega), if_pos (by omega)]
      simp
    · rw [decide_eq_false e, Bool.or_false]
      by_cases h : x < N
      · rw [if_pos h, if_pos (by omega)]
        omega
      · rw [if_neg h, if_neg (by omega)]
        omega
theorem ad_mset (mk : Nat → Int64) (x y : Nat) : ad_m (vp_updL mk (x / 64) (mk (x / 64) ||| lN (1 * 2 ^ (x % 64)))) y = (ad_m mk y || decide (y = x)) := by
  unfold ad_m
  by_cases h : y / 64 = x / 64
  · rw [h, pk_uLs, Int64.toBitVec_or, BitVec.getLsbD_or, wb_tb, BitVec.getLsbD_ofNat, Nat.one_mul, Nat.testBit_two_pow]
    have hy : y % 64 < 64 := Nat.mod_lt _ (by decide)
    rw [decide_eq_true hy, Bool.true_and]
    congr 1
    by_cases e : y = x
    · subst e
      simp
    · rw [decide_eq_false e, decide_eq_false (by omega)]
  · rw [pk_uLn h, decide_eq_false (fun e => h (by rw [e])), Bool.or_false]
theorem ad_sh6 {x : Nat} (hx : x < 768) : nI x >>> ((6 : Int32) &&& 31) = nI (x / 64) := pk_shrN (by omega) _ 6 (by decide)
theorem ad_a63 {x : Nat} (hx : x < 768) : nI x &&& 63 = nI (x % 64) := pk_andN (by omega) 6 (by decide)
theorem ad_shl1 {x : Nat} (hx : x < 768) : (1 : Int64) <<< ((nI x &&& 63).toInt64 &&& 63) = lN (1 * 2 ^ (x % 64)) := by
  rw [ad_a63 hx]
  exact wb_shl 1 (Nat.mod_lt _ (by decide))
theorem ad_mtest (w : Int64) {x : Nat} (hx : x < 768) : ((w.toUInt64 >>> ((nI x &&& 63).toInt64.toUInt64 &&& Int64.toUInt64 63)).toInt64 &&& 1) = 0 ↔ w.toBitVec.getLsbD (x % 64) = false := by
  have h : x % 64 < 64 := Nat.mod_lt _ (by decide)
  rw [ad_a63 hx, wb_cu _ h]
  exact ts_bit h (u_tn (by omega))
section
variable {post : SX → Prop} {vc md rl rb : Int32} {mk : Nat → Int64} {pl : Nat → Int32} {f : ad_Fr} {k : ad_Ca} {wn ww : Nat → Int32} {p : ad_P}
theorem ad_isMarked {Q : Int32 → Prop} {x : Nat} (hx : x < 768) (h : Q (ad_bi (ad_m mk x))) : wpX_isMarked Q (ad_S vc md rl rb mk pl f k wn ww p) (nI x) := by
  unfold wpX_isMarked
  dsimp only
  rw [ad_sh6 hx, nI_clamp (by omega), ad_mtest _ hx]
  refine ⟨vp_in_nI (by omega) (by decide), ?_⟩
  unfold ad_m at h
  cases e : (mk (x / 64)).toBitVec.getLsbD (x % 64)
  · rw [e] at h
    exact br_t rfl h
  · rw [e] at h
    exact br_f (by decide) h
theorem ad_clear2 (K : ∀ mk' : Nat → Int64, (∀ y, y < 768 → ad_m mk' y = false) → post (ad_S vc md rl rb mk' pl f k wn ww p)) :
    ∀ (d i : Nat) (mk : Nat → Int64), i + d = 12 → (∀ j, j < i → mk j = 0) → wX_clearMarks_2 post vc p.1 p.2.1 md rl rb (d + 1) (nI i) p.2.2.1 p.2.2.2.1 p.2.2.2.2.1 p.2.2.2.2.2.1 p.2.2.2.2.2.2 mk pl f.1 f.2.1 f.2.2.1 f.2.2.2.1 f.2.2.2.2.1 f.2.2.2.2.2 k.1 k.2.1 k.2.2.1 k.2.2.2 wn ww := by
  intro d
  induction d with
  | zero =>
    intro i mk hi hm
    rw [wX_clearMarks_2]
    dsimp only
    have e : i = 12 := by omega
    subst e
    refine br_t (by decide) (K mk (fun y hy => ?_))
    unfold ad_m
    rw [hm _ (by omega)]
    simp
  | succ d ih =>
    intro i mk hi hm
    rw [wX_clearMarks_2]
    dsimp only
    rw [nI_clamp (by omega)]
    refine pk_le 12 i (fun h => absurd h (by omega)) (fun _ => ⟨vp_in_nI (by omega) (by decide), nm_e (nm_r (nI_1 i) ?_)⟩)
    refine ih (i + 1) _ (by omega) ?_
    intro j hj
    by_cases e : j = i
    · rw [e, pk_uLs]
    · rw [pk_uLn e]
      exact hm j (by omega)
theorem ad_clearMarks (K : ∀ mk' : Nat → Int64, (∀ y, y < 768 → ad_m mk' y = false) → post (ad_S vc md rl rb mk' pl f k wn ww p)) : wpX_clearMarks post (ad_S vc md rl rb mk pl f k wn ww p) := by
  unfold wpX_clearMarks
  dsimp only
  exact ⟨13, ad_clear2 (p := p) (f := f) (k := k) K 12 0 mk rfl (fun j hj => absurd hj (by omega))⟩
end
/-- the walk's stack, its top first -/
def ad_stk (p : ad_P) (wn : Nat → Int32) : List Nat → Prop
  | [] => True
  | x :: r => wn r.length = nI x ∧ ad_U p r.length x ∧ ad_stk p wn r
theorem ad_stk_u {p : ad_P} {wn : Nat → Int32} {z : Int32} {i : Nat} (st : List Nat) : st.length ≤ i → ad_stk p wn st → ad_stk p (upd wn i z) st := by
  induction st with
  | nil => intro _ _; trivial
  | cons x r ih =>
    intro h hs
    rw [List.length_cons] at h
    refine ⟨?_, hs.2.1, ih (by omega) hs.2.2⟩
    rw [pk_un (by omega)]
    exact hs.1
def ad_sw (p : ad_P) : List Nat → Nat
  | [] => 0
  | x :: r => ad_c6 (ad_l (ad_lv p) x) + ad_sw p r
theorem ad_c6_m : ∀ v, v < 5 → ∀ l, l < 9 → v < l → 2 * ad_c6 l + 1 ≤ ad_c6 v := by decide
theorem ad_c6_63 (l : Nat) : ad_c6 l ≤ 63 := by
  unfold ad_c6
  repeat' split
  all_goals omega
/-- marks are closed but for what stands on the stack -/
def ad_Cl (n : Nat) (F : Nat → (Nat → Bool) → Int32) (p : ad_P) (mk : Nat → Int64) (st : List Nat) : Prop :=
  ∀ y, y < 768 → ad_m mk y = true → ad_U p 0 y ∧ ∀ v a b, ad_In n F (ad_lv p) (ad_lo p y) (ad_hi p y) (ad_lv p y) (F y) v a b → (ad_m mk a = true ∨ a ∈ st) ∧ (ad_m mk b = true ∨ b ∈ st)
section
variable {post : SX → Prop} {vc md rl rb : Int32} {mk : Nat → Int64} {pl : Nat → Int32} {f : ad_Fr} {k : ad_Ca} {wn ww : Nat → Int32} {p : ad_P} {n c : Nat} {F : Nat → (Nat → Bool) → Int32}
theorem ad_mark12 (I : ad_I n c F p) (R : Nat → Prop) (hRu : ∀ x, R x → ad_U p 0 x) (hRc : ∀ x v a b, R x → ad_In n F (ad_lv p) (ad_lo p x) (ad_hi p x) (ad_lv p x) (F x) v a b → R a ∧ R b) (C root : Nat) (mk0 : Nat → Int64)
    (K : ∀ (mk' : Nat → Int64) (wn' : Nat → Int32), ad_Cl n F p mk' [] → (∀ y, ad_m mk0 y = true → ad_m mk' y = true) → (∀ y, ad_m mk' y = true → ad_m mk0 y = true ∨ R y) → ad_m mk' root = true → ad_cnt (ad_m mk') 768 ≤ C → post (ad_S vc md rl rb mk' pl f k wn' ww p)) :
    ∀ (e : Nat) (st : List Nat) (mk : Nat → Int64) (wn : Nat → Int32) (s q : Nat), ad_sw p st ≤ e → e + s ≤ 127 → e < q → ad_stk p wn st → (∀ x ∈ st, R x) → ad_Cl n F p mk st → (∀ y, ad_m mk0 y = true → ad_m mk y = true) → (∀ y, ad_m mk y = true → ad_m mk0 y = true ∨ R y) → (ad_m mk root = true ∨ root ∈ st) → ad_cnt (ad_m mk) 768 + e ≤ C →
      wX_markFrom_12 post vc p.1 p.2.1 md rl rb q (nI st.length) (nI s) p.2.2.1 p.2.2.2.1 p.2.2.2.2.1 p.2.2.2.2.2.1 p.2.2.2.2.2.2 mk pl f.1 f.2.1 f.2.2.1 f.2.2.2.1 f.2.2.2.2.1 f.2.2.2.2.2 k.1 k.2.1 k.2.2.1 k.2.2.2 wn ww := by
  have h5 := I.1.1
  intro e
  induction e with
  | zero =>
    intro st mk wn s q he hs hq hst hR hCl hm0 hm1 hroot hC
    obtain ⟨q, rfl⟩ : ∃ q', q = q' + 1 := ⟨q - 1, by omega⟩
    cases st with
    | nil =>
      rw [wX_markFrom_12]
      dsimp only
      have hp := K mk wn hCl hm0 hm1 (hroot.resolve_right (fun h => nomatch h)) (by omega)
      exact br_c (fun _ => hp) (fun _ => br_t (by decide) hp)
    | cons x r =>
      exfalso
      have := ad_c6_1 (ad_l (ad_lv p) x)
      unfold ad_sw at he
      omega
  | succ e ih =>
    intro st mk wn s q he hs hq hst hR hCl hm0 hm1 hroot hC
    obtain ⟨q, rfl⟩ : ∃ q', q = q' + 1 := ⟨q - 1, by omega⟩
    cases st with
    | nil =>
      rw [wX_markFrom_12]
      dsimp only
      have hp := K mk wn hCl hm0 hm1 (hroot.resolve_right (fun h => nomatch h)) (by omega)
      exact br_c (fun _ => hp) (fun _ => br_t (by decide) hp)
    | cons x r =>
      have h1 := ad_c6_1 (ad_l (ad_lv p) x)
      unfold ad_sw at he
      obtain ⟨ex, ux, hst'⟩ := hst
      have hx := ux.1
      have hx9 := ux.2.2
      have hxr := ux.2.1
      have hrr : r.length < 16 := by omega
      have hin : vp_in (nI r.length) 16 := vp_in_nI hrr (by decide)
      have hix : vp_in (nI x) 768 := vp_in_nI hx (by decide)
      have hi6 : vp_in (nI (x / 64)) 12 := vp_in_nI (by omega) (by decide)
      rw [wX_markFrom_12]
      dsimp only
      refine pk_le 128 s (fun z => absurd z (by omega)) (fun _ => pk_le (r.length + 1) 0 (fun z => absurd z (by omega)) (fun _ => nm_r (pk_m1 r.length) ⟨hin, nm_r (e' := nI x) ?_ ?_⟩))
      · rw [nI_clamp (by omega)]
        exact ex
      refine ad_isMarked (p := p) (f := f) (k := k) hx ?_
      refine ad_bi0 (ad_m mk x) (fun hmx => ?_) (fun hmx => ?_)
      · rw [ad_sh6 hx, nI_clamp (by omega), nI_clamp (by omega), ad_shl1 hx]
        refine ⟨hi6, hi6, nm_e ⟨hix, ?_⟩⟩
        have hset := ad_mset mk x
        generalize vp_updL mk (x / 64) (mk (x / 64) ||| lN (1 * 2 ^ (x % 64))) = mk1 at hset
        have hx1 : ad_m mk1 x = true := by rw [hset]; simp
        have hmono : ∀ y, ad_m mk y = true → ad_m mk1 y = true := by
          intro y hy
          rw [hset, hy]
          rfl
        have hinv : ∀ y, ad_m mk1 y = true → ad_m mk y = true ∨ y = x := by
          intro y hy
          rw [hset] at hy
          rcases Bool.or_eq_true_iff.mp hy with h | h
          · exact Or.inl h
          · exact Or.inr (of_decide_eq_true h)
        have hcnt : ad_cnt (ad_m mk1) 768 = ad_cnt (ad_m mk) 768 + 1 := by
          rw [ad_cnt_s hset hmx 768, if_pos hx]
        have hRx := hR x List.mem_cons_self
        have hup : ∀ y, ad_m mk1 y = true → ad_m mk0 y = true ∨ R y := by
          intro y hy
          rcases hinv y hy with h | h
          · exact hm1 y h
          · exact Or.inr (h ▸ hRx)
        refine br_c (fun h8 => ?_) (fun h8 => ?_)
        · refine nm_r (nI_1 s) ?_
          refine ih r mk1 wn (s + 1) q (by omega) (by omega) (by omega) hst' (fun y hy => hR y (List.mem_cons_of_mem _ hy)) ?_ (fun y hy => hmono y (hm0 y hy)) hup ?_ (by omega)
          · intro y hy hmy
            rcases hinv y hmy with h | h
            · obtain ⟨c1, c2⟩ := hCl y hy h
              refine ⟨c1, fun v a b hab => ?_⟩
              obtain ⟨c3, c4⟩ := c2 v a b hab
              constructor
              · rcases c3 with c3 | c3
                · exact Or.inl (hmono a c3)
                · rcases List.mem_cons.mp c3 with e1 | e1
                  · exact Or.inl (e1 ▸ hx1)
                  · exact Or.inr e1
              · rcases c4 with c4 | c4
                · exact Or.inl (hmono b c4)
                · rcases List.mem_cons.mp c4 with e1 | e1
                  · exact Or.inl (e1 ▸ hx1)
                  · exact Or.inr e1
            · subst h
              refine ⟨ad_U_w ux (Nat.zero_le _), fun v a b hab => ?_⟩
              exfalso
              have e1 := ad_InL I.1 hab
              have e2 : ad_l (ad_lv p) y = 8 := ad_l_8 h8
              have e3 := hab.1
              omega
          · rcases hroot with h | h
            · exact Or.inl (hmono _ h)
            · rcases List.mem_cons.mp h with e1 | e1
              · exact Or.inl (e1 ▸ hx1)
              · exact Or.inr e1
        · have hl8 : ad_l (ad_lv p) x < 8 := by
            rcases (ad_lev I.1 hx hx9) with ⟨g1, g2⟩
            rcases g2 with g2 | g2
            · exfalso
              apply h8
              rw [g2] at g1
              exact g1
            · omega
          obtain ⟨a, b, hab⟩ := ad_inner I.1 hx hl8
          obtain ⟨Ra, Rb⟩ := hRc x _ a b hRx hab
          have hab' := hab
          obtain ⟨hv, _, ea, eb, ha, hb, _, la, lb, _⟩ := hab
          have hs1 := ad_c6_m _ (by omega : ad_l (ad_lv p) x < 5) _ la.2 la.1
          have hs2 := ad_c6_m _ (by omega : ad_l (ad_lv p) x < 5) _ lb.2 lb.1
          have hin1 : vp_in (nI (r.length + 1)) 16 := vp_in_nI (by omega) (by decide)
          rw [show p.2.2.2.1 x = nI a from ea, show p.2.2.2.2.1 x = nI b from eb, ad_vs2 (by omega), ad_vs (by omega), nI_1, nI_clamp (by omega), nI_clamp (by omega)]
          refine ⟨hix, hin, nm_e ⟨hix, hin1, nm_e (nm_r (nI_add r.length 2) (nm_r (nI_1 s) ?_))⟩⟩
          refine ih (b :: a :: r) mk1 (upd (upd wn r.length (nI a)) (r.length + 1) (nI b)) (s + 1) q ?_ (by omega) (by omega) ?_ ?_ ?_ (fun y hy => hmono y (hm0 y hy)) hup ?_ (by omega)
          · unfold ad_sw
            unfold ad_sw
            omega
          · refine ⟨pk_us, ⟨hb, by rw [List.length_cons]; omega, lb.2⟩, ?_, ⟨ha, by omega, la.2⟩, ?_⟩
            · rw [pk_un (by omega), pk_us]
            · exact ad_stk_u r (by omega) (ad_stk_u r (Nat.le_refl _) hst')
          · intro y hy
            rcases List.mem_cons.mp hy with e1 | hy
            · exact e1 ▸ Rb
            · rcases List.mem_cons.mp hy with e1 | hy
              · exact e1 ▸ Ra
              · exact hR y (List.mem_cons_of_mem _ hy)
          · intro y hy hmy
            rcases hinv y hmy with h | h
            · obtain ⟨c1, c2⟩ := hCl y hy h
              refine ⟨c1, fun v a' b' hab2 => ?_⟩
              obtain ⟨c3, c4⟩ := c2 v a' b' hab2
              constructor
              · rcases c3 with c3 | c3
                · exact Or.inl (hmono a' c3)
                · rcases List.mem_cons.mp c3 with e1 | e1
                  · exact Or.inl (e1 ▸ hx1)
                  · exact Or.inr (List.mem_cons_of_mem _ (List.mem_cons_of_mem _ e1))
              · rcases c4 with c4 | c4
                · exact Or.inl (hmono b' c4)
                · rcases List.mem_cons.mp c4 with e1 | e1
                  · exact Or.inl (e1 ▸ hx1)
                  · exact Or.inr (List.mem_cons_of_mem _ (List.mem_cons_of_mem _ e1))
            · subst h
              refine ⟨ad_U_w ux (Nat.zero_le _), fun v a' b' hab2 => ?_⟩
              obtain ⟨_, _, ea2, eb2, ha2, hb2, _⟩ := hab2
              have e1 := (nI_eq (by omega) (by omega)).mp (ea.symm.trans ea2)
              have e2 := (nI_eq (by omega) (by omega)).mp (eb.symm.trans eb2)
              subst e1 e2
              exact ⟨Or.inr (List.mem_cons_of_mem _ List.mem_cons_self), Or.inr List.mem_cons_self⟩
          · rcases hroot with h | h
            · exact Or.inl (hmono _ h)
            · rcases List.mem_cons.mp h with e1 | e1
              · exact Or.inl (e1 ▸ hx1)
              · exact Or.inr (List.mem_cons_of_mem _ (List.mem_cons_of_mem _ e1))
      · refine nm_r (nI_1 s) ?_
        refine ih r mk wn (s + 1) q (by omega) (by omega) (by omega) hst' (fun y hy => hR y (List.mem_cons_of_mem _ hy)) ?_ hm0 hm1 ?_ (by omega)
        · intro y hy hmy
          obtain ⟨c1, c2⟩ := hCl y hy hmy
          refine ⟨c1, fun v a b hab => ?_⟩
          obtain ⟨c3, c4⟩ := c2 v a b hab
          constructor
          · rcases c3 with c3 | c3
            · exact Or.inl c3
            · rcases List.mem_cons.mp c3 with e1 | e1
              · exact Or.inl (e1 ▸ hmx)
              · exact Or.inr e1
          · rcases c4 with c4 | c4
            · exact Or.inl c4
            · rcases List.mem_cons.mp c4 with e1 | e1
              · exact Or.inl (e1 ▸ hmx)
              · exact Or.inr e1
        · rcases hroot with h | h
          · exact Or.inl h
          · rcases List.mem_cons.mp h with e1 | e1
            · exact Or.inl (e1 ▸ hmx)
            · exact Or.inr e1
theorem ad_markFrom (I : ad_I n c F p) (R : Nat → Prop) (hRu : ∀ x, R x → ad_U p 0 x) (hRc : ∀ x v a b, R x → ad_In n F (ad_lv p) (ad_lo p x) (ad_hi p x) (ad_lv p x) (F x) v a b → R a ∧ R b) {root : Nat} (hr : R root) (hCl : ad_Cl n F p mk [])
    (K : ∀ (mk' : Nat → Int64) (wn' : Nat → Int32), ad_Cl n F p mk' [] → (∀ y, ad_m mk y = true → ad_m mk' y = true) → (∀ y, ad_m mk' y = true → ad_m mk y = true ∨ R y) → ad_m mk' root = true → ad_cnt (ad_m mk') 768 ≤ ad_cnt (ad_m mk) 768 + 63 → post (ad_S vc md rl rb mk' pl f k wn' ww p)) :
    wpX_markFrom post (ad_S vc md rl rb mk pl f k wn ww p) (nI root) := by
  have ur := hRu root hr
  have hroot := ur.1
  unfold wpX_markFrom
  dsimp only
  rw [ad_vs2 (by omega)]
  refine nm_e ⟨64, ?_⟩
  refine ad_mark12 (p := p) (f := f) (k := k) I R hRu hRc (ad_cnt (ad_m mk) 768 + 63) root mk K 63 [root] mk (upd wn 0 (nI root)) 0 64 ?_ (by omega) (by omega) ⟨pk_us, ur, trivial⟩ ?_ ?_ (fun _ h => h) (fun _ h => Or.inl h) (Or.inr List.mem_cons_self) (Nat.le_refl _)
  · unfold ad_sw
    unfold ad_sw
    exact ad_c6_63 _
  · intro x hx
    rcases List.mem_cons.mp hx with e | hx
    · exact e ▸ hr
    · exact nomatch hx
  · intro y hy hm
    obtain ⟨c1, c2⟩ := hCl y hy hm
    refine ⟨c1, fun v a b hab => ?_⟩
    obtain ⟨c3, c4⟩ := c2 v a b hab
    exact ⟨Or.inl (c3.resolve_right (fun h => nomatch h)), Or.inl (c4.resolve_right (fun h => nomatch h))⟩
theorem ad_mCount4 {Q : Int32 → Prop} (h : Q (nI (ad_cnt (ad_m mk) 768))) : ∀ (d i : Nat), i + d = 768 → wX_markCount_4 Q vc p.1 p.2.1 md rl rb p.2.2.1 p.2.2.2.1 p.2.2.2.2.1 p.2.2.2.2.2.1 p.2.2.2.2.2.2 mk pl f.1 f.2.1 f.2.2.1 f.2.2.2.1 f.2.2.2.2.1 f.2.2.2.2.2 k.1 k.2.1 k.2.2.1 k.2.2.2 wn ww (d + 1) (nI (ad_cnt (ad_m mk) i)) (nI i) := by
  intro d
  induction d with
  | zero =>
    intro i hi
    have e : i = 768 := by omega
    subst e
    rw [wX_markCount_4]
    dsimp only
    exact br_t (by decide) h
  | succ d ih =>
    intro i hi
    rw [wX_markCount_4]
    dsimp only
    refine pk_le 768 i (fun z => absurd z (by omega)) (fun _ => ad_isMarked (p := p) (f := f) (k := k) (by omega) ?_)
    have hstep : ad_cnt (ad_m mk) (i + 1) = ad_cnt (ad_m mk) i + cond (ad_m mk i) 1 0 := rfl
    refine ad_bi0 (ad_m mk i) (fun z => nm_r (nI_1 i) ?_) (fun z => nm_r (nI_1 _) (nm_r (nI_1 i) ?_))
    · have := ih (i + 1) (by omega)
      rw [hstep, z] at this
      exact this
    · have := ih (i + 1) (by omega)
      rw [hstep, z] at this
      exact this
theorem ad_markCount {Q : Int32 → Prop} (h : Q (nI (ad_cnt (ad_m mk) 768))) : wpX_markCount Q (ad_S vc md rl rb mk pl f k wn ww p) := by
  unfold wpX_markCount
  dsimp only
  exact ⟨769, ad_mCount4 (p := p) (f := f) (k := k) h 768 0 rfl⟩
end
end
section
/-! the pool built anew: release, makeRoom, the constructor -/
def ad_RB (x : Nat) (M : Nat → Bool) (lv0 lo hi : Nat → Int32) (q : ad_P) : Prop :=
  (∀ y, ad_lv q y = if x ≤ y ∧ y < 768 ∧ M y = false then -1 else lv0 y) ∧ ad_lo q = lo ∧ ad_hi q = hi ∧
  (∃ H : Nat → List Nat, ∀ h, h < 64 → ad_chn (ad_ch q) (ad_bu q h) (H h) ∧ (H h).Nodup ∧ ∀ y, y ∈ H h ↔ (x ≤ y ∧ y < 768 ∧ M y = true ∧ ad_hs (lv0 y) (lo y) (hi y) = h)) ∧
  ∃ fl, ad_chn (ad_ch q) (ad_fh q) fl ∧ fl.Nodup ∧ (∀ y, y ∈ fl ↔ (x ≤ y ∧ y < 768 ∧ M y = false)) ∧ ad_fc q = nI fl.length ∧ fl.length + x + ad_cnt M 768 = 768 + ad_cnt M x
theorem ad_RB_0 {M : Nat → Bool} {lv lo hi ch bu : Nat → Int32} (hb : ∀ h, h < 64 → bu h = -1) : ad_RB 768 M lv lo hi (-1, 0, lv, lo, hi, ch, bu) := by
  refine ⟨fun y => ?_, rfl, rfl, ⟨fun _ => [], fun h hh => ⟨hb h hh, List.nodup_nil, fun y => ?_⟩⟩, [], rfl, List.nodup_nil, fun y => ?_, rfl, ?_⟩
  · rw [if_neg (by omega)]
  · constructor
    · intro h
      exact nomatch h
    · intro h
      exfalso
      omega
  · constructor
    · intro h
      exact nomatch h
    · intro h
      exfalso
      omega
  · simp
theorem ad_RB_r {x : Nat} {M : Nat → Bool} {lv0 lo0 hi0 : Nat → Int32} {fh fc : Int32} {lv lo hi ch bu : Nat → Int32} (hx : x < 768) (hM : M x = false) (h : ad_RB (x + 1) M lv0 lo0 hi0 (fh, fc, lv, lo, hi, ch, bu)) :
    ad_RB x M lv0 lo0 hi0 (nI x, fc + 1, upd lv x (-1), lo, hi, upd ch x fh, bu) := by
  obtain ⟨h1, h2, h3, ⟨H, hH⟩, fl, g1, g2, g3, g4, g5⟩ := h
  dsimp only [ad_fh, ad_fc, ad_lv, ad_lo, ad_hi, ad_ch, ad_bu] at h1 h2 h3 hH g1 g2 g3 g4 g5
  have hnf : ¬ x ∈ fl := by
    intro hm
    have := ((g3 x).mp hm).1
    omega
  refine ⟨fun y => ?_, h2, h3, ⟨H, fun h hh => ?_⟩, x :: fl, ⟨rfl, hx, ?_⟩, List.nodup_cons.mpr ⟨hnf, g2⟩, fun y => ?_, ?_, ?_⟩
  · dsimp only [ad_lv]
    by_cases e : y = x
    · subst e
      rw [pk_us, if_pos ⟨Nat.le_refl _, hx, hM⟩]
    · rw [pk_un e, h1]
      by_cases c : x + 1 ≤ y ∧ y < 768 ∧ M y = false
      · rw [if_pos c, if_pos ⟨by omega, c.2⟩]
      · rw [if_neg c, if_neg (fun z => c ⟨by omega, z.2⟩)]
  · obtain ⟨k1, k2, k3⟩ := hH h hh
    refine ⟨ad_chn_u (fun hm => ?_) k1, k2, fun y => ?_⟩
    · have := ((k3 x).mp hm).1
      omega
    · rw [k3]
      constructor
      · rintro ⟨a, b⟩
        exact ⟨by omega, b⟩
      · rintro ⟨a, b, c, d⟩
        refine ⟨?_, b, c, d⟩
        by_cases e : y = x
        · subst e
          rw [hM] at c
          exact nomatch c
        · omega
  · dsimp only [ad_ch]
    rw [pk_us]
    exact ad_chn_u hnf g1
  · rw [List.mem_cons, g3]
    constructor
    · rintro (e | ⟨a, b, c⟩)
      · subst e
        exact ⟨Nat.le_refl _, hx, hM⟩
      · exact ⟨by omega, b, c⟩
    · rintro ⟨a, b, c⟩
      by_cases e : y = x
      · exact Or.inl e
      · exact Or.inr ⟨by omega, b, c⟩
  · dsimp only [ad_fc]
    rw [g4, nI_1, List.length_cons]
  · have : ad_cnt M (x + 1) = ad_cnt M x + cond (M x) 1 0 := rfl
    rw [hM] at this
    rw [List.length_cons]
    simp only [cond_false] at this
    omega
theorem ad_RB_i {x : Nat} {M : Nat → Bool} {lv0 lo0 hi0 : Nat → Int32} {fh fc : Int32} {lv lo hi ch bu : Nat → Int32} (hx : x < 768) (hM : M x = true) (h : ad_RB (x + 1) M lv0 lo0 hi0 (fh, fc, lv, lo, hi, ch, bu)) :
    ad_RB x M lv0 lo0 hi0 (fh, fc, lv, lo, hi, upd ch x (bu (ad_hs (lv x) (lo x) (hi x))), upd bu (ad_hs (lv x) (lo x) (hi x)) (nI x)) := by
  obtain ⟨h1, h2, h3, ⟨H, hH⟩, fl, g1, g2, g3, g4, g5⟩ := h
  dsimp only [ad_fh, ad_fc, ad_lv, ad_lo, ad_hi, ad_ch, ad_bu] at h1 h2 h3 hH g1 g2 g3 g4 g5
  have hlx : lv x = lv0 x := by rw [h1, if_neg (by omega)]
  have hnf : ¬ x ∈ fl := by
    intro hm
    have := ((g3 x).mp hm).1
    omega
  rw [hlx, h2, h3]
  refine ⟨fun y => ?_, rfl, rfl, ⟨fun h => if h = ad_hs (lv0 x) (lo0 x) (hi0 x) then x :: H h else H h, fun h hh => ?_⟩, fl, ad_chn_u hnf g1, g2, fun y => ?_, g4, ?_⟩
  · dsimp only [ad_lv]
    rw [h1]
    by_cases c : x + 1 ≤ y ∧ y < 768 ∧ M y = false
    · rw [if_pos c, if_pos ⟨by omega, c.2⟩]
    · rw [if_neg c, if_neg]
      rintro ⟨z1, z2, z3⟩
      apply c
      refine ⟨?_, z2, z3⟩
      by_cases e : y = x
      · subst e
        rw [hM] at z3
        exact nomatch z3
      · omega
  · obtain ⟨k1, k2, k3⟩ := hH h hh
    have hnx : ¬ x ∈ H h := by
      intro hm
      have := ((k3 x).mp hm).1
      omega
    dsimp only [ad_ch, ad_bu]
    by_cases e : h = ad_hs (lv0 x) (lo0 x) (hi0 x)
    · rw [if_pos e, ← e, pk_us]
      refine ⟨⟨rfl, hx, ?_⟩, List.nodup_cons.mpr ⟨hnx, k2⟩, fun y => ?_⟩
      · rw [pk_us]
        exact ad_chn_u hnx k1
      · rw [List.mem_cons, k3]
        constructor
        · rintro (e2 | ⟨a, b⟩)
          · subst e2
            exact ⟨Nat.le_refl _, hx, hM, e.symm⟩
          · exact ⟨by omega, b⟩
        · rintro ⟨a, b⟩
          by_cases e2 : y = x
          · exact Or.inl e2
          · exact Or.inr ⟨by omega, b⟩
    · rw [if_neg e, pk_un e]
      refine ⟨ad_chn_u hnx k1, k2, fun y => ?_⟩
      rw [k3]
      constructor
      · rintro ⟨a, b⟩
        exact ⟨by omega, b⟩
      · rintro ⟨a, b, c, d⟩
        refine ⟨?_, b, c, d⟩
        by_cases e2 : y = x
        · subst e2
          exact absurd d.symm e
        · omega
  · rw [g3]
    constructor
    · rintro ⟨a, b⟩
      exact ⟨by omega, b⟩
    · rintro ⟨a, b, c⟩
      refine ⟨?_, b, c⟩
      by_cases e2 : y = x
      · subst e2
        rw [hM] at c
        exact nomatch c
      · omega
  · have : ad_cnt M (x + 1) = ad_cnt M x + cond (M x) 1 0 := rfl
    rw [hM] at this
    simp only [cond_true] at this
    omega
theorem ad_RB_e {n : Nat} {F : Nat → (Nat → Bool) → Int32} {M : Nat → Bool} {lv0 lo0 hi0 : Nat → Int32} {q : ad_P} (h5 : n ≤ 5) (h : ad_RB 0 M lv0 lo0 hi0 q)
    (hT : ∀ y, y < 768 → M y = true → ad_l lv0 y < 9 ∧ ad_Nd n F lv0 (lo0 y) (hi0 y) (lv0 y) (F y) ∧ ∀ v a b, ad_In n F lv0 (lo0 y) (hi0 y) (lv0 y) (F y) v a b → M a = true ∧ M b = true)
    (hU : ∀ x y, x < 768 → y < 768 → M x = true → M y = true → lv0 x = lv0 y → lo0 x = lo0 y → hi0 x = hi0 y → x = y) :
    ad_I n (768 - ad_cnt M 768) F q ∧ ∀ y, y < 768 → M y = true → ad_U q 0 y := by
  obtain ⟨fh, fc, lv, lo, hi, ch, bu⟩ := q
  obtain ⟨h1, h2, h3, ⟨H, hH⟩, fl, g1, g2, g3, g4, g5⟩ := h
  dsimp only [ad_fh, ad_fc, ad_lv, ad_lo, ad_hi, ad_ch, ad_bu] at h1 h2 h3 hH g1 g2 g3 g4 g5
  subst h2 h3
  have hm : ∀ y, M y = true → lv y = lv0 y := by
    intro y hy
    rw [h1, if_neg]
    rintro ⟨_, _, z⟩
    rw [hy] at z
    exact nomatch z
  have hf : ∀ y, y < 768 → M y = false → lv y = -1 := by
    intro y hy hM
    rw [h1, if_pos ⟨Nat.zero_le _, hy, hM⟩]
  have hu : ∀ y, y < 768 → ad_l lv y < 9 → M y = true := by
    intro y hy hl
    cases e : M y
    · have := ad_l_m (hf y hy e)
      omega
    · rfl
  refine ⟨⟨⟨h5, fun y hy => ?_, fun x y hx hy ux uy e1 e2 e3 => ?_⟩, ⟨H, fun h hh => ?_⟩, fl, g1, g2, fun y hy => ?_, ?_, ?_⟩, fun y hy hM => ?_⟩
  · dsimp only [ad_lv, ad_lo, ad_hi]
    cases e : M y
    · exact Or.inl (hf y hy e)
    · right
      obtain ⟨_, k1, k2⟩ := hT y hy e
      rw [hm y e]
      rcases k1 with k1 | ⟨v, a, b, k1⟩
      · exact Or.inl k1
      · obtain ⟨ma, mb⟩ := k2 v a b k1
        obtain ⟨hv, e0, ea, eb, ha, hb, hab, la, lb, hF⟩ := k1
        refine Or.inr ⟨v, a, b, hv, e0, ea, eb, ha, hb, hab, ?_, ?_, hF⟩
        · rw [ad_l_e (hm a ma)]
          exact la
        · rw [ad_l_e (hm b mb)]
          exact lb
  · dsimp only [ad_lv, ad_lo, ad_hi] at ux uy e1 e2 e3
    have mx := hu x hx ux
    have my := hu y hy uy
    rw [hm x mx, hm y my] at e1
    exact hU x y hx hy mx my e1 e2 e3
  · obtain ⟨k1, k2, k3⟩ := hH h hh
    refine ⟨k1, k2, fun y => ?_⟩
    rw [k3]
    dsimp only [ad_lv, ad_lo, ad_hi]
    constructor
    · rintro ⟨_, b, c, d⟩
      refine ⟨b, ?_, ?_⟩
      · rw [ad_l_e (hm y c)]
        exact (hT y b c).1
      · rw [hm y c]
        exact d
    · rintro ⟨b, c, d⟩
      have my := hu y b c
      refine ⟨Nat.zero_le _, b, my, ?_⟩
      rw [hm y my] at d
      exact d
  · obtain ⟨_, b, c⟩ := (g3 y).mp hy
    exact hf y b c
  · have : ad_cnt M 0 = 0 := rfl
    omega
  · have : ad_cnt M 0 = 0 := rfl
    dsimp only [ad_fc]
    rw [g4]
    congr 1
    omega
  · refine ⟨hy, Nat.zero_le _, ?_⟩
    dsimp only [ad_lv]
    rw [ad_l_e (hm y hM)]
    exact (hT y hy hM).1
theorem ad_RB_hd {x : Nat} {M : Nat → Bool} {lv0 lo0 hi0 : Nat → Int32} {q : ad_P} (h : ad_RB x M lv0 lo0 hi0 q) : ad_hd (ad_fh q) ∧ ∀ j, j < 64 → ad_hd (ad_bu q j) := by
  obtain ⟨_, _, _, ⟨H, hH⟩, fl, g1, _⟩ := h
  exact ⟨ad_chn_hd g1, fun j hj => ad_chn_hd (hH j hj).1⟩
section
variable {post : SX → Prop} {vc md rl rb : Int32} {mk : Nat → Int64} {pl : Nat → Int32} {f : ad_Fr} {k : ad_Ca} {wn ww : Nat → Int32}
theorem ad_release {q : ad_P} {x : Nat} (hx : x < 768) (hfh : ad_hd (ad_fh q)) (h : post (ad_S vc md rl rb mk pl f k wn ww (nI x, q.2.1 + 1, upd q.2.2.1 x (-1), q.2.2.2.1, q.2.2.2.2.1, upd q.2.2.2.2.2.1 x q.1, q.2.2.2.2.2.2))) :
    wpX_release post (ad_S vc md rl rb mk pl f k wn ww q) (nI x) := by
  have hi : vp_in (nI x) 768 := vp_in_nI hx (by decide)
  unfold wpX_release
  dsimp only
  rw [nI_clamp (by omega), ad_vbm, ad_hd_s2 hfh]
  exact ⟨hi, nm_e ⟨hi, nm_e (nm_e h)⟩⟩
theorem ad_room74 {M : Nat → Bool} {lv0 lo0 hi0 : Nat → Int32} (hM : ∀ y, y < 768 → M y = ad_m mk y) (K : ∀ q, ad_RB 0 M lv0 lo0 hi0 q → post (ad_S vc md rl rb mk pl f k wn ww q)) :
    ∀ (x : Nat) (q : ad_P) (e : Nat), x ≤ 768 → x < e → ad_RB x M lv0 lo0 hi0 q → wX_makeRoom_74 post e (nI x + (-1)) vc q.1 q.2.1 md rl rb q.2.2.1 q.2.2.2.1 q.2.2.2.2.1 q.2.2.2.2.2.1 q.2.2.2.2.2.2 mk pl f.1 f.2.1 f.2.2.1 f.2.2.2.1 f.2.2.2.2.1 f.2.2.2.2.2 k.1 k.2.1 k.2.2.1 k.2.2.2 wn ww := by
  intro x
  induction x with
  | zero =>
    intro q e hx he h
    obtain ⟨e, rfl⟩ : ∃ e', e = e' + 1 := ⟨e - 1, by omega⟩
    rw [wX_makeRoom_74]
    dsimp only
    exact br_t (by decide) (K q h)
  | succ x ih =>
    intro q e hx he h
    obtain ⟨e, rfl⟩ : ∃ e', e = e' + 1 := ⟨e - 1, by omega⟩
    have hix : vp_in (nI x) 768 := vp_in_nI (by omega) (by decide)
    rw [pk_m1, wX_makeRoom_74]
    dsimp only
    refine br_f (nI_pos (by omega)) (ad_isMarked (p := q) (f := f) (k := k) (by omega) ?_)
    obtain ⟨hd1, hd2⟩ := ad_RB_hd h
    refine ad_bi0 (ad_m mk x) (fun hm => ?_) (fun hm => ?_)
    · refine ad_release (q := q) (f := f) (k := k) (by omega) hd1 ?_
      dsimp only
      refine nm_e ?_
      exact ih (nI x, q.2.1 + 1, upd q.2.2.1 x (-1), q.2.2.2.1, q.2.2.2.2.1, upd q.2.2.2.2.2.1 x q.1, q.2.2.2.2.2.2) e (by omega) (by omega) (ad_RB_r (by omega) (by rw [hM x (by omega)]; exact hm) h)
    · obtain ⟨eh, lh⟩ := ad_hs_e (q.2.2.1 x) (q.2.2.2.1 x) (q.2.2.2.2.1 x)
      have hih : vp_in (nI (ad_hs (q.2.2.1 x) (q.2.2.2.1 x) (q.2.2.2.2.1 x))) 64 := vp_in_nI lh (by decide)
      rw [nI_clamp (by omega), ad_vs2 (by omega)]
      refine ⟨hix, hix, hix, nm_r eh ?_⟩
      rw [nI_clamp (by omega), ad_hd_s (hd2 _ lh)]
      refine ⟨hih, hix, nm_e ⟨hih, nm_e (nm_e ?_)⟩⟩
      exact ih (q.1, q.2.1, q.2.2.1, q.2.2.2.1, q.2.2.2.2.1, upd q.2.2.2.2.2.1 x (q.2.2.2.2.2.2 (ad_hs (q.2.2.1 x) (q.2.2.2.1 x) (q.2.2.2.2.1 x))), upd q.2.2.2.2.2.2 (ad_hs (q.2.2.1 x) (q.2.2.2.1 x) (q.2.2.2.2.1 x)) (nI x)) e (by omega) (by omega) (ad_RB_i (by omega) (by rw [hM x (by omega)]; exact hm) h)
theorem ad_room41 {q : ad_P} (K : ∀ bu : Nat → Int32, (∀ h, h < 64 → bu h = -1) → ∃ e, wX_makeRoom_74 post e 767 vc (-1) 0 md rl rb q.2.2.1 q.2.2.2.1 q.2.2.2.2.1 q.2.2.2.2.2.1 bu mk pl f.1 f.2.1 f.2.2.1 f.2.2.2.1 f.2.2.2.2.1 f.2.2.2.2.2 k.1 k.2.1 k.2.2.1 k.2.2.2 wn ww) :
    ∀ (d i : Nat) (bu : Nat → Int32), i + d = 64 → (∀ j, j < i → bu j = -1) → wX_makeRoom_41 post vc q.1 q.2.1 md rl rb (d + 1) (nI i) q.2.2.1 q.2.2.2.1 q.2.2.2.2.1 q.2.2.2.2.2.1 bu mk pl f.1 f.2.1 f.2.2.1 f.2.2.2.1 f.2.2.2.2.1 f.2.2.2.2.2 k.1 k.2.1 k.2.2.1 k.2.2.2 wn ww := by
  intro d
  induction d with
  | zero =>
    intro i bu hi hb
    rw [wX_makeRoom_41]
    dsimp only
    have e : i = 64 := by omega
    subst e
    exact br_t (by decide) (K bu hb)
  | succ d ih =>
    intro i bu hi hb
    rw [wX_makeRoom_41]
    dsimp only
    rw [nI_clamp (by omega), ad_vsm]
    refine pk_le 64 i (fun h => absurd h (by omega)) (fun _ => ⟨vp_in_nI (by omega) (by decide), nm_e (nm_r (nI_1 i) ?_)⟩)
    refine ih (i + 1) _ (by omega) ?_
    intro j hj
    by_cases e : j = i
    · rw [e, pk_us]
    · rw [pk_un e]
      exact hb j (by omega)
theorem ad_room17 {n c : Nat} {F : Nat → (Nat → Bool) → Int32} {p : ad_P} (I : ad_I n c F p) (hpl : ∀ d, d < 8 → ∃ x, pl d = nI x ∧ ad_U p 0 x)
    (K : ∀ (p' : ad_P) (mk' : Nat → Int64) (wn' : Nat → Int32) (c' : Nat), ad_I n c' F p' → 256 ≤ c' → (∀ d, d < 8 → ∃ x, pl d = nI x ∧ ad_U p' 0 x) → post (ad_S vc md rl rb mk' pl f k wn' ww p')) :
    ∀ (d i : Nat) (mk : Nat → Int64) (wn : Nat → Int32), i + d = 8 → ad_Cl n F p mk [] → ad_cnt (ad_m mk) 768 ≤ 63 * i → (∀ j x, j < i → pl j = nI x → x < 768 → ad_m mk x = true) →
      wX_makeRoom_17 post (d + 1) (nI i) vc p.1 p.2.1 md rl rb p.2.2.1 p.2.2.2.1 p.2.2.2.2.1 p.2.2.2.2.2.1 p.2.2.2.2.2.2 mk pl f.1 f.2.1 f.2.2.1 f.2.2.2.1 f.2.2.2.2.1 f.2.2.2.2.2 k.1 k.2.1 k.2.2.1 k.2.2.2 wn ww := by
  intro d
  induction d with
  | zero =>
    intro i mk wn hi hCl hcnt hm
    rw [wX_makeRoom_17]
    dsimp only
    have e : i = 8 := by omega
    subst e
    refine br_t (by decide) ⟨65, ad_room41 (q := p) (f := f) (k := k) ?_ 64 0 _ rfl (fun j hj => absurd hj (by omega))⟩
    intro bu hbu
    refine ⟨769, ad_room74 (M := ad_m mk) (lv0 := p.2.2.1) (lo0 := p.2.2.2.1) (hi0 := p.2.2.2.2.1) (f := f) (k := k) (fun y _ => rfl) ?_ 768 (-1, 0, p.2.2.1, p.2.2.2.1, p.2.2.2.2.1, p.2.2.2.2.2.1, bu) 769 (by omega) (by omega) (ad_RB_0 hbu)⟩
    intro q hq
    obtain ⟨I', hU⟩ := ad_RB_e (F := F) I.1.1 hq (fun y hy hmy => ⟨(hCl y hy hmy).1.2.2, ad_cs I.1 hy (hCl y hy hmy).1.2.2, fun v a b hab => by
      obtain ⟨c1, c2⟩ := (hCl y hy hmy).2 v a b hab
      exact ⟨c1.resolve_right (fun h => nomatch h), c2.resolve_right (fun h => nomatch h)⟩⟩) (fun x y hx hy mx my => I.1.2.2 x y hx hy (hCl x hx mx).1.2.2 (hCl y hy my).1.2.2)
    refine K q mk wn _ I' (by omega) (fun d hd => ?_)
    obtain ⟨x, ex, ux⟩ := hpl d hd
    exact ⟨x, ex, hU x ux.1 (hm d x hd ex ux.1)⟩
  | succ d ih =>
    intro i mk wn hi hCl hcnt hm
    rw [wX_makeRoom_17]
    dsimp only
    obtain ⟨x, ex, ux⟩ := hpl i (by omega)
    rw [nI_clamp (by omega), ex]
    refine pk_le 8 i (fun h => absurd h (by omega)) (fun _ => ⟨vp_in_nI (by omega) (by decide), ?_⟩)
    refine ad_markFrom (p := p) (f := f) (k := k) I (ad_U p 0) (fun _ h => h) (fun x v a b _ h => ?_) ux hCl ?_
    · obtain ⟨_, _, _, _, ha, hb, _, la, lb, _⟩ := h
      exact ⟨⟨ha, Nat.zero_le _, la.2⟩, ⟨hb, Nat.zero_le _, lb.2⟩⟩
    · intro mk' wn' hCl' hmono _ hroot hcnt'
      dsimp only
      refine nm_r (nI_1 i) ?_
      refine ih (i + 1) mk' wn' (by omega) hCl' (by omega) ?_
      intro j y hj ey hy
      by_cases e : j = i
      · subst e
        have := (nI_eq (by have := ux.1; omega) (by omega)).mp (ex.symm.trans ey)
        rw [← this]
        exact hroot
      · exact hmono y (hm j y (by omega) ey hy)
theorem ad_makeRoom {n c : Nat} {F : Nat → (Nat → Bool) → Int32} {p : ad_P} (I : ad_I n c F p) (hpl : ∀ d, d < 8 → ∃ x, pl d = nI x ∧ ad_U p 0 x)
    (K : ∀ (p' : ad_P) (mk' : Nat → Int64) (wn' : Nat → Int32) (c' : Nat), ad_I n c' F p' → 256 ≤ c' → (∀ d, d < 8 → ∃ x, pl d = nI x ∧ ad_U p' 0 x) → post (ad_S vc md rl rb mk' pl f k wn' ww p')) :
    wpX_makeRoom post (ad_S vc md rl rb mk pl f k wn ww p) := by
  obtain ⟨hc, efc⟩ := ad_I_c I
  unfold wpX_makeRoom
  dsimp only
  refine pk_lt c 256 (fun h => ?_) (fun h => K p mk wn c I h hpl) efc
  refine ad_clearMarks (p := p) (f := f) (k := k) ?_
  intro mk' hmk'
  dsimp only
  refine ⟨9, ad_room17 (p := p) (f := f) (k := k) I hpl K 8 0 mk' wn rfl ?_ ?_ (fun j x hj => absurd hj (by omega))⟩
  · intro y hy hm
    rw [hmk' y hy] at hm
    exact nomatch hm
  · rw [ad_cnt_z hmk']
    exact Nat.zero_le _
end
section
variable {post : SX → Prop} {md rl rb : Int32} {mk : Nat → Int64} {f : ad_Fr} {k : ad_Ca} {wn ww : Nat → Int32} {n : Nat}
theorem ad_init236 {vc : Int32} {p : ad_P} {r : Nat} (hr : r < 768) (K : ∀ pl : Nat → Int32, (∀ d, d < 8 → pl d = nI r) → post (ad_S vc md rl rb mk pl f k wn ww p)) :
    ∀ (d i : Nat) (pl : Nat → Int32), i + d = 8 → (∀ j, j < i → pl j = nI r) → wX_init_236 post (nI r) vc p.1 p.2.1 md rl rb (d + 1) (nI i) p.2.2.1 p.2.2.2.1 p.2.2.2.2.1 p.2.2.2.2.2.1 p.2.2.2.2.2.2 mk pl f.1 f.2.1 f.2.2.1 f.2.2.2.1 f.2.2.2.2.1 f.2.2.2.2.2 k.1 k.2.1 k.2.2.1 k.2.2.2 wn ww := by
  intro d
  induction d with
  | zero =>
    intro i pl hi hb
    rw [wX_init_236]
    dsimp only
    have e : i = 8 := by omega
    subst e
    exact br_t (by decide) (K pl hb)
  | succ d ih =>
    intro i pl hi hb
    rw [wX_init_236]
    dsimp only
    rw [nI_clamp (by omega), ad_vs2 (by omega)]
    refine pk_le 8 i (fun h => absurd h (by omega)) (fun _ => ⟨vp_in_nI (by omega) (by decide), nm_e (nm_r (nI_1 i) ?_)⟩)
    refine ih (i + 1) _ (by omega) ?_
    intro j hj
    by_cases e : j = i
    · rw [e, pk_us]
    · rw [pk_un e]
      exact hb j (by omega)
theorem ad_init213 {pl : Nat → Int32} {lv0 lo0 hi0 : Nat → Int32} (h5 : n ≤ 5)
    (K : ∀ (p : ad_P) (pl : Nat → Int32) (F : Nat → (Nat → Bool) → Int32) (c r : Nat), ad_I n c F p → ad_U p 0 r → (∀ s, F r s = 0) → (∀ d, d < 8 → pl d = nI r) → post (ad_S (nI n) md rl rb mk pl f k wn ww p)) :
    ∀ (x : Nat) (q : ad_P) (e : Nat), x ≤ 768 → x < e → ad_RB x (fun _ => false) lv0 lo0 hi0 q → wX_init_213 post e (nI x + (-1)) (nI n) q.1 q.2.1 md rl rb q.2.2.1 q.2.2.2.1 q.2.2.2.2.1 q.2.2.2.2.2.1 q.2.2.2.2.2.2 mk pl f.1 f.2.1 f.2.2.1 f.2.2.2.1 f.2.2.2.2.1 f.2.2.2.2.2 k.1 k.2.1 k.2.2.1 k.2.2.2 wn ww := by
  intro x
  induction x with
  | zero =>
    intro q e hx he h
    obtain ⟨e, rfl⟩ : ∃ e', e = e' + 1 := ⟨e - 1, by omega⟩
    rw [wX_init_213]
    dsimp only
    refine br_t (by decide) ?_
    have hz : ad_cnt (fun _ => false) 768 = 0 := ad_cnt_z (fun _ _ => rfl)
    have I := (ad_RB_e (F := fun _ _ => 0) h5 h (fun y _ z => nomatch z) (fun x y _ _ z => nomatch z)).1
    refine ad_value (p := q) (f := f) (k := k) I (by omega) 0 ?_
    intro r F' p' c' u I' E hc' hF
    dsimp only
    exact ⟨9, ad_init236 (p := p') (f := f) (k := k) u.1 (fun pl' hpl' => K p' pl' F' c' r I' (ad_U_w u (Nat.zero_le _)) hF hpl') 8 0 pl rfl (fun j hj => absurd hj (by omega))⟩
  | succ x ih =>
    intro q e hx he h
    obtain ⟨e, rfl⟩ : ∃ e', e = e' + 1 := ⟨e - 1, by omega⟩
    rw [pk_m1, wX_init_213]
    dsimp only
    refine br_f (nI_pos (by omega)) ?_
    refine ad_release (q := q) (f := f) (k := k) (by omega) (ad_RB_hd h).1 ?_
    dsimp only
    refine nm_e ?_
    exact ih (nI x, q.2.1 + 1, upd q.2.2.1 x (-1), q.2.2.2.1, q.2.2.2.2.1, upd q.2.2.2.2.2.1 x q.1, q.2.2.2.2.2.2) e (by omega) (by omega) (ad_RB_r (by omega) rfl h)
theorem ad_init185 {pl lv lo hi ch : Nat → Int32} (h5 : n ≤ 5)
    (K : ∀ (p : ad_P) (pl : Nat → Int32) (F : Nat → (Nat → Bool) → Int32) (c r : Nat), ad_I n c F p → ad_U p 0 r → (∀ s, F r s = 0) → (∀ d, d < 8 → pl d = nI r) → post (ad_S (nI n) md rl rb mk pl f k wn ww p)) :
    ∀ (d i : Nat) (bu : Nat → Int32), i + d = 64 → (∀ j, j < i → bu j = -1) → wX_init_185 post (nI n) 0 0 md rl rb (d + 1) (nI i) lv lo hi ch bu mk pl f.1 f.2.1 f.2.2.1 f.2.2.2.1 f.2.2.2.2.1 f.2.2.2.2.2 k.1 k.2.1 k.2.2.1 k.2.2.2 wn ww := by
  intro d
  induction d with
  | zero =>
    intro i bu hi' hb
    rw [wX_init_185]
    dsimp only
    have e : i = 64 := by omega
    subst e
    refine br_t (by decide) ⟨769, ?_⟩
    exact ad_init213 (lv0 := lv) (lo0 := lo) (hi0 := hi) (f := f) (k := k) h5 K 768 (-1, 0, lv, lo, hi, ch, bu) 769 (by omega) (by omega) (ad_RB_0 hb)
  | succ d ih =>
    intro i bu hi' hb
    rw [wX_init_185]
    dsimp only
    rw [nI_clamp (by omega), ad_vsm]
    refine pk_le 64 i (fun h => absurd h (by omega)) (fun _ => ⟨vp_in_nI (by omega) (by decide), nm_e (nm_r (nI_1 i) ?_)⟩)
    refine ih (i + 1) _ (by omega) ?_
    intro j hj
    by_cases e : j = i
    · rw [e, pk_us]
    · rw [pk_un e]
      exact hb j (by omega)
end
end
section
/-! tables and assignments, parts of a function, counting first ones, sums over assignments -/
def ad_bt (k : Nat) : Nat → Bool := fun i => k.testBit i
def ad_num (s : Nat → Bool) : Nat → Nat
  | 0 => 0
  | k + 1 => ad_num s k + cond (s k) (2 ^ k) 0
theorem ad_num_lt (s : Nat → Bool) : ∀ k, ad_num s k < 2 ^ k := by
  intro k
  induction k with
  | zero => exact Nat.one_pos
  | succ k ih =>
    unfold ad_num
    rw [Nat.pow_succ]
    cases s k
    · simp only [cond_false]
      omega
    · simp only [cond_true]
      omega
theorem ad_num_bt (s : Nat → Bool) : ∀ k i, i < k → ad_bt (ad_num s k) i = s i := by
  intro k
  induction k with
  | zero => intro i hi; omega
  | succ k ih =>
    intro i hi
    have hl := ad_num_lt s k
    unfold ad_num
    unfold ad_bt at ih ⊢
    cases h : s k
    · simp only [cond_false, Nat.add_zero]
      by_cases e : i = k
      · rw [e, h]
        exact Nat.testBit_lt_two_pow hl
      · exact ih i (by omega)
    · simp only [cond_true]
      rw [Nat.add_comm]
      by_cases e : i = k
      · rw [e, h, Nat.testBit_two_pow_add_eq, Nat.testBit_lt_two_pow hl]
        rfl
      · rw [Nat.testBit_two_pow_add_gt (by omega)]
        exact ih i (by omega)
section
variable {n c : Nat} {F : Nat → (Nat → Bool) → Int32} {p : ad_P}
theorem ad_at (I : ad_I n c F p) {x : Nat} (u : ad_U p 0 x) (s : Nat → Bool) : F x s = F x (ad_bt (ad_num s n)) :=
  ad_dp I.1 u.1 u.2.2 (fun i _ hi => (ad_num_bt s n i hi).symm)
/-- equal tables, one node -/
theorem ad_eqt (I : ad_I n c F p) {x y : Nat} (ux : ad_U p 0 x) (uy : ad_U p 0 y) (h : ∀ k, k < 2 ^ n → F x (ad_bt k) = F y (ad_bt k)) : x = y := by
  refine ad_can I.1 ux.1 uy.1 ux.2.2 uy.2.2 (fun s => ?_)
  rw [ad_at I ux s, ad_at I uy s]
  exact h _ (ad_num_lt s n)
def ad_mx (k : Nat) (s t : Nat → Bool) : Nat → Bool := fun i => if i < k then s i else t i
/-- y is x with the variables below k fixed as in s -/
def ad_Pf (n : Nat) (F : Nat → (Nat → Bool) → Int32) (p : ad_P) (x y k : Nat) (s : Nat → Bool) : Prop := k ≤ n ∧ k ≤ ad_l (ad_lv p) y ∧ ∀ t, F y t = F x (ad_mx k s t)
def ad_Pt (n : Nat) (F : Nat → (Nat → Bool) → Int32) (p : ad_P) (x y : Nat) : Prop := ad_U p 0 y ∧ ∃ k s, ad_Pf n F p x y k s
theorem ad_Pt_r {x : Nat} (u : ad_U p 0 x) : ad_Pt n F p x x := by
  refine ⟨u, 0, fun _ => false, Nat.zero_le _, Nat.zero_le _, fun t => ?_⟩
  congr 1
theorem ad_Pt_k (I : ad_I n c F p) {x y v a b : Nat} (h : ad_Pt n F p x y) (hab : ad_In n F (ad_lv p) (ad_lo p y) (ad_hi p y) (ad_lv p y) (F y) v a b) (z : Bool) : ad_Pt n F p x (cond z b a) := by
  obtain ⟨uy, k, s, hk, hky, hF⟩ := h
  have kid := fun t => ad_kid I.1 hab t z
  have ey := ad_InL I.1 hab
  obtain ⟨hv, _, ea, eb, ha, hb, _, la, lb, _⟩ := hab
  have hu : ad_U p (v + 1) (cond z b a) := by
    cases z
    · exact ⟨ha, la.1, la.2⟩
    · exact ⟨hb, lb.1, lb.2⟩
  refine ⟨ad_U_w hu (Nat.zero_le _), v + 1, fun i => if i < k then s i else z, hv, hu.2.1, fun t => ?_⟩
  have e1 : F y (ad_up t v z) = F y (ad_mx (v + 1) (fun i => if i < k then s i else z) t) := by
    refine ad_dp I.1 uy.1 uy.2.2 (fun i h1 _ => ?_)
    unfold ad_mx
    dsimp only
    by_cases e : i = v
    · rw [e, ad_up_s, if_pos (by omega), if_neg (by omega)]
    · rw [ad_up_n e, if_neg (by omega)]
  rw [← kid t, e1, hF]
  congr 1
  funext i
  unfold ad_mx
  dsimp only
  by_cases e : i < k
  · rw [if_pos e, if_pos (by omega), if_pos e]
  · rw [if_neg e]
theorem ad_Pt_c (I : ad_I n c F p) {x y v a b : Nat} (h : ad_Pt n F p x y) (hab : ad_In n F (ad_lv p) (ad_lo p y) (ad_hi p y) (ad_lv p y) (F y) v a b) : ad_Pt n F p x a ∧ ad_Pt n F p x b :=
  ⟨ad_Pt_k I h hab false, ad_Pt_k I h hab true⟩
/-- a closed set of marks holds every part of its members -/
theorem ad_desc (I : ad_I n c F p) {mk : Nat → Int64} (hCl : ad_Cl n F p mk []) : ∀ (d x : Nat), ad_U p 0 x → ad_m mk x = true → 9 ≤ ad_l (ad_lv p) x + d → ∀ (k : Nat) (s : Nat → Bool), k ≤ n → ∃ y, ad_U p 0 y ∧ ad_m mk y = true ∧ ad_Pf n F p x y k s := by
  intro d
  induction d with
  | zero => intro x u _ h; have := u.2.2; omega
  | succ d ih =>
    intro x u hm h k s hk
    have h5 := I.1.1
    by_cases hkx : k ≤ ad_l (ad_lv p) x
    · refine ⟨x, u, hm, hk, hkx, fun t => ad_dp I.1 u.1 u.2.2 (fun i h1 _ => ?_)⟩
      unfold ad_mx
      rw [if_neg (by omega)]
    · obtain ⟨a, b, hab⟩ := ad_inner I.1 u.1 (by omega)
      obtain ⟨c1, c2⟩ := (hCl x u.1 hm).2 _ a b hab
      obtain ⟨hv, _, ea, eb, ha, hb, _, la, lb, hF⟩ := hab
      have hu : ad_U p (ad_l (ad_lv p) x + 1) (cond (s (ad_l (ad_lv p) x)) b a) ∧ ad_m mk (cond (s (ad_l (ad_lv p) x)) b a) = true := by
        cases s (ad_l (ad_lv p) x)
        · exact ⟨⟨ha, la.1, la.2⟩, c1.resolve_right (fun h => nomatch h)⟩
        · exact ⟨⟨hb, lb.1, lb.2⟩, c2.resolve_right (fun h => nomatch h)⟩
      obtain ⟨hu, hmc⟩ := hu
      have hul := hu.2.1
      obtain ⟨y, uy, my, k1, k2, k3⟩ := ih _ (ad_U_w hu (Nat.zero_le _)) hmc (by omega) k s hk
      refine ⟨y, uy, my, k1, k2, fun t => ?_⟩
      rw [k3 t, hF]
      have e : ad_mx k s t (ad_l (ad_lv p) x) = s (ad_l (ad_lv p) x) := by
        unfold ad_mx
        rw [if_pos (by omega)]
      rw [e]
      cases s (ad_l (ad_lv p) x) <;> rfl
end
/-- the number of first ones is the number of values -/
theorem ad_first {g : Nat → Nat} {nm N : Nat → Bool} {a : Nat} (hg : ∀ i, nm i = true → g i < 768) (hN : ∀ i, a ≤ i → (N i = true ↔ (nm i = true ∧ ∀ j, a ≤ j → j < i → nm j = true → g j ≠ g i))) :
    ∀ (d : Nat) (M : Nat → Bool), (∀ y, y < 768 → (M y = true ↔ ∃ i, a ≤ i ∧ i < a + d ∧ nm i = true ∧ g i = y)) → ad_cnt (fun i => N (a + i)) d = ad_cnt M 768 := by
  intro d
  induction d with
  | zero =>
    intro M hM
    rw [ad_cnt_z (P := M) (fun y hy => ?_)]
    · rfl
    · cases e : M y
      · rfl
      · obtain ⟨i, h1, h2, _⟩ := (hM y hy).mp e
        omega
  | succ d ih =>
    intro M hM
    have hst : ad_cnt (fun i => N (a + i)) (d + 1) = ad_cnt (fun i => N (a + i)) d + cond (N (a + d)) 1 0 := rfl
    cases e : N (a + d)
    · rw [hst, e]
      refine ih M (fun y hy => ?_)
      rw [hM y hy]
      constructor
      · rintro ⟨i, h1, h2, h3, h4⟩
        by_cases ei : i = a + d
        · subst ei
          -- an earlier one has the same value
          apply Classical.byContradiction
          intro hno
          have : N (a + d) = true := (hN _ h1).mpr ⟨h3, fun j j1 j2 j3 j4 => hno ⟨j, j1, j2, j3, j4.trans h4⟩⟩
          rw [e] at this
          exact nomatch this
        · exact ⟨i, h1, by omega, h3, h4⟩
      · rintro ⟨i, h1, h2, h3⟩
        exact ⟨i, h1, by omega, h3⟩
    · obtain ⟨e1, e2⟩ := (hN (a + d) (by omega)).mp e
      have hgd := hg _ e1
      have hMg : M (g (a + d)) = true := (hM _ hgd).mpr ⟨a + d, by omega, by omega, e1, rfl⟩
      have h1 := ih (fun y => M y && !decide (y = g (a + d))) (fun y hy => ?_)
      · rw [hst, e, h1]
        have := ad_cnt_s (P := fun y => M y && !decide (y = g (a + d))) (Q := M) (x := g (a + d)) (fun y => ?_) (by simp) 768
        · rw [this, if_pos hgd]
          rfl
        · by_cases ey : y = g (a + d)
          · subst ey
            rw [hMg]
            simp
          · simp [ey]
      · constructor
        · intro h
          obtain ⟨h2, h3⟩ := Bool.and_eq_true_iff.mp h
          obtain ⟨i, i1, i2, i3, i4⟩ := (hM y hy).mp h2
          refine ⟨i, i1, ?_, i3, i4⟩
          by_cases ei : i = a + d
          · subst ei
            rw [i4] at h3
            simp at h3
          · omega
        · rintro ⟨i, i1, i2, i3, i4⟩
          have h2 : M y = true := (hM y hy).mpr ⟨i, i1, by omega, i3, i4⟩
          have h3 : ¬ y = g (a + d) := fun ey => e2 i i1 i2 i3 (i4.trans ey)
          rw [h2, decide_eq_false h3]
          rfl
def ad_sm (h : Nat → Int) : Nat → Int
  | 0 => 0
  | k + 1 => ad_sm h k + h k
theorem ad_sm_e {h h' : Nat → Int} : ∀ {N : Nat}, (∀ k, k < N → h k = h' k) → ad_sm h N = ad_sm h' N := by
  intro N
  induction N with
  | zero => intro _; rfl
  | succ N ih =>
    intro e
    unfold ad_sm
    rw [ih (fun k hk => e k (by omega)), e N (by omega)]
theorem ad_sm_a (h h' : Nat → Int) : ∀ N, ad_sm (fun k => h k + h' k) N = ad_sm h N + ad_sm h' N := by
  intro N
  induction N with
  | zero => rfl
  | succ N ih =>
    unfold ad_sm
    rw [ih]
    omega
theorem ad_sm_c (z : Int) : ∀ N : Nat, ad_sm (fun _ => z) N = (N : Int) * z := by
  intro N
  induction N with
  | zero =>
    show (0 : Int) = ((0 : Nat) : Int) * z
    rw [Int.natCast_zero, Int.zero_mul]
  | succ N ih =>
    unfold ad_sm
    rw [ih, Int.natCast_succ, Int.add_mul, Int.one_mul]
theorem ad_sm_x (h : Nat → Int) : ∀ n, n ≤ 5 → ∀ v, v < n → ad_sm (fun k => h (k ^^^ 2 ^ v)) (2 ^ n) = ad_sm h (2 ^ n) := by
  intro n hn v hv
  have hn' : n = 1 ∨ n = 2 ∨ n = 3 ∨ n = 4 ∨ n = 5 := by omega
  have hv' : v = 0 ∨ v = 1 ∨ v = 2 ∨ v = 3 ∨ v = 4 := by omega
  rcases hn' with rfl | rfl | rfl | rfl | rfl <;> rcases hv' with rfl | rfl | rfl | rfl | rfl <;> first | (exfalso; omega) | (simp [ad_sm]; omega)
theorem ad_bx {k v : Nat} : ad_bt (k ^^^ 2 ^ v) = ad_up (ad_bt k) v (!(ad_bt k v)) := by
  funext i
  unfold ad_bt
  rw [Nat.testBit_xor, Nat.testBit_two_pow]
  by_cases e : i = v
  · rw [e, ad_up_s]
    simp
  · rw [ad_up_n e, decide_eq_false (fun z => e z.symm)]
    simp
/-- the sum of a node over all assignments -/
def ad_Sg (g : Int32 → Int) (n : Nat) (F : Nat → (Nat → Bool) → Int32) (x : Nat) : Int := ad_sm (fun k => g (F x (ad_bt k))) (2 ^ n)
theorem ad_Sg_l {n : Nat} {F : Nat → (Nat → Bool) → Int32} {x : Nat} (g : Int32 → Int) {z : Int32} (h : ∀ s, F x s = z) : ad_Sg g n F x = ((2 ^ n : Nat) : Int) * g z := by
  unfold ad_Sg
  rw [ad_sm_e (h' := fun _ => g z) (fun k _ => by rw [h]), ad_sm_c]
theorem ad_Sg_i {n c : Nat} {F : Nat → (Nat → Bool) → Int32} {p : ad_P} (I : ad_I n c F p) (g : Int32 → Int) {x v a b : Nat} (hab : ad_In n F (ad_lv p) (ad_lo p x) (ad_hi p x) (ad_lv p x) (F x) v a b) : 2 * ad_Sg g n F x = ad_Sg g n F a + ad_Sg g n F b := by
  have e1 := ad_sm_x (fun k => g (F x (ad_bt k))) n I.1.1 v hab.1
  have e2 : ad_sm (fun k => (fun k => g (F x (ad_bt k))) k + (fun k => g (F x (ad_bt (k ^^^ 2 ^ v)))) k) (2 ^ n) = ad_sm (fun k => (fun k => g (F a (ad_bt k))) k + (fun k => g (F b (ad_bt k))) k) (2 ^ n) := by
    refine ad_sm_e (fun k _ => ?_)
    dsimp only
    rw [ad_bx, ad_kid I.1 hab]
    have e3 : F x (ad_bt k) = F (cond (ad_bt k v) b a) (ad_bt k) := by
      rw [← ad_kid I.1 hab, ad_up_id]
    rw [e3]
    cases ad_bt k v
    · rfl
    · exact Int.add_comm _ _
  rw [ad_sm_a, ad_sm_a] at e2
  unfold ad_Sg
  omega
end
section
/-! the component's reading methods -/
theorem ad_bit {k v : Nat} (hk : k < 2 ^ 31) (hv : v < 32) : (nI k >>> (nI v &&& 31)) &&& 1 = ad_bi (ad_bt k v) := by
  rw [pk_shrN hk _ v (s_l v hv), pk_andN (Nat.lt_of_le_of_lt (Nat.div_le_self _ _) (by omega)) 1 (by decide)]
  unfold ad_bt
  rw [Nat.testBit_eq_decide_div_mod_eq]
  have h : k / 2 ^ v % 2 ^ 1 = 0 ∨ k / 2 ^ v % 2 ^ 1 = 1 := by
    have : k / 2 ^ v % 2 ^ 1 < 2 := Nat.mod_lt _ (by decide)
    omega
  rcases h with h | h
  · rw [h, decide_eq_false (by have : k / 2 ^ v % 2 = 0 := h; omega)]
    rfl
  · rw [h]
    rfl
theorem ad_sl1 {v : Nat} (hv : v < 31) : (1 : Int32) <<< (nI v &&& 31) = nI (2 ^ v) := by
  have := pk_shlN (n := 1) (nI v &&& 31) v (s_l v (by omega)) (by rw [Nat.one_mul]; exact Nat.pow_lt_pow_right (by decide) (by omega))
  rw [Nat.one_mul] at this
  exact this
theorem ad_or (a b : Nat) : nI a ||| nI b = nI (a ||| b) := by
  apply Int32.toBitVec_inj.1
  show BitVec.ofNat 32 a ||| BitVec.ofNat 32 b = BitVec.ofNat 32 (a ||| b)
  apply BitVec.eq_of_getLsbD_eq
  intro i hi
  simp [hi]
theorem ad_p5 {e : Nat} (h : e ≤ 5) : 2 ^ e ≤ 32 := Nat.le_trans (Nat.pow_le_pow_right (by decide) h) (by decide)
section
variable {vc md rl rb : Int32} {mk : Nat → Int64} {pl : Nat → Int32} {f : ad_Fr} {k : ad_Ca} {wn ww : Nat → Int32} {p : ad_P} {n c : Nat} {F : Nat → (Nat → Bool) → Int32}
theorem ad_va34 {Q : Int32 → Prop} (I : ad_I n c F p) {j : Nat} (hj : j < 2 ^ n) : ∀ (d x s q : Nat), ad_U p s x → 9 ≤ ad_l (ad_lv p) x + d → d < q → Q (F x (ad_bt j)) → wX_valueAt_34 Q (nI j) vc p.1 p.2.1 md rl rb p.2.2.1 p.2.2.2.1 p.2.2.2.2.1 p.2.2.2.2.2.1 p.2.2.2.2.2.2 mk pl f.1 f.2.1 f.2.2.1 f.2.2.2.1 f.2.2.2.2.1 f.2.2.2.2.2 k.1 k.2.1 k.2.2.1 k.2.2.2 wn ww q (nI x) (nI s) := by
  have h5 := I.1.1
  have hp5 := ad_p5 h5
  intro d
  induction d with
  | zero => intro x s q u h; have := u.2.2; omega
  | succ d ih =>
    intro x s q u h hq hQ
    obtain ⟨q, rfl⟩ : ∃ q', q = q' + 1 := ⟨q - 1, by omega⟩
    have hx := u.1
    have hin := ad_U_in u
    have hs := u.2.1
    have hl := ad_lev I.1 u.1 u.2.2
    rw [wX_valueAt_34]
    dsimp only
    rw [ad_U_cl u]
    by_cases h8 : ad_l (ad_lv p) x = 8
    · have hlf := ad_leaf I.1 hx h8
      rw [hlf.2.2] at hQ
      exact br_c (fun _ => ⟨hin, hQ⟩) (fun _ => ⟨hin, br_t hlf.1 ⟨hin, hQ⟩⟩)
    · have hv : ad_l (ad_lv p) x < n := hl.2.resolve_left h8
      obtain ⟨a, b, hab⟩ := ad_inner I.1 hx (by omega)
      obtain ⟨_, ev, ea, eb, ha, hb, _, la, lb, hF⟩ := hab
      rw [hF] at hQ
      rw [show p.2.2.1 x = nI (ad_l (ad_lv p) x) from ev, ad_bit (by omega) (by omega), show p.2.2.2.1 x = nI a from ea, show p.2.2.2.2.1 x = nI b from eb]
      refine pk_le 6 s (fun z => absurd z (by omega)) (fun _ => ⟨hin, pk_eq (ad_l (ad_lv p) x) 8 (fun z => absurd z h8) (fun _ => ⟨hin, ad_bi0 _ (fun z => ⟨hin, nm_e (nm_r (nI_1 s) ?_)⟩) (fun z => ⟨hin, nm_e (nm_r (nI_1 s) ?_)⟩)⟩)⟩)
      · rw [z] at hQ
        exact ih a (s + 1) q ⟨ha, by omega, la.2⟩ (by omega) (by omega) hQ
      · rw [z] at hQ
        exact ih b (s + 1) q ⟨hb, by omega, lb.2⟩ (by omega) (by omega) hQ
/-- the paths' stack: nodes with the exponents of their weights, its top first -/
def ad_wk (n : Nat) (p : ad_P) (wn ww : Nat → Int32) : List (Nat × Nat) → Prop
  | [] => True
  | xe :: r => wn r.length = nI xe.1 ∧ ww r.length = nI (2 ^ xe.2) ∧ ad_U p r.length xe.1 ∧ xe.2 ≤ 5 ∧ n ≤ xe.2 + ad_l (ad_lv p) xe.1 ∧ ad_wk n p wn ww r
theorem ad_wk_u {z y : Int32} {i : Nat} (st : List (Nat × Nat)) : st.length ≤ i → ad_wk n p wn ww st → ad_wk n p (upd wn i z) (upd ww i y) st := by
  induction st with
  | nil => intro _ _; trivial
  | cons x r ih =>
    intro h hs
    rw [List.length_cons] at h
    refine ⟨?_, ?_, hs.2.2.1, hs.2.2.2.1, hs.2.2.2.2.1, ih (by omega) hs.2.2.2.2.2⟩
    · rw [pk_un (by omega)]
      exact hs.1
    · rw [pk_un (by omega)]
      exact hs.2.1
def ad_sw2 (p : ad_P) : List (Nat × Nat) → Nat
  | [] => 0
  | xe :: r => ad_c6 (ad_l (ad_lv p) xe.1) + ad_sw2 p r
def ad_ws (g : Int32 → Int) (n : Nat) (F : Nat → (Nat → Bool) → Int32) : List (Nat × Nat) → Int
  | [] => 0
  | xe :: r => ((2 ^ xe.2 : Nat) : Int) * ad_Sg g n F xe.1 + ad_ws g n F r
theorem ad_wsL {P z E gl W T : Int} (h : P * z + (E * (P * gl) + W) = T) : P * (z + E * gl) + W = T := by
  rw [Int.mul_add, Int.mul_left_comm P E gl]
  omega
theorem ad_wsI {E Sx Sa Sb W : Int} (h : 2 * Sx = Sa + Sb) : (2 * E) * Sx + W = E * Sb + (E * Sa + W) := by
  rw [Int.mul_comm 2 E, Int.mul_assoc, h, Int.mul_add]
  omega
theorem ad_walkDown {post : Int32 → SX → Prop} {x e i a b : Nat} (hi : i + 1 < 16) (ex : wn i = nI x) (ew : ww i = nI (2 ^ (e + 1))) (he : e + 1 ≤ 5) (hx : x < 768) (ea : ad_lo p x = nI a) (eb : ad_hi p x = nI b) (ha : a < 768) (hb : b < 768)
    (h : post (nI (i + 2)) (ad_S vc md rl rb mk pl f k (upd (upd wn i (nI a)) (i + 1) (nI b)) (upd (upd ww i (nI (2 ^ e))) (i + 1) (nI (2 ^ e))) p)) : wpX_walkDown post (ad_S vc md rl rb mk pl f k wn ww p) (nI i) := by
  have h1 := ad_p5 he
  have h0 := ad_p5 (show e ≤ 5 by omega)
  have hi0 : vp_in (nI i) 16 := vp_in_nI (by omega) (by decide)
  have hi1 : vp_in (nI (i + 1)) 16 := vp_in_nI hi (by decide)
  have hix : vp_in (nI x) 768 := vp_in_nI hx (by decide)
  unfold wpX_walkDown
  dsimp only
  rw [nI_clamp (by omega), ex, ew]
  have ed : nI (2 ^ (e + 1)) / 2 = nI (2 ^ e) := by
    rw [show (2 : Int32) = nI 2 from rfl, pk_div (by omega) (by decide) (by decide), Nat.pow_succ, Nat.mul_div_cancel _ (by decide)]
  refine ⟨hi0, nm_e ⟨hi0, by decide, nm_r ed ?_⟩⟩
  rw [nI_clamp (by omega), show p.2.2.2.1 x = nI a from ea, show p.2.2.2.2.1 x = nI b from eb, ad_vs2 (by omega), ad_vs (by omega), ad_vb2 (by omega), nI_1, nI_clamp (by omega), show nI i + 2 = nI (i + 2) from nI_add i 2]
  exact ⟨hix, hi0, nm_e ⟨hi0, nm_e ⟨hix, hi1, nm_e ⟨hi1, nm_e h⟩⟩⟩⟩
end
section
variable {vc md rl rb : Int32} {mk : Nat → Int64} {pl : Nat → Int32} {f : ad_Fr} {k : ad_Ca} {p : ad_P} {n c : Nat} {F : Nat → (Nat → Bool) → Int32}
theorem ad_countOf22 {post : Int32 → SX → Prop} (I : ad_I n c F p) (cc : Int32) (T : Int) (K : ∀ (z : Int) (wn ww : Nat → Int32), ((2 ^ n : Nat) : Int) * z = T → post (Int32.ofInt z) (ad_S vc md rl rb mk pl f k wn ww p)) :
    ∀ (e : Nat) (st : List (Nat × Nat)) (z : Int) (wn ww : Nat → Int32) (s q : Nat), ad_sw2 p st ≤ e → e + s ≤ 63 → e < q → ad_wk n p wn ww st → ((2 ^ n : Nat) : Int) * z + ad_ws (fun z => if z = cc then 1 else 0) n F st = T →
      wX_countOf_22 post cc q (Int32.ofInt z) (nI st.length) (nI s) vc p.1 p.2.1 md rl rb p.2.2.1 p.2.2.2.1 p.2.2.2.2.1 p.2.2.2.2.2.1 p.2.2.2.2.2.2 mk pl f.1 f.2.1 f.2.2.1 f.2.2.2.1 f.2.2.2.2.1 f.2.2.2.2.2 k.1 k.2.1 k.2.2.1 k.2.2.2 wn ww := by
  have h5 := I.1.1
  intro e
  induction e with
  | zero =>
    intro st z wn ww s q he hs hq hst hz
    obtain ⟨q, rfl⟩ : ∃ q', q = q' + 1 := ⟨q - 1, by omega⟩
    cases st with
    | nil =>
      rw [wX_countOf_22]
      dsimp only
      have hp := K z wn ww (by unfold ad_ws at hz; omega)
      exact br_c (fun _ => hp) (fun _ => br_t (by decide) hp)
    | cons xe r =>
      exfalso
      have := ad_c6_1 (ad_l (ad_lv p) xe.1)
      unfold ad_sw2 at he
      omega
  | succ e ih =>
    intro st z wn ww s q he hs hq hst hz
    obtain ⟨q, rfl⟩ : ∃ q', q = q' + 1 := ⟨q - 1, by omega⟩
    cases st with
    | nil =>
      rw [wX_countOf_22]
      dsimp only
      have hp := K z wn ww (by unfold ad_ws at hz; omega)
      exact br_c (fun _ => hp) (fun _ => br_t (by decide) hp)
    | cons xe r =>
      obtain ⟨x, g⟩ := xe
      have h1 := ad_c6_1 (ad_l (ad_lv p) x)
      unfold ad_sw2 at he
      unfold ad_ws at hz
      dsimp only at he hz
      obtain ⟨ex, ew, ux, hg5, hgl, hst'⟩ := hst
      dsimp only at ex ew ux hg5 hgl
      have hx := ux.1
      have hxr := ux.2.1
      have hx9 := ux.2.2
      have hin : vp_in (nI r.length) 16 := vp_in_nI (by omega) (by decide)
      have hix : vp_in (nI x) 768 := vp_in_nI hx (by decide)
      have hl := ad_lev I.1 hx hx9
      have hg32 := ad_p5 hg5
      rw [wX_countOf_22]
      dsimp only
      refine pk_le 64 s (fun z => absurd z (by omega)) (fun _ => pk_le (r.length + 1) 0 (fun z => absurd z (by omega)) (fun _ => nm_r (pk_m1 r.length) ⟨hin, nm_r (e' := nI x) ?_ ⟨hix, ?_⟩⟩))
      · rw [nI_clamp (by omega)]
        exact ex
      rw [nI_clamp (by omega), nI_clamp (by omega)]
      by_cases h8 : ad_l (ad_lv p) x = 8
      · have hlf := ad_leaf I.1 hx h8
        rw [ad_Sg_l _ hlf.2.2] at hz
        have hz' := ad_wsL hz
        rw [ew]
        refine br_t hlf.1 ⟨hix, br_c (fun hc => ⟨hin, ?_⟩) (fun hc => ?_)⟩
        · refine nm_r (e' := Int32.ofInt (z + ((2 ^ g : Nat) : Int) * 1)) ?_ (nm_r (nI_1 s) ?_)
          · rw [Int.mul_one, Int32.ofInt_add, Int32.ofInt_eq_ofNat]
            rfl
          · rw [if_pos hc] at hz'
            exact ih r _ wn ww (s + 1) q (by omega) (by omega) (by omega) hst' hz'
        · refine nm_r (nI_1 s) ?_
          rw [if_neg hc, Int.mul_zero, Int.add_zero] at hz'
          exact ih r z wn ww (s + 1) q (by omega) (by omega) (by omega) hst' hz'
      · have hv : ad_l (ad_lv p) x < n := hl.2.resolve_left h8
        obtain ⟨a, b, hab⟩ := ad_inner I.1 hx (by omega)
        have hS := ad_Sg_i I (fun z => if z = cc then 1 else 0) hab
        obtain ⟨_, ev, ea, eb, ha, hb, _, la, lb, hF⟩ := hab
        have hs1 := ad_c6_m _ (by omega : ad_l (ad_lv p) x < 5) _ la.2 la.1
        have hs2 := ad_c6_m _ (by omega : ad_l (ad_lv p) x < 5) _ lb.2 lb.1
        obtain ⟨g, rfl⟩ : ∃ g', g = g' + 1 := ⟨g - 1, by omega⟩
        rw [show p.2.2.1 x = nI (ad_l (ad_lv p) x) from ev]
        refine pk_eq (ad_l (ad_lv p) x) 8 (fun z => absurd z h8) (fun _ => ?_)
        refine ad_walkDown (p := p) (f := f) (k := k) (by omega) ex ew hg5 hx ea eb ha hb ?_
        dsimp only
        refine nm_r (nI_1 s) ?_
        refine ih ((b, g) :: (a, g) :: r) z _ _ (s + 1) q ?_ (by omega) (by omega) ?_ ?_
        · unfold ad_sw2
          unfold ad_sw2
          dsimp only
          omega
        · refine ⟨pk_us, pk_us, ⟨hb, by rw [List.length_cons]; dsimp only; omega, lb.2⟩, ?_, ?_, ?_⟩
          · dsimp only
            omega
          · dsimp only
            omega
          · refine ⟨?_, ?_, ⟨ha, by dsimp only; omega, la.2⟩, ?_, ?_, ?_⟩
            · rw [pk_un (by omega), pk_us]
            · rw [pk_un (by omega), pk_us]
            · dsimp only
              omega
            · dsimp only
              omega
            · exact ad_wk_u r (by omega) (ad_wk_u r (Nat.le_refl _) hst')
        · unfold ad_ws
          unfold ad_ws
          dsimp only
          rw [← ad_wsI hS, show (2 : Int) * ((2 ^ g : Nat) : Int) = ((2 ^ (g + 1) : Nat) : Int) from by rw [Nat.pow_succ]; omega]
          exact hz
theorem ad_total22 {post : Int64 → SX → Prop} (I : ad_I n c F p) (T : Int) (K : ∀ (z : Int) (wn ww : Nat → Int32), ((2 ^ n : Nat) : Int) * z = T → post (Int64.ofInt z) (ad_S vc md rl rb mk pl f k wn ww p)) :
    ∀ (e : Nat) (st : List (Nat × Nat)) (z : Int) (wn ww : Nat → Int32) (s q : Nat), ad_sw2 p st ≤ e → e + s ≤ 63 → e < q → ad_wk n p wn ww st → ((2 ^ n : Nat) : Int) * z + ad_ws (fun z => z.toInt) n F st = T →
      wX_total_22 post q (Int64.ofInt z) (nI st.length) (nI s) vc p.1 p.2.1 md rl rb p.2.2.1 p.2.2.2.1 p.2.2.2.2.1 p.2.2.2.2.2.1 p.2.2.2.2.2.2 mk pl f.1 f.2.1 f.2.2.1 f.2.2.2.1 f.2.2.2.2.1 f.2.2.2.2.2 k.1 k.2.1 k.2.2.1 k.2.2.2 wn ww := by
  have h5 := I.1.1
  intro e
  induction e with
  | zero =>
    intro st z wn ww s q he hs hq hst hz
    obtain ⟨q, rfl⟩ : ∃ q', q = q' + 1 := ⟨q - 1, by omega⟩
    cases st with
    | nil =>
      rw [wX_total_22]
      dsimp only
      have hp := K z wn ww (by unfold ad_ws at hz; omega)
      exact br_c (fun _ => hp) (fun _ => br_t (by decide) hp)
    | cons xe r =>
      exfalso
      have := ad_c6_1 (ad_l (ad_lv p) xe.1)
      unfold ad_sw2 at he
      omega
  | succ e ih =>
    intro st z wn ww s q he hs hq hst hz
    obtain ⟨q, rfl⟩ : ∃ q', q = q' + 1 := ⟨q - 1, by omega⟩
    cases st with
    | nil =>
      rw [wX_total_22]
      dsimp only
      have hp := K z wn ww (by unfold ad_ws at hz; omega)
      exact br_c (fun _ => hp) (fun _ => br_t (by decide) hp)
    | cons xe r =>
      obtain ⟨x, g⟩ := xe
      have h1 := ad_c6_1 (ad_l (ad_lv p) x)
      unfold ad_sw2 at he
      unfold ad_ws at hz
      dsimp only at he hz
      obtain ⟨ex, ew, ux, hg5, hgl, hst'⟩ := hst
      dsimp only at ex ew ux hg5 hgl
      have hx := ux.1
      have hxr := ux.2.1
      have hx9 := ux.2.2
      have hin : vp_in (nI r.length) 16 := vp_in_nI (by omega) (by decide)
      have hix : vp_in (nI x) 768 := vp_in_nI hx (by decide)
      have hl := ad_lev I.1 hx hx9
      have hg32 := ad_p5 hg5
      rw [wX_total_22]
      dsimp only
      refine pk_le 64 s (fun z => absurd z (by omega)) (fun _ => pk_le (r.length + 1) 0 (fun z => absurd z (by omega)) (fun _ => nm_r (pk_m1 r.length) ⟨hin, nm_r (e' := nI x) ?_ ⟨hix, ?_⟩⟩))
      · rw [nI_clamp (by omega)]
        exact ex
      rw [nI_clamp (by omega), nI_clamp (by omega)]
      by_cases h8 : ad_l (ad_lv p) x = 8
      · have hlf := ad_leaf I.1 hx h8
        rw [ad_Sg_l _ hlf.2.2] at hz
        have hz' := ad_wsL hz
        rw [ew]
        refine br_t hlf.1 ⟨hin, hix, nm_r (e' := Int64.ofInt (z + ((2 ^ g : Nat) : Int) * (ad_lo p x).toInt)) ?_ (nm_r (nI_1 s) ?_)⟩
        · rw [nI_l (by omega), Int64.ofInt_add, Int64.ofInt_mul, Int64.ofInt_eq_ofNat, Int64.ofInt_int32ToInt]
          rfl
        · exact ih r _ wn ww (s + 1) q (by omega) (by omega) (by omega) hst' hz'
      · have hv : ad_l (ad_lv p) x < n := hl.2.resolve_left h8
        obtain ⟨a, b, hab⟩ := ad_inner I.1 hx (by omega)
        have hS := ad_Sg_i I (fun z => z.toInt) hab
        obtain ⟨_, ev, ea, eb, ha, hb, _, la, lb, hF⟩ := hab
        have hs1 := ad_c6_m _ (by omega : ad_l (ad_lv p) x < 5) _ la.2 la.1
        have hs2 := ad_c6_m _ (by omega : ad_l (ad_lv p) x < 5) _ lb.2 lb.1
        obtain ⟨g, rfl⟩ : ∃ g', g = g' + 1 := ⟨g - 1, by omega⟩
        rw [show p.2.2.1 x = nI (ad_l (ad_lv p) x) from ev]
        refine pk_eq (ad_l (ad_lv p) x) 8 (fun z => absurd z h8) (fun _ => ?_)
        refine ad_walkDown (p := p) (f := f) (k := k) (by omega) ex ew hg5 hx ea eb ha hb ?_
        dsimp only
        refine nm_r (nI_1 s) ?_
        refine ih ((b, g) :: (a, g) :: r) z _ _ (s + 1) q ?_ (by omega) (by omega) ?_ ?_
        · unfold ad_sw2
          unfold ad_sw2
          dsimp only
          omega
        · refine ⟨pk_us, pk_us, ⟨hb, by rw [List.length_cons]; dsimp only; omega, lb.2⟩, ?_, ?_, ?_⟩
          · dsimp only
            omega
          · dsimp only
            omega
          · refine ⟨?_, ?_, ⟨ha, by dsimp only; omega, la.2⟩, ?_, ?_, ?_⟩
            · rw [pk_un (by omega), pk_us]
            · rw [pk_un (by omega), pk_us]
            · dsimp only
              omega
            · dsimp only
              omega
            · exact ad_wk_u r (by omega) (ad_wk_u r (Nat.le_refl _) hst')
        · unfold ad_ws
          unfold ad_ws
          dsimp only
          rw [← ad_wsI hS, show (2 : Int) * ((2 ^ g : Nat) : Int) = ((2 ^ (g + 1) : Nat) : Int) from by rw [Nat.pow_succ]; omega]
          exact hz
end
end
section
/-! checks; the component's calls on marks -/
theorem ad_pl (x : Int32) : (∃ d, d < 8 ∧ x = nI d) ∨ (x < 0 ∨ (¬ x < 0 ∧ nI 8 ≤ x)) := by
  by_cases h : x < 0
  · exact Or.inr (Or.inl h)
  · rcases pk_ix x (n := 8) (by decide) with h1 | h1 | h1
    · exact absurd h1 h
    · exact Or.inr (Or.inr ⟨h, h1⟩)
    · exact Or.inl h1
section
variable {Q : Int32 → Prop} {u : SX} {v : SY} {x : Int32} {d n : Nat}
theorem ad_xP1 (hd : d < 8) (h : Q 1) : wpX_isPlace Q u (nI d) := by
  obtain ⟨a1, a2, a3, a4, a5, a6, a7, a8, a9, a10, a11, a12, a13, a14, a15, a16, a17, a18, a19, a20, a21, a22, a23, a24, a25⟩ := u
  unfold wpX_isPlace
  exact br_f (nI_pos (by omega)) (pk_le 8 d (fun z => absurd z (by omega)) (fun _ => h))
theorem ad_xP0 (hx : ¬ ∃ d, d < 8 ∧ x = nI d) (h : Q 0) : wpX_isPlace Q u x := by
  obtain ⟨a1, a2, a3, a4, a5, a6, a7, a8, a9, a10, a11, a12, a13, a14, a15, a16, a17, a18, a19, a20, a21, a22, a23, a24, a25⟩ := u
  unfold wpX_isPlace
  rcases ad_pl x with z | z | ⟨z, z'⟩
  · exact absurd z hx
  · exact br_t z h
  · exact br_f z (br_t z' h)
theorem ad_yP1 (hd : d < 8) (h : Q 1) : wpY_isPlace Q v (nI d) := by
  obtain ⟨a1, a2, a3, a4⟩ := v
  unfold wpY_isPlace
  exact br_f (nI_pos (by omega)) (pk_lt 7 d (fun z => absurd z (by omega)) (fun _ => h))
theorem ad_yP0 (hx : ¬ ∃ d, d < 8 ∧ x = nI d) (h : Q 0) : wpY_isPlace Q v x := by
  obtain ⟨a1, a2, a3, a4⟩ := v
  unfold wpY_isPlace
  rcases ad_pl x with z | z | ⟨z, z'⟩
  · exact absurd z hx
  · exact br_t z h
  · obtain ⟨j, hj, rfl⟩ := nI_of z
    rw [nI_leI (by decide) hj] at z'
    exact br_f z (pk_lt 7 j (fun _ => h) (fun y => absurd y (by omega)))
theorem ad_xV1 (hu : u.1 = nI n) (hn : n ≤ 5) (hd : d < n) (h : Q 1) : wpX_isVariable Q u (nI d) := by
  obtain ⟨a1, a2, a3, a4, a5, a6, a7, a8, a9, a10, a11, a12, a13, a14, a15, a16, a17, a18, a19, a20, a21, a22, a23, a24, a25⟩ := u
  have e : a1 = nI n := hu
  subst e
  unfold wpX_isVariable
  exact br_f (nI_pos (by omega)) (pk_le n d (fun z => absurd z (by omega)) (fun _ => h))
theorem ad_vn {hn : n ≤ 5} (hx : ¬ ∃ d, d < n ∧ x = nI d) : x < 0 ∨ (¬ x < 0 ∧ nI n ≤ x) := by
  by_cases h : x < 0
  · exact Or.inl h
  · rcases pk_ix x (n := n) (by omega) with h1 | h1 | h1
    · exact absurd h1 h
    · exact Or.inr ⟨h, h1⟩
    · exact absurd h1 hx
theorem ad_xV0 (hu : u.1 = nI n) (hn : n ≤ 5) (hx : ¬ ∃ d, d < n ∧ x = nI d) (h : Q 0) : wpX_isVariable Q u x := by
  obtain ⟨a1, a2, a3, a4, a5, a6, a7, a8, a9, a10, a11, a12, a13, a14, a15, a16, a17, a18, a19, a20, a21, a22, a23, a24, a25⟩ := u
  have e : a1 = nI n := hu
  subst e
  unfold wpX_isVariable
  rcases ad_vn (hn := hn) hx with z | ⟨z, z'⟩
  · exact br_t z h
  · exact br_f z (br_t z' h)
theorem ad_yV1 {b : Int32} {val res : Nat → Int32} (hn : n ≤ 5) (hd : d < n) (h : Q 1) : wpY_isVariable Q (nI n, b, val, res) (nI d) := by
  unfold wpY_isVariable
  exact br_f (nI_pos (by omega)) (pk_le n d (fun z => absurd z (by omega)) (fun _ => h))
theorem ad_yV0 {b : Int32} {val res : Nat → Int32} (hn : n ≤ 5) (hx : ¬ ∃ d, d < n ∧ x = nI d) (h : Q 0) : wpY_isVariable Q (nI n, b, val, res) x := by
  unfold wpY_isVariable
  rcases ad_vn (hn := hn) hx with z | ⟨z, z'⟩
  · exact br_t z h
  · exact br_f z (br_t z' h)
theorem ad_xO1 (hd : d < 7) (h : Q 1) : wpX_isOperation Q u (nI d) := by
  obtain ⟨a1, a2, a3, a4, a5, a6, a7, a8, a9, a10, a11, a12, a13, a14, a15, a16, a17, a18, a19, a20, a21, a22, a23, a24, a25⟩ := u
  unfold wpX_isOperation
  exact br_f (nI_pos (by omega)) (pk_lt 6 d (fun z => absurd z (by omega)) (fun _ => h))
theorem ad_op0 (hx : ¬ ∃ d, d < 7 ∧ x = nI d) : x < 0 ∨ (¬ x < 0 ∧ 6 < x) := by
  by_cases h : x < 0
  · exact Or.inl h
  · obtain ⟨j, hj, rfl⟩ := nI_of h
    refine Or.inr ⟨h, nI_lt (a := 6) ?_ hj⟩
    by_cases h7 : j < 7
    · exact absurd ⟨j, h7, rfl⟩ hx
    · omega
theorem ad_xO0 (hx : ¬ ∃ d, d < 7 ∧ x = nI d) (h : Q 0) : wpX_isOperation Q u x := by
  obtain ⟨a1, a2, a3, a4, a5, a6, a7, a8, a9, a10, a11, a12, a13, a14, a15, a16, a17, a18, a19, a20, a21, a22, a23, a24, a25⟩ := u
  unfold wpX_isOperation
  rcases ad_op0 hx with z | ⟨z, z'⟩
  · exact br_t z h
  · exact br_f z (br_t z' h)
end
section
variable {post : Int32 → SX → Prop} {vc md rl rb : Int32} {mk : Nat → Int64} {pl : Nat → Int32} {f : ad_Fr} {k : ad_Ca} {wn ww : Nat → Int32} {p : ad_P} {n c : Nat} {F : Nat → (Nat → Bool) → Int32}
/-- marks that are just the parts of one node -/
def ad_MP (n : Nat) (F : Nat → (Nat → Bool) → Int32) (p : ad_P) (R : Nat → Prop) (mk : Nat → Int64) : Prop := ad_Cl n F p mk [] ∧ ∀ y, y < 768 → ad_m mk y = true → R y
theorem ad_xparts {d x : Nat} (I : ad_I n c F p) (hd : d < 8) (ex : pl d = nI x) (ux : ad_U p 0 x)
    (K : ∀ (mk' : Nat → Int64) (wn' : Nat → Int32), ad_MP n F p (ad_Pt n F p x) mk' → ad_m mk' x = true → post (nI (ad_cnt (ad_m mk') 768)) (ad_S vc md rl rb mk' pl f k wn' ww p)) :
    wpX_parts post (ad_S vc md rl rb mk pl f k wn ww p) (nI d) := by
  unfold wpX_parts
  dsimp only
  refine ad_xP1 hd (br_f (by decide) ?_)
  refine ad_clearMarks (p := p) (f := f) (k := k) ?_
  intro mk1 hmk1
  dsimp only
  rw [nI_clamp (by omega), ex]
  refine ⟨vp_in_nI hd (by decide), ?_⟩
  refine ad_markFrom (p := p) (f := f) (k := k) I (ad_Pt n F p x) (fun _ h => h.1) (fun y v a b h hab => ad_Pt_c I h hab) (ad_Pt_r ux) ?_ ?_
  · intro y hy hm
    rw [hmk1 y hy] at hm
    exact nomatch hm
  · intro mk2 wn2 hCl _ hup hroot _
    dsimp only
    refine ad_markCount (p := p) (f := f) (k := k) ?_
    refine K mk2 wn2 ⟨hCl, fun y hy hm => (hup y hm).resolve_left (fun z => ?_)⟩ hroot
    rw [hmk1 y hy] at z
    exact nomatch z
theorem ad_sup28 {mk : Nat → Int64} (I : ad_I n c F p) (hCl : ad_Cl n F p mk []) (K : ∀ m : Nat, (∀ b, m.testBit b = true ↔ ∃ x, x < 768 ∧ ad_m mk x = true ∧ ad_l (ad_lv p) x = b ∧ b < 8) → post (nI m) (ad_S vc md rl rb mk pl f k wn ww p)) :
    ∀ (d i m : Nat), i + d = 768 → (∀ b, m.testBit b = true ↔ ∃ x, x < i ∧ ad_m mk x = true ∧ ad_l (ad_lv p) x = b ∧ b < 8) →
      wX_support_28 post vc p.1 p.2.1 md rl rb p.2.2.1 p.2.2.2.1 p.2.2.2.2.1 p.2.2.2.2.2.1 p.2.2.2.2.2.2 mk pl f.1 f.2.1 f.2.2.1 f.2.2.2.1 f.2.2.2.2.1 f.2.2.2.2.2 k.1 k.2.1 k.2.2.1 k.2.2.2 wn ww (d + 1) (nI m) (nI i) := by
  have h5 := I.1.1
  intro d
  induction d with
  | zero =>
    intro i m hi hm
    have e : i = 768 := by omega
    subst e
    rw [wX_support_28]
    dsimp only
    exact br_t (by decide) (K m hm)
  | succ d ih =>
    intro i m hi hm
    have hii : vp_in (nI i) 768 := vp_in_nI (by omega) (by decide)
    rw [wX_support_28]
    dsimp only
    refine pk_le 768 i (fun z => absurd z (by omega)) (fun _ => ad_isMarked (p := p) (f := f) (k := k) (by omega) ?_)
    rw [nI_clamp (by omega)]
    have skip : (ad_m mk i = true → ad_l (ad_lv p) i = 8) → ∀ b, m.testBit b = true ↔ ∃ x, x < i + 1 ∧ ad_m mk x = true ∧ ad_l (ad_lv p) x = b ∧ b < 8 := by
      intro hsk b
      rw [hm b]
      constructor
      · rintro ⟨x, hx, h⟩
        exact ⟨x, by omega, h⟩
      · rintro ⟨x, hx, h1, h2, h3⟩
        refine ⟨x, ?_, h1, h2, h3⟩
        by_cases e : x = i
        · subst e
          have := hsk h1
          omega
        · omega
    refine ad_bi0 (ad_m mk i) (fun z => nm_r (nI_1 i) ?_) (fun z => ⟨hii, ?_⟩)
    · exact ih (i + 1) m (by omega) (skip (fun h => by rw [z] at h; exact nomatch h))
    · have ui := (hCl i (by omega) z).1
      have hl := ad_lev I.1 ui.1 ui.2.2
      refine br_c (fun h8 => nm_r (nI_1 i) (ih (i + 1) m (by omega) (skip (fun _ => ad_l_8 h8)))) (fun h8 => ⟨hii, ?_⟩)
      have h8' : ¬ ad_l (ad_lv p) i = 8 := by
        intro e
        apply h8
        have := hl.1
        rw [e] at this
        exact this
      have hlt := hl.2.resolve_left h8'
      rw [show p.2.2.1 i = nI (ad_l (ad_lv p) i) from hl.1, ad_sl1 (by omega)]
      refine nm_r (ad_or _ _) (nm_r (nI_1 i) (ih (i + 1) _ (by omega) ?_))
      intro b
      rw [Nat.testBit_or, Nat.testBit_two_pow, Bool.or_eq_true_iff, hm b, decide_eq_true_iff]
      constructor
      · rintro (⟨x, hx, h⟩ | h)
        · exact ⟨x, by omega, h⟩
        · exact ⟨i, by omega, z, h, by omega⟩
      · rintro ⟨x, hx, h1, h2, h3⟩
        by_cases e : x = i
        · subst e
          exact Or.inr h2
        · exact Or.inl ⟨x, by omega, h1, h2, h3⟩
theorem ad_xsupport {d x : Nat} (I : ad_I n c F p) (hd : d < 8) (ex : pl d = nI x) (ux : ad_U p 0 x)
    (K : ∀ (mk' : Nat → Int64) (wn' : Nat → Int32) (m : Nat), ad_MP n F p (ad_Pt n F p x) mk' → ad_m mk' x = true → (∀ b, m.testBit b = true ↔ ∃ x, x < 768 ∧ ad_m mk' x = true ∧ ad_l (ad_lv p) x = b ∧ b < 8) → post (nI m) (ad_S vc md rl rb mk' pl f k wn' ww p)) :
    wpX_support post (ad_S vc md rl rb mk pl f k wn ww p) (nI d) := by
  unfold wpX_support
  dsimp only
  refine ad_xP1 hd (br_f (by decide) ?_)
  refine ad_clearMarks (p := p) (f := f) (k := k) ?_
  intro mk1 hmk1
  dsimp only
  rw [nI_clamp (by omega), ex]
  refine ⟨vp_in_nI hd (by decide), ?_⟩
  refine ad_markFrom (p := p) (f := f) (k := k) I (ad_Pt n F p x) (fun _ h => h.1) (fun y v a b h hab => ad_Pt_c I h hab) (ad_Pt_r ux) ?_ ?_
  · intro y hy hm
    rw [hmk1 y hy] at hm
    exact nomatch hm
  · intro mk2 wn2 hCl _ hup hroot _
    dsimp only
    refine ⟨769, ad_sup28 (p := p) (f := f) (k := k) I hCl ?_ 768 0 0 rfl ?_⟩
    · intro m hm
      refine K mk2 wn2 m ⟨hCl, fun y hy hm => (hup y hm).resolve_left (fun z => ?_)⟩ hroot hm
      rw [hmk1 y hy] at z
      exact nomatch z
    · intro b
      rw [Nat.zero_testBit]
      constructor
      · intro h
        exact nomatch h
      · rintro ⟨x, hx, _⟩
        omega
theorem ad_all6 (I : ad_I n c F p) (X : Nat → Nat) (hX : ∀ d, d < 8 → pl d = nI (X d) ∧ ad_U p 0 (X d))
    (K : ∀ (mk' : Nat → Int64) (wn' : Nat → Int32), ad_MP n F p (fun y => ∃ d, d < 8 ∧ ad_Pt n F p (X d) y) mk' → (∀ d, d < 8 → ad_m mk' (X d) = true) → post (nI (ad_cnt (ad_m mk') 768)) (ad_S vc md rl rb mk' pl f k wn' ww p)) :
    ∀ (d i : Nat) (mk : Nat → Int64) (wn : Nat → Int32), i + d = 8 → ad_MP n F p (fun y => ∃ d, d < 8 ∧ ad_Pt n F p (X d) y) mk → (∀ j, j < i → ad_m mk (X j) = true) →
      wX_allParts_6 post (d + 1) (nI i) vc p.1 p.2.1 md rl rb p.2.2.1 p.2.2.2.1 p.2.2.2.2.1 p.2.2.2.2.2.1 p.2.2.2.2.2.2 mk pl f.1 f.2.1 f.2.2.1 f.2.2.2.1 f.2.2.2.2.1 f.2.2.2.2.2 k.1 k.2.1 k.2.2.1 k.2.2.2 wn ww := by
  intro d
  induction d with
  | zero =>
    intro i mk wn hi hM hm
    have e : i = 8 := by omega
    subst e
    rw [wX_allParts_6]
    dsimp only
    refine br_t (by decide) (ad_markCount (p := p) (f := f) (k := k) (K mk wn hM hm))
  | succ d ih =>
    intro i mk wn hi hM hm
    obtain ⟨ex, ux⟩ := hX i (by omega)
    rw [wX_allParts_6]
    dsimp only
    rw [nI_clamp (by omega), ex]
    refine pk_le 8 i (fun h => absurd h (by omega)) (fun _ => ⟨vp_in_nI (by omega) (by decide), ?_⟩)
    refine ad_markFrom (p := p) (f := f) (k := k) I (ad_Pt n F p (X i)) (fun _ h => h.1) (fun y v a b h hab => ad_Pt_c I h hab) (ad_Pt_r ux) hM.1 ?_
    intro mk' wn' hCl' hmono hup hroot _
    dsimp only
    refine nm_r (nI_1 i) ?_
    refine ih (i + 1) mk' wn' (by omega) ⟨hCl', fun y hy h => ?_⟩ ?_
    · rcases hup y h with h | h
      · exact hM.2 y hy h
      · exact ⟨i, by omega, h⟩
    · intro j hj
      by_cases e : j = i
      · subst e
        exact hroot
      · exact hmono _ (hm j (by omega))
theorem ad_xall (I : ad_I n c F p) (X : Nat → Nat) (hX : ∀ d, d < 8 → pl d = nI (X d) ∧ ad_U p 0 (X d))
    (K : ∀ (mk' : Nat → Int64) (wn' : Nat → Int32), ad_MP n F p (fun y => ∃ d, d < 8 ∧ ad_Pt n F p (X d) y) mk' → (∀ d, d < 8 → ad_m mk' (X d) = true) → post (nI (ad_cnt (ad_m mk') 768)) (ad_S vc md rl rb mk' pl f k wn' ww p)) :
    wpX_allParts post (ad_S vc md rl rb mk pl f k wn ww p) := by
  unfold wpX_allParts
  dsimp only
  refine ad_clearMarks (p := p) (f := f) (k := k) ?_
  intro mk1 hmk1
  dsimp only
  refine ⟨9, ad_all6 (p := p) (f := f) (k := k) I X hX K 8 0 mk1 wn rfl ⟨?_, ?_⟩ (fun j hj => absurd hj (by omega))⟩
  · intro y hy hm
    rw [hmk1 y hy] at hm
    exact nomatch hm
  · intro y hy hm
    rw [hmk1 y hy] at hm
    exact nomatch hm
theorem ad_xcountOf {d x : Nat} (I : ad_I n c F p) (hvc : vc = nI n) (hd : d < 8) (ex : pl d = nI x) (ux : ad_U p 0 x) (cc : Int32)
    (K : ∀ (wn' ww' : Nat → Int32), post (Int32.ofInt (ad_Sg (fun z => if z = cc then 1 else 0) n F x)) (ad_S vc md rl rb mk pl f k wn' ww' p)) :
    wpX_countOf post (ad_S vc md rl rb mk pl f k wn ww p) (nI d) cc := by
  have h5 := I.1.1
  have hx := ux.1
  unfold wpX_countOf
  dsimp only
  refine ad_xP1 hd (br_f (by decide) ?_)
  unfold wpX_startWalk
  dsimp only
  rw [nI_clamp (by omega), ex, hvc, ad_sl1 (by omega), ad_vs (by omega), ad_vb2 (by have := ad_p5 h5; omega)]
  refine ⟨vp_in_nI hd (by decide), nm_e (nm_e ⟨64, ?_⟩)⟩
  have hp : (0 : Int) < ((2 ^ n : Nat) : Int) := Int.natCast_pos.mpr (Nat.two_pow_pos n)
  refine ad_countOf22 (p := p) (f := f) (k := k) I cc (((2 ^ n : Nat) : Int) * ad_Sg (fun z => if z = cc then 1 else 0) n F x) ?_ 63 [(x, n)] 0 _ _ 0 64 ?_ (by omega) (by omega) ⟨pk_us, pk_us, ux, h5, by dsimp only; omega, trivial⟩ ?_
  · intro z wn' ww' hz
    have := Int.eq_of_mul_eq_mul_left (by omega) hz
    rw [this, ← hvc]
    exact K wn' ww'
  · unfold ad_sw2
    unfold ad_sw2
    exact ad_c6_63 _
  · unfold ad_ws
    unfold ad_ws
    rw [Int.mul_zero]
    dsimp only
    omega
theorem ad_xtotal {post : Int64 → SX → Prop} {d x : Nat} (I : ad_I n c F p) (hvc : vc = nI n) (hd : d < 8) (ex : pl d = nI x) (ux : ad_U p 0 x)
    (K : ∀ (wn' ww' : Nat → Int32), post (Int64.ofInt (ad_Sg (fun z => z.toInt) n F x)) (ad_S vc md rl rb mk pl f k wn' ww' p)) :
    wpX_total post (ad_S vc md rl rb mk pl f k wn ww p) (nI d) := by
  have h5 := I.1.1
  have hx := ux.1
  unfold wpX_total
  dsimp only
  refine ad_xP1 hd (br_f (by decide) ?_)
  unfold wpX_startWalk
  dsimp only
  rw [nI_clamp (by omega), ex, hvc, ad_sl1 (by omega), ad_vs (by omega), ad_vb2 (by have := ad_p5 h5; omega)]
  refine ⟨vp_in_nI hd (by decide), nm_e (nm_e ⟨64, ?_⟩)⟩
  have hp : (0 : Int) < ((2 ^ n : Nat) : Int) := Int.natCast_pos.mpr (Nat.two_pow_pos n)
  refine ad_total22 (p := p) (f := f) (k := k) I (((2 ^ n : Nat) : Int) * ad_Sg (fun z => z.toInt) n F x) ?_ 63 [(x, n)] 0 _ _ 0 64 ?_ (by omega) (by omega) ⟨pk_us, pk_us, ux, h5, by dsimp only; omega, trivial⟩ ?_
  · intro z wn' ww' hz
    have := Int.eq_of_mul_eq_mul_left (by omega) hz
    rw [this, ← hvc]
    exact K wn' ww'
  · unfold ad_sw2
    unfold ad_sw2
    exact ad_c6_63 _
  · unfold ad_ws
    unfold ad_ws
    rw [Int.mul_zero]
    dsimp only
    omega
theorem ad_xvalueAt {Q : Int32 → Prop} {d x j : Nat} (I : ad_I n c F p) (hvc : vc = nI n) (hd : d < 8) (ex : pl d = nI x) (ux : ad_U p 0 x) (hj : j < 2 ^ n) (h : Q (F x (ad_bt j))) :
    wpX_valueAt Q (ad_S vc md rl rb mk pl f k wn ww p) (nI d) (nI j) := by
  have h5 := I.1.1
  have hp5 := ad_p5 h5
  unfold wpX_valueAt
  dsimp only
  refine ad_xP1 hd (br_f (by decide) (br_f (nI_pos (by omega)) ?_))
  rw [hvc, ad_sl1 (by omega), nI_clamp (by omega), ex]
  refine pk_lt j (2 ^ n) (fun _ => ⟨vp_in_nI hd (by decide), nm_e ⟨10, ?_⟩⟩) (fun z => absurd z (by omega))
  exact ad_va34 (p := p) (f := f) (k := k) I hj 9 x 0 10 ux (by omega) (by omega) h
end
end
section
/-! the reference's writing methods (printed by gen15.py) -/
theorem ad_ix (a j : Nat) : ((32 : Int32) * nI a) + nI j = nI (32 * a + j) := by rw [show (32 : Int32) = nI 32 from rfl, pk_mul, nI_add]
/-- bit v of j set to b -/
def ad_sb (j v : Nat) (b : Bool) : Nat := if j.testBit v = b then j else j ^^^ 2 ^ v
theorem ad_sb_bt (j v : Nat) (b : Bool) : ad_bt (ad_sb j v b) = ad_up (ad_bt j) v b := by
  unfold ad_sb
  split
  · rename_i h
    rw [← h]
    exact (ad_up_id (ad_bt j) v).symm
  · rename_i h
    rw [ad_bx]
    have e : (!(ad_bt j v)) = b := by
      unfold ad_bt
      cases h1 : j.testBit v <;> cases b <;> simp_all
    rw [e]
theorem ad_sb_lt {n j v : Nat} (b : Bool) (hj : j < 2 ^ n) (hv : v < n) : ad_sb j v b < 2 ^ n := by
  unfold ad_sb
  split
  · exact hj
  · exact Nat.xor_lt_two_pow hj (Nat.pow_lt_pow_right (by decide) hv)
theorem ad_sb_1 : ∀ j, j < 32 → ∀ v, v < 5 → nI j ||| ((1 : Int32) <<< (nI v &&& 31)) = nI (ad_sb j v true) := by decide +kernel
theorem ad_sb_0 : ∀ j, j < 32 → ∀ v, v < 5 → nI j &&& (((1 : Int32) <<< (nI v &&& 31)) ^^^ (-1)) = nI (ad_sb j v false) := by decide +kernel
theorem ad_with {Q : Int32 → Prop} {u : SY} {j v : Nat} {b : Bool} (hj : j < 32) (hv : v < 5) (h : Q (nI (ad_sb j v b))) : wpY_with Q u (nI j) (nI v) (ad_bi b) := by
  obtain ⟨a1, a2, a3, a4⟩ := u
  unfold wpY_with
  cases b
  · refine br_f (by decide) ?_
    rw [ad_sb_0 j hj v hv]
    exact h
  · refine br_t rfl ?_
    rw [ad_sb_1 j hj v hv]
    exact h
theorem ad_yop {Q : Int32 → Prop} {u : SY} {m : Nat} (hm : m < 7) (x y : Int32) (h : Q (ad_op m x y)) : wpY_op Q u (nI m) x y := by
  obtain ⟨a1, a2, a3, a4⟩ := u
  unfold wpY_op
  unfold ad_op at h
  refine pk_eq m 0 (fun e => by rw [if_pos e] at h; exact h) (fun e0 => pk_eq m 1 (fun e => ?_) (fun e1 => pk_eq m 2 (fun e => ?_) (fun e2 => pk_eq m 3 (fun e => ?_) (fun e3 => pk_eq m 4 (fun e => ?_) (fun e4 => pk_eq m 5 (fun e => ?_) (fun e5 => ?_))))))
  · rw [if_neg e0, if_pos e] at h
    exact h
  · rw [if_neg e0, if_neg e1, if_pos e] at h
    exact h
  · rw [if_neg e0, if_neg e1, if_neg e2, if_pos e] at h
    exact br_c (fun c => by rw [if_pos c] at h; exact h) (fun c => by rw [if_neg c] at h; exact h)
  · rw [if_neg e0, if_neg e1, if_neg e2, if_neg e3, if_pos e] at h
    exact br_c (fun c => by rw [if_pos c] at h; exact h) (fun c => by rw [if_neg c] at h; exact h)
  · rw [if_neg e0, if_neg e1, if_neg e2, if_neg e3, if_neg e4, if_pos e] at h
    exact br_c (fun c => by rw [if_pos c] at h; exact h) (fun c => by rw [if_neg c] at h; exact h)
  · rw [if_neg e0, if_neg e1, if_neg e2, if_neg e3, if_neg e4, if_neg e5] at h
    exact br_c (fun c => by rw [if_pos c] at h; exact h) (fun c => by rw [if_neg c] at h; exact h)
/-- place d holds g now, the others what they held -/
def ad_wr (n d : Nat) (val val' : Nat → Int32) (g : Nat → Int32) : Prop := (∀ j, j < 2 ^ n → val' (32 * d + j) = g j) ∧ ∀ d' j, d' ≠ d → j < 2 ^ n → val' (32 * d' + j) = val (32 * d' + j)
section
variable {post : Int32 → SY → Prop} {n d : Nat} {val0 : Nat → Int32}
theorem ad_keep2 {res : Nat → Int32} (h5 : n ≤ 5) (hd : d < 8) (K : ∀ val', ad_wr n d val0 val' res → post 1 (nI n, nI (2 ^ n), val', res)) :
    ∀ (e i : Nat) (val : Nat → Int32), i + e = 2 ^ n → (∀ j, j < i → val (32 * d + j) = res j) → (∀ d' j, d' ≠ d → j < 2 ^ n → val (32 * d' + j) = val0 (32 * d' + j)) → wY_keep_2 post (nI d) (nI n) (nI (2 ^ n)) (e + 1) (nI i) val res := by
  have hp5 := ad_p5 h5
  intro e
  induction e with
  | zero =>
    intro i val hi h1 h2
    rw [wY_keep_2]
    dsimp only
    refine pk_le (2 ^ n) i (fun _ => ?_) (fun z => absurd z (by omega))
    exact K val ⟨fun j hj => h1 j (by omega), h2⟩
  | succ e ih =>
    intro i val hi h1 h2
    rw [wY_keep_2]
    dsimp only
    rw [ad_ix, nI_clamp (by omega), nI_clamp (by omega)]
    refine pk_le (2 ^ n) i (fun z => absurd z (by omega)) (fun _ => ⟨vp_in_nI (by omega) (by decide), vp_in_nI (by omega) (by decide), nm_e (nm_r (nI_1 i) ?_)⟩)
    refine ih (i + 1) _ (by omega) (fun j hj => ?_) (fun d' j hd' hj => ?_)
    · by_cases e : j = i
      · rw [e, pk_us]
      · rw [pk_un (by omega)]
        exact h1 j (by omega)
    · rw [pk_un (by omega)]
      exact h2 d' j hd' hj
theorem ad_keep {res : Nat → Int32} (h5 : n ≤ 5) (hd : d < 8) (K : ∀ val', ad_wr n d val0 val' res → post 1 (nI n, nI (2 ^ n), val', res)) : wpY_keep post (nI n, nI (2 ^ n), val0, res) (nI d) := by
  unfold wpY_keep
  dsimp only
  exact ⟨2 ^ n + 1, ad_keep2 h5 hd K (2 ^ n) 0 val0 (by omega) (fun j hj => absurd hj (by omega)) (fun _ _ _ _ => rfl)⟩
theorem ad_yconstantL {c : Int32} (h5 : n ≤ 5) (hd : d < 8) (K : ∀ val' res', ad_wr n d val0 val' (fun j => (c)) → post 1 (nI n, nI (2 ^ n), val', res')) :
    ∀ (e i : Nat) (res : Nat → Int32), i + e = 2 ^ n → (∀ j, j < i → res j = (c)) → wY_constant_12 post (nI d) c (nI n) (nI (2 ^ n)) (e + 1) (nI i) val0 res := by
  have hp5 := ad_p5 h5
  intro e
  induction e with
  | zero =>
    intro i res hi hr
    rw [wY_constant_12]
    dsimp only
    refine pk_le (2 ^ n) i (fun _ => ?_) (fun z => absurd z (by omega))
    refine ad_keep h5 hd ?_
    intro val' hw
    dsimp only
    exact ⟨narrow_b1, K val' res ⟨fun j hj => by rw [hw.1 j hj, hr j (by omega)], hw.2⟩⟩
  | succ e ih =>
    intro i res hi hr
    have hii : vp_in (nI i) 32 := vp_in_nI (by omega) (by decide)
    have nxt : ∀ z : Int32, z = (c) → wY_constant_12 post (nI d) c (nI n) (nI (2 ^ n)) (e + 1) (nI (i + 1)) val0 (upd res i z) := by
      intro z hz
      refine ih (i + 1) _ (by omega) (fun j hj => ?_)
      by_cases e : j = i
      · rw [e, pk_us, hz]
      · rw [pk_un e]
        exact hr j (by omega)
    rw [wY_constant_12]
    dsimp only
    refine pk_le (2 ^ n) i (fun z => absurd z (by omega)) (fun _ => ?_)
    rw [nI_clamp (by omega)]
    exact ⟨hii, nm_e (nm_r (nI_1 i) (nxt _ rfl))⟩
theorem ad_yconstant {c : Int32} {res : Nat → Int32} (h5 : n ≤ 5) (hd : d < 8) (K : ∀ val' res', ad_wr n d val0 val' (fun j => (c)) → post 1 (nI n, nI (2 ^ n), val', res')) : wpY_constant post (nI n, nI (2 ^ n), val0, res) (nI d) c := by
  unfold wpY_constant
  dsimp only
  exact ad_yP1 hd (br_f (by decide) ⟨2 ^ n + 1, ad_yconstantL h5 hd K (2 ^ n) 0 res (by omega) (fun j hj => absurd hj (by omega))⟩)
theorem ad_yliteralL {v : Nat} (h5 : n ≤ 5) (hd : d < 8) (hv : v < n) (K : ∀ val' res', ad_wr n d val0 val' (fun j => (ad_bi (ad_bt j v))) → post 1 (nI n, nI (2 ^ n), val', res')) :
    ∀ (e i : Nat) (res : Nat → Int32), i + e = 2 ^ n → (∀ j, j < i → res j = (ad_bi (ad_bt j v))) → wY_literal_20 post (nI d) (nI v) (nI n) (nI (2 ^ n)) (e + 1) (nI i) val0 res := by
  have hp5 := ad_p5 h5
  intro e
  induction e with
  | zero =>
    intro i res hi hr
    rw [wY_literal_20]
    dsimp only
    refine pk_le (2 ^ n) i (fun _ => ?_) (fun z => absurd z (by omega))
    refine ad_keep h5 hd ?_
    intro val' hw
    dsimp only
    exact ⟨narrow_b1, K val' res ⟨fun j hj => by rw [hw.1 j hj, hr j (by omega)], hw.2⟩⟩
  | succ e ih =>
    intro i res hi hr
    have hii : vp_in (nI i) 32 := vp_in_nI (by omega) (by decide)
    have nxt : ∀ z : Int32, z = (ad_bi (ad_bt i v)) → wY_literal_20 post (nI d) (nI v) (nI n) (nI (2 ^ n)) (e + 1) (nI (i + 1)) val0 (upd res i z) := by
      intro z hz
      refine ih (i + 1) _ (by omega) (fun j hj => ?_)
      by_cases e : j = i
      · rw [e, pk_us, hz]
      · rw [pk_un e]
        exact hr j (by omega)
    rw [wY_literal_20]
    dsimp only
    refine pk_le (2 ^ n) i (fun z => absurd z (by omega)) (fun _ => ?_)
    unfold wpY_bit
    dsimp only
    rw [nI_clamp (by omega), ad_bit (by omega) (by omega)]
    exact ⟨hii, nm_e (nm_r (nI_1 i) (nxt _ rfl))⟩
theorem ad_yliteral {v : Nat} {res : Nat → Int32} (h5 : n ≤ 5) (hd : d < 8) (hv : v < n) (K : ∀ val' res', ad_wr n d val0 val' (fun j => (ad_bi (ad_bt j v))) → post 1 (nI n, nI (2 ^ n), val', res')) : wpY_literal post (nI n, nI (2 ^ n), val0, res) (nI d) (nI v) := by
  unfold wpY_literal
  dsimp only
  exact ad_yP1 hd (br_f (by decide) (ad_yV1 h5 hv (br_f (by decide) ⟨2 ^ n + 1, ad_yliteralL h5 hd hv K (2 ^ n) 0 res (by omega) (fun j hj => absurd hj (by omega))⟩)))
theorem ad_yapplyL {m a b : Nat} (h5 : n ≤ 5) (hd : d < 8) (hm : m < 7) (ha : a < 8) (hb : b < 8) (K : ∀ val' res', ad_wr n d val0 val' (fun j => (ad_op m (val0 (32 * a + j)) (val0 (32 * b + j)))) → post 1 (nI n, nI (2 ^ n), val', res')) :
    ∀ (e i : Nat) (res : Nat → Int32), i + e = 2 ^ n → (∀ j, j < i → res j = (ad_op m (val0 (32 * a + j)) (val0 (32 * b + j)))) → wY_apply_40 post (nI d) (nI m) (nI a) (nI b) (nI n) (nI (2 ^ n)) (e + 1) (nI i) val0 res := by
  have hp5 := ad_p5 h5
  intro e
  induction e with
  | zero =>
    intro i res hi hr
    rw [wY_apply_40]
    dsimp only
    refine pk_le (2 ^ n) i (fun _ => ?_) (fun z => absurd z (by omega))
    refine ad_keep h5 hd ?_
    intro val' hw
    dsimp only
    exact ⟨narrow_b1, K val' res ⟨fun j hj => by rw [hw.1 j hj, hr j (by omega)], hw.2⟩⟩
  | succ e ih =>
    intro i res hi hr
    have hii : vp_in (nI i) 32 := vp_in_nI (by omega) (by decide)
    have nxt : ∀ z : Int32, z = (ad_op m (val0 (32 * a + i)) (val0 (32 * b + i))) → wY_apply_40 post (nI d) (nI m) (nI a) (nI b) (nI n) (nI (2 ^ n)) (e + 1) (nI (i + 1)) val0 (upd res i z) := by
      intro z hz
      refine ih (i + 1) _ (by omega) (fun j hj => ?_)
      by_cases e : j = i
      · rw [e, pk_us, hz]
      · rw [pk_un e]
        exact hr j (by omega)
    rw [wY_apply_40]
    dsimp only
    refine pk_le (2 ^ n) i (fun z => absurd z (by omega)) (fun _ => ?_)
    rw [ad_ix a i, ad_ix b i, nI_clamp (show 32 * a + i < 2 ^ 31 by omega), nI_clamp (show 32 * b + i < 2 ^ 31 by omega), nI_clamp (show i < 2 ^ 31 by omega)]
    refine ⟨vp_in_nI (by omega) (by decide), vp_in_nI (by omega) (by decide), ad_yop hm _ _ ?_⟩
    exact ⟨hii, nm_e (nm_r (nI_1 i) (nxt _ rfl))⟩
theorem ad_yapply {m a b : Nat} {res : Nat → Int32} (h5 : n ≤ 5) (hd : d < 8) (hm : m < 7) (ha : a < 8) (hb : b < 8) (K : ∀ val' res', ad_wr n d val0 val' (fun j => (ad_op m (val0 (32 * a + j)) (val0 (32 * b + j)))) → post 1 (nI n, nI (2 ^ n), val', res')) : wpY_apply post (nI n, nI (2 ^ n), val0, res) (nI d) (nI m) (nI a) (nI b) := by
  unfold wpY_apply
  dsimp only
  exact ad_yP1 hd (br_f (by decide) (ad_yP1 ha (br_f (by decide) (ad_yP1 hb (br_f (by decide) (br_f (nI_pos (by omega)) (pk_le m 6 (fun _ => ⟨2 ^ n + 1, ad_yapplyL h5 hd hm ha hb K (2 ^ n) 0 res (by omega) (fun j hj => absurd hj (by omega))⟩) (fun z => absurd z (by omega)))))))))
theorem ad_ychooseL {c a b : Nat} (h5 : n ≤ 5) (hd : d < 8) (hc : c < 8) (ha : a < 8) (hb : b < 8) (K : ∀ val' res', ad_wr n d val0 val' (fun j => (if val0 (32 * c + j) = 0 then val0 (32 * b + j) else val0 (32 * a + j))) → post 1 (nI n, nI (2 ^ n), val', res')) :
    ∀ (e i : Nat) (res : Nat → Int32), i + e = 2 ^ n → (∀ j, j < i → res j = (if val0 (32 * c + j) = 0 then val0 (32 * b + j) else val0 (32 * a + j))) → wY_choose_38 post (nI d) (nI c) (nI a) (nI b) (nI n) (nI (2 ^ n)) (e + 1) (nI i) val0 res := by
  have hp5 := ad_p5 h5
  intro e
  induction e with
  | zero =>
    intro i res hi hr
    rw [wY_choose_38]
    dsimp only
    refine pk_le (2 ^ n) i (fun _ => ?_) (fun z => absurd z (by omega))
    refine ad_keep h5 hd ?_
    intro val' hw
    dsimp only
    exact ⟨narrow_b1, K val' res ⟨fun j hj => by rw [hw.1 j hj, hr j (by omega)], hw.2⟩⟩
  | succ e ih =>
    intro i res hi hr
    have hii : vp_in (nI i) 32 := vp_in_nI (by omega) (by decide)
    have nxt : ∀ z : Int32, z = (if val0 (32 * c + i) = 0 then val0 (32 * b + i) else val0 (32 * a + i)) → wY_choose_38 post (nI d) (nI c) (nI a) (nI b) (nI n) (nI (2 ^ n)) (e + 1) (nI (i + 1)) val0 (upd res i z) := by
      intro z hz
      refine ih (i + 1) _ (by omega) (fun j hj => ?_)
      by_cases e : j = i
      · rw [e, pk_us, hz]
      · rw [pk_un e]
        exact hr j (by omega)
    rw [wY_choose_38]
    dsimp only
    refine pk_le (2 ^ n) i (fun z => absurd z (by omega)) (fun _ => ?_)
    rw [ad_ix a i, ad_ix b i, ad_ix c i, nI_clamp (show 32 * a + i < 2 ^ 31 by omega), nI_clamp (show 32 * b + i < 2 ^ 31 by omega), nI_clamp (show 32 * c + i < 2 ^ 31 by omega), nI_clamp (show i < 2 ^ 31 by omega)]
    refine ⟨vp_in_nI (by omega) (by decide), br_c (fun z => ⟨vp_in_nI (by omega) (by decide), hii, nm_e (nm_r (nI_1 i) (nxt _ ?_))⟩) (fun z => ⟨vp_in_nI (by omega) (by decide), hii, nm_e (nm_r (nI_1 i) (nxt _ ?_))⟩)⟩
    · rw [if_pos z]
    · rw [if_neg z]
theorem ad_ychoose {c a b : Nat} {res : Nat → Int32} (h5 : n ≤ 5) (hd : d < 8) (hc : c < 8) (ha : a < 8) (hb : b < 8) (K : ∀ val' res', ad_wr n d val0 val' (fun j => (if val0 (32 * c + j) = 0 then val0 (32 * b + j) else val0 (32 * a + j))) → post 1 (nI n, nI (2 ^ n), val', res')) : wpY_choose post (nI n, nI (2 ^ n), val0, res) (nI d) (nI c) (nI a) (nI b) := by
  unfold wpY_choose
  dsimp only
  exact ad_yP1 hd (br_f (by decide) (ad_yP1 hc (br_f (by decide) (ad_yP1 ha (br_f (by decide) (ad_yP1 hb (br_f (by decide) ⟨2 ^ n + 1, ad_ychooseL h5 hd hc ha hb K (2 ^ n) 0 res (by omega) (fun j hj => absurd hj (by omega))⟩)))))))
theorem ad_yfoldL {m a v : Nat} (h5 : n ≤ 5) (hd : d < 8) (hm : m < 7) (ha : a < 8) (hv : v < n) (K : ∀ val' res', ad_wr n d val0 val' (fun j => (ad_op m (val0 (32 * a + ad_sb j v false)) (val0 (32 * a + ad_sb j v true)))) → post 1 (nI n, nI (2 ^ n), val', res')) :
    ∀ (e i : Nat) (res : Nat → Int32), i + e = 2 ^ n → (∀ j, j < i → res j = (ad_op m (val0 (32 * a + ad_sb j v false)) (val0 (32 * a + ad_sb j v true)))) → wY_fold_40 post (nI d) (nI m) (nI a) (nI v) (nI n) (nI (2 ^ n)) (e + 1) (nI i) val0 res := by
  have hp5 := ad_p5 h5
  intro e
  induction e with
  | zero =>
    intro i res hi hr
    rw [wY_fold_40]
    dsimp only
    refine pk_le (2 ^ n) i (fun _ => ?_) (fun z => absurd z (by omega))
    refine ad_keep h5 hd ?_
    intro val' hw
    dsimp only
    exact ⟨narrow_b1, K val' res ⟨fun j hj => by rw [hw.1 j hj, hr j (by omega)], hw.2⟩⟩
  | succ e ih =>
    intro i res hi hr
    have hii : vp_in (nI i) 32 := vp_in_nI (by omega) (by decide)
    have nxt : ∀ z : Int32, z = (ad_op m (val0 (32 * a + ad_sb i v false)) (val0 (32 * a + ad_sb i v true))) → wY_fold_40 post (nI d) (nI m) (nI a) (nI v) (nI n) (nI (2 ^ n)) (e + 1) (nI (i + 1)) val0 (upd res i z) := by
      intro z hz
      refine ih (i + 1) _ (by omega) (fun j hj => ?_)
      by_cases e : j = i
      · rw [e, pk_us, hz]
      · rw [pk_un e]
        exact hr j (by omega)
    rw [wY_fold_40]
    dsimp only
    refine pk_le (2 ^ n) i (fun z => absurd z (by omega)) (fun _ => ?_)
    have l0 := ad_sb_lt (n := n) (j := i) false (by omega) hv
    have l1 := ad_sb_lt (n := n) (j := i) true (by omega) hv
    refine nm_r (ad_sb_0 i (by omega) v (by omega)) (nm_r (ad_sb_1 i (by omega) v (by omega)) ?_)
    rw [ad_ix a (ad_sb i v false), ad_ix a (ad_sb i v true), nI_clamp (show 32 * a + ad_sb i v false < 2 ^ 31 by omega), nI_clamp (show 32 * a + ad_sb i v true < 2 ^ 31 by omega), nI_clamp (show i < 2 ^ 31 by omega)]
    refine ⟨vp_in_nI (by omega) (by decide), vp_in_nI (by omega) (by decide), ad_yop hm _ _ ?_⟩
    exact ⟨hii, nm_e (nm_r (nI_1 i) (nxt _ rfl))⟩
theorem ad_yfold {m a v : Nat} {res : Nat → Int32} (h5 : n ≤ 5) (hd : d < 8) (hm : m < 7) (ha : a < 8) (hv : v < n) (K : ∀ val' res', ad_wr n d val0 val' (fun j => (ad_op m (val0 (32 * a + ad_sb j v false)) (val0 (32 * a + ad_sb j v true)))) → post 1 (nI n, nI (2 ^ n), val', res')) : wpY_fold post (nI n, nI (2 ^ n), val0, res) (nI d) (nI m) (nI a) (nI v) := by
  unfold wpY_fold
  dsimp only
  exact ad_yP1 hd (br_f (by decide) (ad_yP1 ha (br_f (by decide) (br_f (nI_pos (by omega)) (pk_lt 6 m (fun z => absurd z (by omega)) (fun _ => ad_yV1 h5 hv (br_f (by decide) ⟨2 ^ n + 1, ad_yfoldL h5 hd hm ha hv K (2 ^ n) 0 res (by omega) (fun j hj => absurd hj (by omega))⟩)))))))
theorem ad_ysubstituteL {a v b : Nat} (h5 : n ≤ 5) (hd : d < 8) (ha : a < 8) (hv : v < n) (hb : b < 8) (K : ∀ val' res', ad_wr n d val0 val' (fun j => (val0 (32 * a + ad_sb j v (!decide (val0 (32 * b + j) = 0))))) → post 1 (nI n, nI (2 ^ n), val', res')) :
    ∀ (e i : Nat) (res : Nat → Int32), i + e = 2 ^ n → (∀ j, j < i → res j = (val0 (32 * a + ad_sb j v (!decide (val0 (32 * b + j) = 0))))) → wY_substitute_38 post (nI d) (nI a) (nI v) (nI b) (nI n) (nI (2 ^ n)) (e + 1) (nI i) val0 res := by
  have hp5 := ad_p5 h5
  intro e
  induction e with
  | zero =>
    intro i res hi hr
    rw [wY_substitute_38]
    dsimp only
    refine pk_le (2 ^ n) i (fun _ => ?_) (fun z => absurd z (by omega))
    refine ad_keep h5 hd ?_
    intro val' hw
    dsimp only
    exact ⟨narrow_b1, K val' res ⟨fun j hj => by rw [hw.1 j hj, hr j (by omega)], hw.2⟩⟩
  | succ e ih =>
    intro i res hi hr
    have hii : vp_in (nI i) 32 := vp_in_nI (by omega) (by decide)
    have nxt : ∀ z : Int32, z = (val0 (32 * a + ad_sb i v (!decide (val0 (32 * b + i) = 0)))) → wY_substitute_38 post (nI d) (nI a) (nI v) (nI b) (nI n) (nI (2 ^ n)) (e + 1) (nI (i + 1)) val0 (upd res i z) := by
      intro z hz
      refine ih (i + 1) _ (by omega) (fun j hj => ?_)
      by_cases e : j = i
      · rw [e, pk_us, hz]
      · rw [pk_un e]
        exact hr j (by omega)
    rw [wY_substitute_38]
    dsimp only
    refine pk_le (2 ^ n) i (fun z => absurd z (by omega)) (fun _ => ?_)
    have fin : ∀ z : Bool, z = (!decide (val0 (32 * b + i) = 0)) → wY_substitute_72 post (wY_substitute_38 post (nI d) (nI a) (nI v) (nI b) (nI n) (nI (2 ^ n)) (e + 1)) (nI d) (nI a) (nI v) (nI b) (nI i) (ad_bi z) (nI v) (nI i) (nI n) (nI (2 ^ n)) val0 res := by
      intro z hz
      have l0 := ad_sb_lt (n := n) (j := i) z (by omega) hv
      unfold wY_substitute_72
      refine ad_with (by omega) (by omega) ?_
      rw [ad_ix a (ad_sb i v z), nI_clamp (show 32 * a + ad_sb i v z < 2 ^ 31 by omega), nI_clamp (show i < 2 ^ 31 by omega)]
      exact ⟨vp_in_nI (by omega) (by decide), hii, nm_e (nm_r (nI_1 i) (nxt _ (by rw [hz])))⟩
    rw [ad_ix b i, nI_clamp (show 32 * b + i < 2 ^ 31 by omega)]
    refine ⟨vp_in_nI (by omega) (by decide), br_c (fun z => fin false ?_) (fun z => fin true ?_)⟩
    · rw [decide_eq_true z]
      rfl
    · rw [decide_eq_false z]
      rfl
theorem ad_ysubstitute {a v b : Nat} {res : Nat → Int32} (h5 : n ≤ 5) (hd : d < 8) (ha : a < 8) (hv : v < n) (hb : b < 8) (K : ∀ val' res', ad_wr n d val0 val' (fun j => (val0 (32 * a + ad_sb j v (!decide (val0 (32 * b + j) = 0))))) → post 1 (nI n, nI (2 ^ n), val', res')) : wpY_substitute post (nI n, nI (2 ^ n), val0, res) (nI d) (nI a) (nI v) (nI b) := by
  unfold wpY_substitute
  dsimp only
  exact ad_yP1 hd (br_f (by decide) (ad_yP1 ha (br_f (by decide) (ad_yP1 hb (br_f (by decide) (ad_yV1 h5 hv (br_f (by decide) ⟨2 ^ n + 1, ad_ysubstituteL h5 hd ha hv hb K (2 ^ n) 0 res (by omega) (fun j hj => absurd hj (by omega))⟩)))))))
theorem ad_yexchangeL {a x y : Nat} (h5 : n ≤ 5) (hd : d < 8) (ha : a < 8) (hx : x < n) (hy : y < n) (K : ∀ val' res', ad_wr n d val0 val' (fun j => (val0 (32 * a + ad_sb (ad_sb j x (ad_bt j y)) y (ad_bt j x)))) → post 1 (nI n, nI (2 ^ n), val', res')) :
    ∀ (e i : Nat) (res : Nat → Int32), i + e = 2 ^ n → (∀ j, j < i → res j = (val0 (32 * a + ad_sb (ad_sb j x (ad_bt j y)) y (ad_bt j x)))) → wY_exchange_38 post (nI d) (nI a) (nI x) (nI y) (nI n) (nI (2 ^ n)) (e + 1) (nI i) val0 res := by
  have hp5 := ad_p5 h5
  intro e
  induction e with
  | zero =>
    intro i res hi hr
    rw [wY_exchange_38]
    dsimp only
    refine pk_le (2 ^ n) i (fun _ => ?_) (fun z => absurd z (by omega))
    refine ad_keep h5 hd ?_
    intro val' hw
    dsimp only
    exact ⟨narrow_b1, K val' res ⟨fun j hj => by rw [hw.1 j hj, hr j (by omega)], hw.2⟩⟩
  | succ e ih =>
    intro i res hi hr
    have hii : vp_in (nI i) 32 := vp_in_nI (by omega) (by decide)
    have nxt : ∀ z : Int32, z = (val0 (32 * a + ad_sb (ad_sb i x (ad_bt i y)) y (ad_bt i x))) → wY_exchange_38 post (nI d) (nI a) (nI x) (nI y) (nI n) (nI (2 ^ n)) (e + 1) (nI (i + 1)) val0 (upd res i z) := by
      intro z hz
      refine ih (i + 1) _ (by omega) (fun j hj => ?_)
      by_cases e : j = i
      · rw [e, pk_us, hz]
      · rw [pk_un e]
        exact hr j (by omega)
    rw [wY_exchange_38]
    dsimp only
    refine pk_le (2 ^ n) i (fun z => absurd z (by omega)) (fun _ => ?_)
    have l0 := ad_sb_lt (n := n) (j := i) (ad_bt i y) (by omega) hx
    have l1 := ad_sb_lt (n := n) (j := ad_sb i x (ad_bt i y)) (ad_bt i x) l0 hy
    unfold wpY_bit
    dsimp only
    rw [ad_bit (show i < 2 ^ 31 by omega) (show x < 32 by omega), ad_bit (show i < 2 ^ 31 by omega) (show y < 32 by omega)]
    refine ad_with (by omega) (by omega) (ad_with (by omega) (by omega) ?_)
    rw [ad_ix, nI_clamp (show 32 * a + ad_sb (ad_sb i x (ad_bt i y)) y (ad_bt i x) < 2 ^ 31 by omega), nI_clamp (show i < 2 ^ 31 by omega)]
    exact ⟨vp_in_nI (by omega) (by decide), hii, nm_e (nm_r (nI_1 i) (nxt _ rfl))⟩
theorem ad_yexchange {a x y : Nat} {res : Nat → Int32} (h5 : n ≤ 5) (hd : d < 8) (ha : a < 8) (hx : x < n) (hy : y < n) (K : ∀ val' res', ad_wr n d val0 val' (fun j => (val0 (32 * a + ad_sb (ad_sb j x (ad_bt j y)) y (ad_bt j x)))) → post 1 (nI n, nI (2 ^ n), val', res')) : wpY_exchange post (nI n, nI (2 ^ n), val0, res) (nI d) (nI a) (nI x) (nI y) := by
  unfold wpY_exchange
  dsimp only
  exact ad_yP1 hd (br_f (by decide) (ad_yP1 ha (br_f (by decide) (ad_yV1 h5 hx (br_f (by decide) (ad_yV1 h5 hy (br_f (by decide) ⟨2 ^ n + 1, ad_yexchangeL h5 hd ha hx hy K (2 ^ n) 0 res (by omega) (fun j hj => absurd hj (by omega))⟩)))))))
end
end
section
/-! the reference's reading methods -/
section
variable {n d : Nat} {val res : Nat → Int32}
theorem ad_ycount15 {Q : Int32 → Prop} {cc : Int32} (h5 : n ≤ 5) (hd : d < 8) (h : Q (Int32.ofInt (ad_sm (fun k => if val (32 * d + k) = cc then 1 else 0) (2 ^ n)))) :
    ∀ (e i : Nat), i + e = 2 ^ n → wY_countOf_15 Q (nI d) cc (nI n) (nI (2 ^ n)) val res (e + 1) (Int32.ofInt (ad_sm (fun k => if val (32 * d + k) = cc then 1 else 0) i)) (nI i) := by
  have hp5 := ad_p5 h5
  intro e
  induction e with
  | zero =>
    intro i hi
    rw [wY_countOf_15]
    dsimp only
    have e : i = 2 ^ n := by omega
    subst e
    exact br_t (Int32.le_refl _) h
  | succ e ih =>
    intro i hi
    rw [wY_countOf_15]
    dsimp only
    rw [ad_ix, nI_clamp (by omega)]
    have hst : ad_sm (fun k => if val (32 * d + k) = cc then 1 else 0) (i + 1) = ad_sm (fun k => if val (32 * d + k) = cc then 1 else 0) i + (if val (32 * d + i) = cc then 1 else 0) := rfl
    have h' := ih (i + 1) (by omega)
    refine pk_le (2 ^ n) i (fun z => absurd z (by omega)) (fun _ => ⟨vp_in_nI (by omega) (by decide), br_c (fun z => nm_r (e' := Int32.ofInt (ad_sm (fun k => if val (32 * d + k) = cc then 1 else 0) (i + 1))) ?_ (nm_r (nI_1 i) h')) (fun z => nm_r (nI_1 i) ?_)⟩)
    · rw [hst, if_pos z, Int32.ofInt_add]
      rfl
    · rw [hst, if_neg z, Int.add_zero] at h'
      exact h'
theorem ad_ycountOf {Q : Int32 → Prop} {cc : Int32} (h5 : n ≤ 5) (hd : d < 8) (h : Q (Int32.ofInt (ad_sm (fun k => if val (32 * d + k) = cc then 1 else 0) (2 ^ n)))) : wpY_countOf Q (nI n, nI (2 ^ n), val, res) (nI d) cc := by
  unfold wpY_countOf
  dsimp only
  exact ad_yP1 hd (br_f (by decide) ⟨2 ^ n + 1, ad_ycount15 h5 hd h (2 ^ n) 0 (by omega)⟩)
theorem ad_ytotal15 {Q : Int64 → Prop} (h5 : n ≤ 5) (hd : d < 8) (h : Q (Int64.ofInt (ad_sm (fun k => (val (32 * d + k)).toInt) (2 ^ n)))) :
    ∀ (e i : Nat), i + e = 2 ^ n → wY_total_15 Q (nI d) (nI n) (nI (2 ^ n)) val res (e + 1) (Int64.ofInt (ad_sm (fun k => (val (32 * d + k)).toInt) i)) (nI i) := by
  have hp5 := ad_p5 h5
  intro e
  induction e with
  | zero =>
    intro i hi
    rw [wY_total_15]
    dsimp only
    have e : i = 2 ^ n := by omega
    subst e
    exact br_t (Int32.le_refl _) h
  | succ e ih =>
    intro i hi
    rw [wY_total_15]
    dsimp only
    rw [ad_ix, nI_clamp (by omega)]
    have hst : ad_sm (fun k => (val (32 * d + k)).toInt) (i + 1) = ad_sm (fun k => (val (32 * d + k)).toInt) i + (val (32 * d + i)).toInt := rfl
    refine pk_le (2 ^ n) i (fun z => absurd z (by omega)) (fun _ => ⟨vp_in_nI (by omega) (by decide), nm_r (e' := Int64.ofInt (ad_sm (fun k => (val (32 * d + k)).toInt) (i + 1))) ?_ (nm_r (nI_1 i) (ih (i + 1) (by omega)))⟩)
    rw [hst, Int64.ofInt_add, Int64.ofInt_int32ToInt]
theorem ad_ytotal {Q : Int64 → Prop} (h5 : n ≤ 5) (hd : d < 8) (h : Q (Int64.ofInt (ad_sm (fun k => (val (32 * d + k)).toInt) (2 ^ n)))) : wpY_total Q (nI n, nI (2 ^ n), val, res) (nI d) := by
  unfold wpY_total
  dsimp only
  exact ad_yP1 hd (br_f (by decide) ⟨2 ^ n + 1, ad_ytotal15 h5 hd h (2 ^ n) 0 (by omega)⟩)
theorem ad_ysame20 {Q : Int32 → Prop} {b : Nat} (h5 : n ≤ 5) (hd : d < 8) (hb : b < 8) (h1 : (∀ j, j < 2 ^ n → val (32 * d + j) = val (32 * b + j)) → Q 1) (h0 : (¬ ∀ j, j < 2 ^ n → val (32 * d + j) = val (32 * b + j)) → Q 0) :
    ∀ (e i : Nat), i + e = 2 ^ n → (∀ j, j < i → val (32 * d + j) = val (32 * b + j)) → wY_same_20 Q (nI d) (nI b) (nI n) (nI (2 ^ n)) val res (e + 1) (nI i) := by
  have hp5 := ad_p5 h5
  intro e
  induction e with
  | zero =>
    intro i hi hj
    rw [wY_same_20]
    dsimp only
    have e : i = 2 ^ n := by omega
    subst e
    exact br_t (Int32.le_refl _) (h1 hj)
  | succ e ih =>
    intro i hi hj
    rw [wY_same_20]
    dsimp only
    rw [ad_ix d i, ad_ix b i, nI_clamp (show 32 * d + i < 2 ^ 31 by omega), nI_clamp (show 32 * b + i < 2 ^ 31 by omega)]
    refine pk_le (2 ^ n) i (fun z => absurd z (by omega)) (fun _ => ⟨vp_in_nI (by omega) (by decide), vp_in_nI (by omega) (by decide), br_c (fun z => nm_r (nI_1 i) (ih (i + 1) (by omega) (fun j hji => ?_))) (fun z => h0 (fun hh => z (hh i (by omega))))⟩)
    by_cases e : j = i
    · rw [e]
      exact z
    · exact hj j (by omega)
theorem ad_ysame {Q : Int32 → Prop} {b : Nat} (h5 : n ≤ 5) (hd : d < 8) (hb : b < 8) (h1 : (∀ j, j < 2 ^ n → val (32 * d + j) = val (32 * b + j)) → Q 1) (h0 : (¬ ∀ j, j < 2 ^ n → val (32 * d + j) = val (32 * b + j)) → Q 0) : wpY_same Q (nI n, nI (2 ^ n), val, res) (nI d) (nI b) := by
  unfold wpY_same
  dsimp only
  exact ad_yP1 hd (br_f (by decide) (ad_yP1 hb (br_f (by decide) ⟨2 ^ n + 1, ad_ysame20 h5 hd hb h1 h0 (2 ^ n) 0 (by omega) (fun j hj => absurd hj (by omega))⟩)))
theorem ad_yvalueAt {Q : Int32 → Prop} {j : Nat} (h5 : n ≤ 5) (hd : d < 8) (hj : j < 2 ^ n) (h : Q (val (32 * d + j))) : wpY_valueAt Q (nI n, nI (2 ^ n), val, res) (nI d) (nI j) := by
  have hp5 := ad_p5 h5
  unfold wpY_valueAt
  dsimp only
  rw [ad_ix, nI_clamp (by omega)]
  exact ad_yP1 hd (br_f (by decide) (br_f (nI_pos (by omega)) (pk_lt j (2 ^ n) (fun _ => ⟨vp_in_nI (by omega) (by decide), h⟩) (fun z => absurd z (by omega)))))
/-- the table of place d changes with variable v at j -/
def ad_df (val : Nat → Int32) (d v j : Nat) : Prop := ¬ val (32 * d + j) = val (32 * d + (j ^^^ 2 ^ v))
theorem ad_ysup25 {Q : Int32 → Prop} {J : Int32 → Int32 → Prop} {v m0 : Nat} (h5 : n ≤ 5) (hd : d < 8) (hv : v < n) (K : ∀ m : Nat, (∀ b, m.testBit b = true ↔ (m0.testBit b = true ∨ (b = v ∧ ∃ j, j < 2 ^ n ∧ ad_df val d v j))) → J (nI m) (nI (v + 1))) :
    ∀ (e i m : Nat), i + e = 2 ^ n → (∀ b, m.testBit b = true ↔ (m0.testBit b = true ∨ (b = v ∧ ∃ j, j < i ∧ ad_df val d v j))) → wY_support_25 Q J (nI d) (nI v) (nI n) (nI (2 ^ n)) val res (e + 1) (nI m) (nI i) := by
  have hp5 := ad_p5 h5
  intro e
  induction e with
  | zero =>
    intro i m hi hm
    rw [wY_support_25]
    dsimp only
    have e : i = 2 ^ n := by omega
    subst e
    exact br_t (Int32.le_refl _) (nm_r (nI_1 v) (K m hm))
  | succ e ih =>
    intro i m hi hm
    have hx : i ^^^ 2 ^ v < 2 ^ n := Nat.xor_lt_two_pow (by omega) (Nat.pow_lt_pow_right (by decide) hv)
    rw [wY_support_25]
    dsimp only
    rw [ad_sl1 (show v < 31 by omega), nx_xor, ad_ix d i, ad_ix d (i ^^^ 2 ^ v), nI_clamp (show 32 * d + i < 2 ^ 31 by omega), nI_clamp (show 32 * d + (i ^^^ 2 ^ v) < 2 ^ 31 by omega)]
    refine pk_le (2 ^ n) i (fun z => absurd z (by omega)) (fun _ => ⟨vp_in_nI (by omega) (by decide), vp_in_nI (by omega) (by decide), br_c (fun z => nm_r (nI_1 i) (ih (i + 1) m (by omega) (fun b => ?_))) (fun z => nm_r (ad_or _ _) (nm_r (nI_1 i) (ih (i + 1) _ (by omega) (fun b => ?_))))⟩)
    · rw [hm b]
      constructor
      · rintro (h | ⟨h1, j, h2, h3⟩)
        · exact Or.inl h
        · exact Or.inr ⟨h1, j, by omega, h3⟩
      · rintro (h | ⟨h1, j, h2, h3⟩)
        · exact Or.inl h
        · refine Or.inr ⟨h1, j, ?_, h3⟩
          by_cases e : j = i
          · subst e
            exact absurd z h3
          · omega
    · rw [Nat.testBit_or, Nat.testBit_two_pow, Bool.or_eq_true_iff, hm b, decide_eq_true_iff]
      constructor
      · rintro ((h | ⟨h1, j, h2, h3⟩) | h)
        · exact Or.inl h
        · exact Or.inr ⟨h1, j, by omega, h3⟩
        · exact Or.inr ⟨h.symm, i, by omega, z⟩
      · rintro (h | ⟨h1, j, h2, h3⟩)
        · exact Or.inl (Or.inl h)
        · exact Or.inr h1.symm
theorem ad_ysup14 {Q : Int32 → Prop} (h5 : n ≤ 5) (hd : d < 8) (K : ∀ m : Nat, (∀ b, m.testBit b = true ↔ (b < n ∧ ∃ j, j < 2 ^ n ∧ ad_df val d b j)) → Q (nI m)) :
    ∀ (e v m : Nat), v + e = n → (∀ b, m.testBit b = true ↔ (b < v ∧ ∃ j, j < 2 ^ n ∧ ad_df val d b j)) → wY_support_14 Q (nI d) (nI n) (nI (2 ^ n)) val res (e + 1) (nI m) (nI v) := by
  intro e
  induction e with
  | zero =>
    intro v m hi hm
    rw [wY_support_14]
    dsimp only
    have e : v = n := by omega
    subst e
    exact br_t (Int32.le_refl _) (K m hm)
  | succ e ih =>
    intro v m hi hm
    rw [wY_support_14]
    dsimp only
    refine pk_le n v (fun z => absurd z (by omega)) (fun _ => ⟨2 ^ n + 1, ?_⟩)
    refine ad_ysup25 (m0 := m) h5 hd (by omega) ?_ (2 ^ n) 0 m (by omega) ?_
    · intro m' hm'
      refine ih (v + 1) m' (by omega) (fun b => ?_)
      rw [hm' b, hm b]
      constructor
      · rintro (⟨h1, h2⟩ | ⟨h1, h2⟩)
        · exact ⟨by omega, h2⟩
        · subst h1
          exact ⟨by omega, h2⟩
      · rintro ⟨h1, h2⟩
        by_cases e : b = v
        · subst e
          exact Or.inr ⟨rfl, h2⟩
        · exact Or.inl ⟨by omega, h2⟩
    · intro b
      constructor
      · intro h
        exact Or.inl h
      · rintro (h | ⟨h1, j, h2, h3⟩)
        · exact h
        · omega
theorem ad_ysupport {Q : Int32 → Prop} (h5 : n ≤ 5) (hd : d < 8) (K : ∀ m : Nat, (∀ b, m.testBit b = true ↔ (b < n ∧ ∃ j, j < 2 ^ n ∧ ad_df val d b j)) → Q (nI m)) : wpY_support Q (nI n, nI (2 ^ n), val, res) (nI d) := by
  unfold wpY_support
  dsimp only
  refine ad_yP1 hd (br_f (by decide) ⟨n + 1, ad_ysup14 h5 hd K n 0 0 (by omega) (fun b => ?_)⟩)
  rw [Nat.zero_testBit]
  constructor
  · intro h
    exact nomatch h
  · rintro ⟨h, _⟩
    omega
end
/-! names of parts -/
def ad_nm (n N : Nat) : Bool := decide (1 ≤ N % 64 ∧ N % 64 < 2 * 2 ^ n)
def ad_fx (q : Nat) : Nat → Nat
  | 0 => 0
  | i + 1 => if q / 2 ^ (i + 1) = 0 then ad_fx q i else i + 1
/-- how many variables a name fixes -/
def ad_kq (N : Nat) : Nat := ad_fx (N % 64) 5
theorem ad_kq_t : ∀ q, q < 64 → 1 ≤ q → 2 ^ ad_fx q 5 ≤ q ∧ q < 2 * 2 ^ ad_fx q 5 := by decide +kernel
theorem ad_kq_b {n N : Nat} (h : ad_nm n N = true) : 2 ^ ad_kq N ≤ N % 64 ∧ N % 64 < 2 * 2 ^ ad_kq N ∧ ad_kq N ≤ n := by
  unfold ad_nm at h
  obtain ⟨h1, h2⟩ := of_decide_eq_true h
  obtain ⟨h3, h4⟩ := ad_kq_t (N % 64) (Nat.mod_lt _ (by decide)) h1
  refine ⟨h3, h4, ?_⟩
  have h5 : 2 ^ ad_kq N < 2 ^ (n + 1) := by
    rw [Nat.pow_succ]
    unfold ad_kq
    omega
  have := (Nat.pow_lt_pow_iff_right (by decide : 1 < 2)).mp h5
  omega
/-- the place in a table of a part's value at j -/
def ad_pi (k N j : Nat) : Nat := 2 ^ k * (j / 2 ^ k) + N % 2 ^ k
theorem ad_pi_lt {n k N j : Nat} (hk : k ≤ n) (hj : j < 2 ^ n) : ad_pi k N j < 2 ^ n := by
  unfold ad_pi
  obtain ⟨r, rfl⟩ : ∃ r, n = k + r := ⟨n - k, by omega⟩
  rw [Nat.pow_add] at hj ⊢
  have h1 : j / 2 ^ k < 2 ^ r := (Nat.div_lt_iff_lt_mul (Nat.two_pow_pos k)).mpr (by rw [Nat.mul_comm]; exact hj)
  have h2 : N % 2 ^ k < 2 ^ k := Nat.mod_lt _ (Nat.two_pow_pos k)
  have h3 : 2 ^ k * (j / 2 ^ k + 1) ≤ 2 ^ k * 2 ^ r := Nat.mul_le_mul_left _ h1
  rw [Nat.mul_add, Nat.mul_one] at h3
  omega
theorem ad_pi_bt (k N j : Nat) : ad_bt (ad_pi k N j) = ad_mx k (ad_bt N) (ad_bt j) := by
  funext i
  unfold ad_pi ad_bt ad_mx
  rw [Nat.testBit_two_pow_mul_add _ (Nat.mod_lt _ (Nat.two_pow_pos k))]
  by_cases h : i < k
  · rw [if_pos h, if_pos h, Nat.testBit_mod_two_pow, decide_eq_true h]
    rfl
  · rw [if_neg h, if_neg h, Nat.testBit_div_two_pow]
    congr 1
    omega
theorem ad_clr : ∀ k, k < 6 → ∀ j, j < 32 → nI j &&& (nI (2 ^ k - 1) ^^^ (-1)) = nI (2 ^ k * (j / 2 ^ k)) := by decide +kernel
/-- a part's value at j -/
def ad_pv (val : Nat → Int32) (N j : Nat) : Int32 := val (32 * (N / 64) + ad_pi (ad_kq N) N j)
section
variable {n : Nat} {val res : Nat → Int32}
theorem ad_isName {Q : Int32 → Prop} {N : Nat} (h5 : n ≤ 5) (hN : N < 512) (h : Q (ad_bi (ad_nm n N))) : wpY_isName Q (nI n, nI (2 ^ n), val, res) (nI N) := by
  have hp5 := ad_p5 h5
  unfold wpY_isName
  dsimp only
  rw [pk_andN (by omega) (m := 63) 6 (by decide), show (2 : Int32) * nI (2 ^ n) = nI (2 * 2 ^ n) from pk_mul 2 (2 ^ n)]
  have e64 : (2 : Nat) ^ 6 = 64 := rfl
  have hq : N % 64 < 64 := Nat.mod_lt _ (by decide)
  rw [e64]
  unfold ad_nm at h
  refine pk_lt (N % 64) 1 (fun z => ?_) (fun z => pk_le (2 * 2 ^ n) (N % 64) (fun y => ?_) (fun y => ?_))
  · rw [decide_eq_false (by omega)] at h
    exact h
  · rw [decide_eq_false (by omega)] at h
    exact h
  · rw [decide_eq_true ⟨z, y⟩] at h
    exact h
theorem ad_fix4 {Q : Int32 → Prop} {N : Nat} (hN : N < 512) (h : Q (nI (ad_kq N))) : ∀ (e i : Nat), i + e = 5 → wY_fixedCount_4 Q (nI N) (nI n) (nI (2 ^ n)) val res (e + 1) (nI (ad_fx (N % 64) i)) (nI (i + 1)) := by
  intro e
  induction e with
  | zero =>
    intro i hi
    have e : i = 5 := by omega
    subst e
    rw [wY_fixedCount_4]
    dsimp only
    exact br_t (by decide) h
  | succ e ih =>
    intro i hi
    have e64 : (2 : Nat) ^ 6 = 64 := rfl
    have hq : N % 64 < 64 := Nat.mod_lt _ (by decide)
    rw [wY_fixedCount_4]
    dsimp only
    rw [pk_andN (by omega) (m := 63) 6 (by decide), e64, pk_shrN (by omega) _ (i + 1) (s_l (i + 1) (by omega))]
    have h' := ih (i + 1) (by omega)
    have hl : N % 64 / 2 ^ (i + 1) ≤ N % 64 := Nat.div_le_self _ _
    refine pk_lt 5 (i + 1) (fun z => absurd z (by omega)) (fun _ => pk_eq (N % 64 / 2 ^ (i + 1)) 0 (fun z => nm_r (nI_1 (i + 1)) ?_) (fun z => nm_r (nI_1 (i + 1)) ?_))
    · unfold ad_fx at h'
      rw [if_pos z] at h'
      exact h'
    · unfold ad_fx at h'
      rw [if_neg z] at h'
      exact h'
theorem ad_fixedCount {Q : Int32 → Prop} {N : Nat} (hN : N < 512) (h : Q (nI (ad_kq N))) : wpY_fixedCount Q (nI n, nI (2 ^ n), val, res) (nI N) := by
  unfold wpY_fixedCount
  dsimp only
  exact ⟨6, ad_fix4 hN h 5 0 rfl⟩
theorem ad_partAt {Q : Int32 → Prop} {N j : Nat} (h5 : n ≤ 5) (hN : N < 512) (hm : ad_nm n N = true) (hj : j < 2 ^ n) (h : Q (ad_pv val N j)) : wpY_partAt Q (nI n, nI (2 ^ n), val, res) (nI N) (((1 : Int32) <<< (nI (ad_kq N) &&& 31)) - 1) (nI j) := by
  have hp5 := ad_p5 h5
  obtain ⟨_, _, hk⟩ := ad_kq_b hm
  have hkp := ad_p5 (show ad_kq N ≤ 5 by omega)
  have hl := ad_pi_lt (N := N) hk hj
  have e64 : (2 : Nat) ^ 6 = 64 := rfl
  unfold wpY_partAt
  dsimp only
  rw [ad_sl1 (by omega), show nI (2 ^ ad_kq N) - 1 = nI (2 ^ ad_kq N - 1) from pk_sub (b := 1) (Nat.two_pow_pos _), ad_clr _ (by omega) j (by omega), pk_andN (m := nI (2 ^ ad_kq N - 1)) (by omega) (ad_kq N) (pk_tn (by omega)), ad_or,
    ← Nat.two_pow_add_eq_or_of_lt (Nat.mod_lt _ (Nat.two_pow_pos _)), pk_shrN (by omega) _ 6 (by decide), e64, ad_ix]
  have hlt : 32 * (N / 64) + (2 ^ ad_kq N * (j / 2 ^ ad_kq N) + N % 2 ^ ad_kq N) < 256 := by
    unfold ad_pi at hl
    omega
  rw [nI_clamp (by omega)]
  exact ⟨vp_in_nI hlt (by decide), h⟩
theorem ad_same16 {Q : Int32 → Prop} {N M : Nat} (h5 : n ≤ 5) (hN : N < 512) (hM : M < 512) (nN : ad_nm n N = true) (nM : ad_nm n M = true) (h1 : (∀ j, j < 2 ^ n → ad_pv val N j = ad_pv val M j) → Q 1) (h0 : (¬ ∀ j, j < 2 ^ n → ad_pv val N j = ad_pv val M j) → Q 0) :
    ∀ (e i : Nat), i + e = 2 ^ n → (∀ j, j < i → ad_pv val N j = ad_pv val M j) → wY_samePart_16 Q (nI N) (nI M) (nI (ad_kq N)) (nI (ad_kq M)) (nI n) (nI (2 ^ n)) val res (e + 1) (nI i) := by
  have hp5 := ad_p5 h5
  intro e
  induction e with
  | zero =>
    intro i hi hj
    rw [wY_samePart_16]
    dsimp only
    have e : i = 2 ^ n := by omega
    subst e
    exact br_t (Int32.le_refl _) (h1 hj)
  | succ e ih =>
    intro i hi hj
    rw [wY_samePart_16]
    dsimp only
    refine pk_le (2 ^ n) i (fun z => absurd z (by omega)) (fun _ => ?_)
    refine ad_partAt h5 hN nN (by omega) ?_
    refine ad_partAt h5 hM nM (by omega) ?_
    refine br_c (fun z => nm_r (nI_1 i) (ih (i + 1) (by omega) (fun j hji => ?_))) (fun z => h0 (fun hh => z (hh i (by omega))))
    by_cases e : j = i
    · rw [e]
      exact z
    · exact hj j (by omega)
theorem ad_samePart {Q : Int32 → Prop} {N M : Nat} (h5 : n ≤ 5) (hN : N < 512) (hM : M < 512) (nN : ad_nm n N = true) (nM : ad_nm n M = true) (h1 : (∀ j, j < 2 ^ n → ad_pv val N j = ad_pv val M j) → Q 1) (h0 : (¬ ∀ j, j < 2 ^ n → ad_pv val N j = ad_pv val M j) → Q 0) : wpY_samePart Q (nI n, nI (2 ^ n), val, res) (nI N) (nI M) := by
  unfold wpY_samePart
  dsimp only
  refine ad_fixedCount hN (ad_fixedCount hM ⟨2 ^ n + 1, ?_⟩)
  exact ad_same16 h5 hN hM nN nM h1 h0 (2 ^ n) 0 (by omega) (fun j hj => absurd hj (by omega))
/-- no part with a name from a on up to N is the same as N -/
def ad_nw (n : Nat) (val : Nat → Int32) (a N : Nat) : Prop := ∀ M, a ≤ M → M < N → ad_nm n M = true → ¬ ∀ j, j < 2 ^ n → ad_pv val M j = ad_pv val N j
theorem ad_new2 {Q : Int32 → Prop} {a N : Nat} (h5 : n ≤ 5) (hN : N < 512) (nN : ad_nm n N = true) (h1 : ad_nw n val a N → Q 1) (h0 : ¬ ad_nw n val a N → Q 0) :
    ∀ (e M : Nat), M + e = N → a ≤ M → ad_nw n val a N ∨ ¬ ad_nw n val a N → (∀ M', a ≤ M' → M' < M → ad_nm n M' = true → ¬ ∀ j, j < 2 ^ n → ad_pv val M' j = ad_pv val N j) → wY_isNew_2 Q (nI N) (nI n) (nI (2 ^ n)) val res (e + 1) (nI M) := by
  intro e
  induction e with
  | zero =>
    intro M hM ha _ hn
    rw [wY_isNew_2]
    dsimp only
    have e : M = N := by omega
    subst e
    exact br_t (Int32.le_refl _) (h1 hn)
  | succ e ih =>
    intro M hM ha hcl hn
    rw [wY_isNew_2]
    dsimp only
    refine pk_le N M (fun z => absurd z (by omega)) (fun _ => ad_isName h5 (by omega) (ad_bi0 _ (fun z => nm_r (nI_1 M) (ih (M + 1) (by omega) (by omega) hcl (fun M' q1 q2 q3 => ?_))) (fun z => ?_)))
    · by_cases e : M' = M
      · subst e
        rw [z] at q3
        exact nomatch q3
      · exact hn M' q1 (by omega) q3
    · refine ad_samePart h5 (by omega) hN z nN (fun hs => ?_) (fun hs => ?_)
      · exact br_f (by decide) (h0 (fun hw => hw M ha (by omega) z hs))
      · refine br_t rfl (nm_r (nI_1 M) (ih (M + 1) (by omega) (by omega) hcl (fun M' q1 q2 q3 => ?_)))
        by_cases e : M' = M
        · subst e
          exact hs
        · exact hn M' q1 (by omega) q3
theorem ad_isNew {Q : Int32 → Prop} {a N : Nat} (h5 : n ≤ 5) (ha : a ≤ N) (hN : N < 512) (nN : ad_nm n N = true) (h1 : ad_nw n val a N → Q 1) (h0 : ¬ ad_nw n val a N → Q 0) : wpY_isNew Q (nI n, nI (2 ^ n), val, res) (nI a) (nI N) := by
  unfold wpY_isNew
  dsimp only
  exact ⟨N - a + 1, ad_new2 h5 hN nN h1 h0 (N - a) a (by omega) (Nat.le_refl _) (Classical.em _) (fun M' q1 q2 => absurd q2 (by omega))⟩
theorem ad_diff5 {Q : Int32 → Prop} {a b : Nat} {W : Nat → Bool} (h5 : n ≤ 5) (hb : b ≤ 512) (hW : ∀ N, a ≤ N → (W N = true ↔ (ad_nm n N = true ∧ ad_nw n val a N))) (h : Q (nI (ad_cnt (fun i => W (a + i)) (b - a)))) :
    ∀ (e i : Nat), a + i + e = b → wY_differentParts_5 Q (nI a) (nI b) (nI n) (nI (2 ^ n)) val res (e + 1) (nI (ad_cnt (fun i => W (a + i)) i)) (nI (a + i)) := by
  intro e
  induction e with
  | zero =>
    intro i hi
    rw [wY_differentParts_5]
    dsimp only
    have e : b - a = i := by omega
    rw [e] at h
    refine pk_le b (a + i) (fun _ => h) (fun z => absurd z (by omega))
  | succ e ih =>
    intro i hi
    rw [wY_differentParts_5]
    dsimp only
    have h' := ih (i + 1) (by omega)
    have hst : ad_cnt (fun i => W (a + i)) (i + 1) = ad_cnt (fun i => W (a + i)) i + cond (W (a + i)) 1 0 := rfl
    have no : W (a + i) = false → ∀ z : Int32, z = nI (a + i) + 1 → wY_differentParts_5 Q (nI a) (nI b) (nI n) (nI (2 ^ n)) val res (e + 1) (nI (ad_cnt (fun i => W (a + i)) i)) z := by
      intro hw z hz
      rw [hz, nI_1]
      rw [hst, hw] at h'
      exact h'
    refine pk_le b (a + i) (fun z => absurd z (by omega)) (fun _ => ad_isName h5 (by omega) (ad_bi0 _ (fun z => no ?_) (fun z => ?_)))
    · cases e1 : W (a + i)
      · rfl
      · have := ((hW (a + i) (by omega)).mp e1).1
        rw [z] at this
        exact nomatch this
    · refine ad_isNew h5 (by omega) (by omega) z (fun hs => br_f (by decide) ?_) (fun hs => br_t rfl (no ?_))
      · have hw := (hW (a + i) (by omega)).mpr ⟨z, hs⟩
        rw [hst, hw] at h'
        exact nm_r (nI_1 _) (nm_r (nI_1 _) h')
      · cases e1 : W (a + i)
        · rfl
        · exact absurd ((hW (a + i) (by omega)).mp e1).2 hs
theorem ad_differentParts {Q : Int32 → Prop} {a b : Nat} {W : Nat → Bool} (h5 : n ≤ 5) (hab : a ≤ b) (hb : b ≤ 512) (hW : ∀ N, a ≤ N → (W N = true ↔ (ad_nm n N = true ∧ ad_nw n val a N))) (h : Q (nI (ad_cnt (fun i => W (a + i)) (b - a)))) : wpY_differentParts Q (nI n, nI (2 ^ n), val, res) (nI a) (nI b) := by
  unfold wpY_differentParts
  dsimp only
  exact ⟨b - a + 1, ad_diff5 h5 hb hW h (b - a) 0 (by omega)⟩
end
end
section
/-! parts by names, the support, the relation -/
section
variable {n c : Nat} {F : Nat → (Nat → Bool) → Int32} {p : ad_P}
theorem ad_kq_u {N k : Nat} (h1 : 2 ^ k ≤ N % 64) (h2 : N % 64 < 2 * 2 ^ k) : ad_kq N = k := by
  have hp := Nat.two_pow_pos k
  obtain ⟨h3, h4⟩ := ad_kq_t (N % 64) (Nat.mod_lt _ (by decide)) (by omega)
  have h5 : 2 ^ ad_kq N < 2 ^ (k + 1) := by
    rw [Nat.pow_succ]
    unfold ad_kq
    omega
  have h6 : 2 ^ k < 2 ^ (ad_kq N + 1) := by
    rw [Nat.pow_succ]
    unfold ad_kq
    omega
  have h7 := (Nat.pow_lt_pow_iff_right (by decide : 1 < 2)).mp h5
  have h8 := (Nat.pow_lt_pow_iff_right (by decide : 1 < 2)).mp h6
  omega
/-- the name of the part of place d with the first k variables fixed as in s -/
theorem ad_name (d : Nat) {k : Nat} (s : Nat → Bool) (hn : n ≤ 5) (hk : k ≤ n) : ∃ N, 64 * d ≤ N ∧ N < 64 * d + 64 ∧ N / 64 = d ∧ ad_nm n N = true ∧ ad_kq N = k ∧ ∀ i, i < k → ad_bt N i = s i := by
  have hl := ad_num_lt s k
  have hp := Nat.two_pow_pos k
  have hkn : 2 ^ k ≤ 2 ^ n := Nat.pow_le_pow_right (by decide) hk
  have hp5 := ad_p5 hn
  have hq : (64 * d + (2 ^ k + ad_num s k)) % 64 = 2 ^ k + ad_num s k := by omega
  refine ⟨64 * d + (2 ^ k + ad_num s k), by omega, by omega, by omega, ?_, ad_kq_u (by omega) (by omega), fun i hi => ?_⟩
  · unfold ad_nm
    rw [hq]
    exact decide_eq_true ⟨by omega, by omega⟩
  · have e : (64 * d + (2 ^ k + ad_num s k)) % 2 ^ k = ad_num s k := by
      have h64 : 64 = 2 ^ k * 2 ^ (6 - k) := by
        rw [← Nat.pow_add, show k + (6 - k) = 6 by omega]
      rw [h64, Nat.mul_assoc, Nat.mul_add_mod, Nat.add_mod_left, Nat.mod_eq_of_lt hl]
    rw [← ad_num_bt s k i hi]
    unfold ad_bt
    rw [← e, Nat.testBit_mod_two_pow, decide_eq_true hi, Bool.true_and, e]
theorem ad_partsEq (I : ad_I n c F p) {X : Nat → Nat} {val : Nat → Int32} {mk : Nat → Int64} (hCl : ad_Cl n F p mk []) {a b : Nat} (hab : a ≤ b)
    (hX : ∀ N, a ≤ N → N < b → ad_U p 0 (X (N / 64)) ∧ ad_m mk (X (N / 64)) = true ∧ ∀ j, j < 2 ^ n → F (X (N / 64)) (ad_bt j) = val (32 * (N / 64) + j))
    (hR : ∀ y, y < 768 → ad_m mk y = true → ∃ d, a ≤ 64 * d ∧ 64 * d + 64 ≤ b ∧ ad_Pt n F p (X d) y) :
    ∃ W : Nat → Bool, (∀ N, a ≤ N → (W N = true ↔ (ad_nm n N = true ∧ ad_nw n val a N))) ∧ ad_cnt (fun i => W (a + i)) (b - a) = ad_cnt (ad_m mk) 768 := by
  have h5 := I.1.1
  have hex : ∀ N, ∃ y, a ≤ N → N < b → ad_nm n N = true → ad_U p 0 y ∧ ad_m mk y = true ∧ ad_Pf n F p (X (N / 64)) y (ad_kq N) (ad_bt N) := by
    intro N
    by_cases h : a ≤ N ∧ N < b ∧ ad_nm n N = true
    · obtain ⟨h1, h2, h3⟩ := h
      obtain ⟨u, m, _⟩ := hX N h1 h2
      obtain ⟨y, hy⟩ := ad_desc I hCl 9 (X (N / 64)) u m (by omega) (ad_kq N) (ad_bt N) (ad_kq_b h3).2.2
      exact ⟨y, fun _ _ _ => hy⟩
    · exact ⟨0, fun h1 h2 h3 => absurd ⟨h1, h2, h3⟩ h⟩
  obtain ⟨g, hg⟩ : ∃ g : Nat → Nat, ∀ N, a ≤ N → N < b → ad_nm n N = true → ad_U p 0 (g N) ∧ ad_m mk (g N) = true ∧ ad_Pf n F p (X (N / 64)) (g N) (ad_kq N) (ad_bt N) := ⟨fun N => (hex N).choose, fun N => (hex N).choose_spec⟩
  have hpv : ∀ N, a ≤ N → N < b → ad_nm n N = true → ∀ j, j < 2 ^ n → F (g N) (ad_bt j) = ad_pv val N j := by
    intro N h1 h2 h3 j hj
    obtain ⟨_, _, hk, _, hF⟩ := hg N h1 h2 h3
    rw [hF, ← ad_pi_bt, (hX N h1 h2).2.2 _ (ad_pi_lt hk hj)]
    rfl
  have hsame : ∀ N M, a ≤ N → N < b → ad_nm n N = true → a ≤ M → M < b → ad_nm n M = true → (g N = g M ↔ ∀ j, j < 2 ^ n → ad_pv val N j = ad_pv val M j) := by
    intro N M n1 n2 n3 m1 m2 m3
    constructor
    · intro e j hj
      rw [← hpv N n1 n2 n3 j hj, ← hpv M m1 m2 m3 j hj, e]
    · intro e
      refine ad_eqt I (hg N n1 n2 n3).1 (hg M m1 m2 m3).1 (fun j hj => ?_)
      rw [hpv N n1 n2 n3 j hj, hpv M m1 m2 m3 j hj, e j hj]
  obtain ⟨W, hW⟩ : ∃ W : Nat → Bool, ∀ N, (W N = true ↔ (ad_nm n N = true ∧ ad_nw n val a N)) := ⟨fun N => @decide (ad_nm n N = true ∧ ad_nw n val a N) (Classical.propDecidable _), fun N => ⟨fun h => @of_decide_eq_true _ (Classical.propDecidable _) h, fun h => @decide_eq_true _ (Classical.propDecidable _) h⟩⟩
  refine ⟨W, fun N _ => hW N, ?_⟩
  have hnm : ∀ N, (ad_nm n N && decide (a ≤ N ∧ N < b)) = true ↔ (ad_nm n N = true ∧ a ≤ N ∧ N < b) := by
    intro N
    rw [Bool.and_eq_true_iff, decide_eq_true_iff]
  have hf := ad_first (g := g) (nm := fun N => ad_nm n N && decide (a ≤ N ∧ N < b)) (N := fun N => W N && decide (N < b)) (a := a) ?_ ?_ (b - a) (ad_m mk) ?_
  · rw [← hf]
    refine ad_cnt_e (fun y hy => ?_)
    rw [decide_eq_true (show a + y < b by omega), Bool.and_true]
  · intro N h
    obtain ⟨h1, h2, h3⟩ := (hnm N).mp h
    exact (hg N h2 h3 h1).1.1
  · intro N hN
    rw [Bool.and_eq_true_iff, decide_eq_true_iff, hW N]
    constructor
    · rintro ⟨⟨h3, h4⟩, h2⟩
      refine ⟨(hnm N).mpr ⟨h3, hN, h2⟩, fun M m1 m2 m3 e => ?_⟩
      obtain ⟨m4, _, m5⟩ := (hnm M).mp m3
      exact h4 M m1 m2 m4 ((hsame M N m1 m5 m4 hN h2 h3).mp e)
    · rintro ⟨h1, h2⟩
      obtain ⟨h3, _, h4⟩ := (hnm N).mp h1
      refine ⟨⟨h3, fun M m1 m2 m3 e => ?_⟩, h4⟩
      exact h2 M m1 m2 ((hnm M).mpr ⟨m3, m1, by omega⟩) ((hsame M N m1 (by omega) m3 hN h4 h3).mpr e)
  · intro y hy
    constructor
    · intro hm
      obtain ⟨d, d1, d2, uy, k, s, hk, hky, hF⟩ := hR y hy hm
      obtain ⟨N, n1, n2, n3, n4, n5, n6⟩ := ad_name (n := n) d s h5 hk
      refine ⟨N, by omega, by omega, (hnm N).mpr ⟨n4, by omega, by omega⟩, ?_⟩
      obtain ⟨ug, _, _, _, hG⟩ := hg N (by omega) (by omega) n4
      refine ad_can I.1 ug.1 uy.1 ug.2.2 uy.2.2 (fun t => ?_)
      rw [hG, hF, n3, n5]
      congr 1
      funext i
      unfold ad_mx
      by_cases e : i < k
      · rw [if_pos e, if_pos e]
        exact n6 i e
      · rw [if_neg e, if_neg e]
    · rintro ⟨N, n1, n2, n3, n4⟩
      obtain ⟨h1, _, h2⟩ := (hnm N).mp n3
      rw [← n4]
      exact (hg N n1 h2 h1).2.1
/-- the levels of the marked inner nodes are the variables that the table changes with -/
theorem ad_supEq (I : ad_I n c F p) {x d m m' : Nat} {val : Nat → Int32} {mk : Nat → Int64} (ux : ad_U p 0 x) (hx : ad_m mk x = true) (hM : ad_MP n F p (ad_Pt n F p x) mk) (ht : ∀ j, j < 2 ^ n → F x (ad_bt j) = val (32 * d + j))
    (h1 : ∀ b, m.testBit b = true ↔ ∃ x, x < 768 ∧ ad_m mk x = true ∧ ad_l (ad_lv p) x = b ∧ b < 8) (h2 : ∀ b, m'.testBit b = true ↔ (b < n ∧ ∃ j, j < 2 ^ n ∧ ad_df val d b j)) : m = m' := by
  have h5 := I.1.1
  have key : ∀ b, m.testBit b = true ↔ m'.testBit b = true := by
    intro b
    rw [h1, h2]
    constructor
    · rintro ⟨y, hy, my, ey, b8⟩
      obtain ⟨uy, k, s, hk, hky, hF⟩ := hM.2 y hy my
      obtain ⟨a', b', hab⟩ := ad_inner I.1 hy (by omega)
      rw [ey] at hab hky
      have kid := fun t z => ad_kid I.1 hab t z
      obtain ⟨hv, _, ea, eb, ha, hb, hne, la, lb, _⟩ := hab
      refine ⟨hv, ?_⟩
      have hex : ∃ t, ¬ F a' t = F b' t := by
        apply Classical.byContradiction
        intro hno
        exact hne (ad_can I.1 ha hb la.2 lb.2 (fun t => Classical.byContradiction (fun hh => hno ⟨t, hh⟩)))
      obtain ⟨t, ht'⟩ := hex
      have hw : ∀ z, ad_mx k s (ad_up t b z) = ad_up (ad_mx k s t) b z := by
        intro z
        funext i
        unfold ad_mx
        by_cases e : i = b
        · rw [e, ad_up_s, ad_up_s, if_neg (by omega)]
        · rw [ad_up_n e, ad_up_n e]
      have hz : ∀ z, F (cond z b' a') t = F x (ad_up (ad_mx k s t) b z) := by
        intro z
        rw [← kid t z, hF, hw]
      have j1 := ad_num_lt (ad_up (ad_mx k s t) b false) n
      have j2 := fun i hi => ad_num_bt (ad_up (ad_mx k s t) b false) n i hi
      have j3 := ad_at I ux (ad_up (ad_mx k s t) b false)
      generalize ad_num (ad_up (ad_mx k s t) b false) n = j at j1 j2 j3
      have hjx : j ^^^ 2 ^ b < 2 ^ n := Nat.xor_lt_two_pow j1 (Nat.pow_lt_pow_right (by decide) hv)
      refine ⟨j, j1, fun he => ht' ?_⟩
      rw [← ht j j1, ← ht _ hjx, ad_bx, j2 b hv, ad_up_s] at he
      have ea' : F a' t = F x (ad_bt j) := by rw [← j3]; exact hz false
      have eb' : F b' t = F x (ad_up (ad_bt j) b (!false)) := by
        rw [show F b' t = F x (ad_up (ad_mx k s t) b true) from hz true]
        refine ad_dp I.1 ux.1 ux.2.2 (fun i _ hi => ?_)
        by_cases e : i = b
        · rw [e, ad_up_s, ad_up_s]
          rfl
        · rw [ad_up_n e, ad_up_n e, j2 i hi, ad_up_n e]
      rw [ea', eb', he]
    · rintro ⟨hb, j, hj, hdf⟩
      obtain ⟨y, uy, my, hk, hky, hF⟩ := ad_desc I hM.1 9 x ux hx (by omega) b (ad_bt j) (by omega)
      have hjx : j ^^^ 2 ^ b < 2 ^ n := Nat.xor_lt_two_pow hj (Nat.pow_lt_pow_right (by decide) hb)
      refine ⟨y, uy.1, my, ?_, by omega⟩
      apply Classical.byContradiction
      intro hne
      have hlt : b < ad_l (ad_lv p) y := by omega
      apply hdf
      rw [← ht j hj, ← ht _ hjx, ad_bx]
      have e1 : F x (ad_bt j) = F y (ad_bt j) := by
        rw [hF]
        congr 1
        funext i
        unfold ad_mx
        split <;> rfl
      have e2 : F x (ad_up (ad_bt j) b (!(ad_bt j b))) = F y (ad_up (ad_bt j) b (!(ad_bt j b))) := by
        rw [hF]
        congr 1
        funext i
        unfold ad_mx
        by_cases e : i < b
        · rw [if_pos e, ad_up_n (by omega)]
        · rw [if_neg e]
      rw [e1, e2]
      exact (ad_dpu I.1 uy.1 uy.2.2 hlt _ _).symm
  apply Nat.eq_of_testBit_eq
  intro b
  have := key b
  cases h1 : m.testBit b <;> cases h2 : m'.testBit b <;> simp_all
end
/-- the places' nodes and tables -/
def ad_Rl (n : Nat) (F : Nat → (Nat → Bool) → Int32) (p : ad_P) (pl val : Nat → Int32) (X : Nat → Nat) : Prop := ∀ d, d < 8 → pl d = nI (X d) ∧ ad_U p 0 (X d) ∧ ∀ j, j < 2 ^ n → F (X d) (ad_bt j) = val (32 * d + j)
def i_Rel (k : Nat) (u : SX) (v : SY) : Prop := ∃ n c F p mk pl wn ww val res X, ad_I n c F p ∧ ad_Rl n F p pl val X ∧ ad_St (nI n) mk pl wn ww p u ∧ v = (nI n, nI (2 ^ n), val, res)
theorem i_up {k : Nat} {u : SX} {v : SY} (h : i_Rel k u v) : i_Rel (k + 5) u v := h
theorem ad_Rl_p {n : Nat} {F : Nat → (Nat → Bool) → Int32} {p : ad_P} {pl val : Nat → Int32} {X : Nat → Nat} (h : ad_Rl n F p pl val X) : ∀ d, d < 8 → ∃ x, pl d = nI x ∧ ad_U p 0 x := fun d hd => ⟨X d, (h d hd).1, (h d hd).2.1⟩
theorem ad_Rl_n {n : Nat} {F : Nat → (Nat → Bool) → Int32} {p p' : ad_P} {pl val : Nat → Int32} {X : Nat → Nat} (h : ad_Rl n F p pl val X) (hp : ∀ d, d < 8 → ∃ x, pl d = nI x ∧ ad_U p' 0 x) : ad_Rl n F p' pl val X := by
  intro d hd
  obtain ⟨h1, h2, h3⟩ := h d hd
  obtain ⟨x, e, u⟩ := hp d hd
  have e2 := (nI_eq (by have := u.1; omega) (by have := h2.1; omega)).mp (e.symm.trans h1)
  exact ⟨h1, e2 ▸ u, h3⟩
theorem ad_done {k n c2 d r : Nat} {F F2 : Nat → (Nat → Bool) → Int32} {p p2 : ad_P} {mk : Nat → Int64} {pl val val' res' wn ww : Nat → Int32} {X : Nat → Nat} {g : Nat → Int32} {u : SX} (h : ad_Rl n F p pl val X) (I2 : ad_I n c2 F2 p2) (E : ad_Ext F p F2 p2) (ur : ad_U p2 0 r) (hw : ad_wr n d val val' g) (hg : ∀ j, j < 2 ^ n → F2 r (ad_bt j) = g j) (hu : ad_St (nI n) mk (upd pl d (nI r)) wn ww p2 u) : i_Rel k u (nI n, nI (2 ^ n), val', res') := by
  refine ⟨n, c2, F2, p2, mk, upd pl d (nI r), wn, ww, val', res', fun d' => if d' = d then r else X d', I2, fun d' hd' => ?_, hu, rfl⟩
  dsimp only
  by_cases e : d' = d
  · subst e
    rw [if_pos rfl, pk_us]
    exact ⟨rfl, ur, fun j hj => by rw [hg j hj, hw.1 j hj]⟩
  · obtain ⟨h1, h2, h3⟩ := h d' hd'
    rw [if_neg e, pk_un e]
    refine ⟨h1, ad_Ext_U E h2, fun j hj => ?_⟩
    rw [ad_Ext_F E h2, h3 j hj, hw.2 d' j e hj]
/-- the same pool and places, other marks and stacks -/
theorem ad_keepR {k n c : Nat} {F : Nat → (Nat → Bool) → Int32} {p : ad_P} {mk : Nat → Int64} {pl val res wn ww : Nat → Int32} {X : Nat → Nat} {u : SX} (I : ad_I n c F p) (h : ad_Rl n F p pl val X) (hu : ad_St (nI n) mk pl wn ww p u) : i_Rel k u (nI n, nI (2 ^ n), val, res) := ⟨n, c, F, p, mk, pl, wn, ww, val, res, X, I, h, hu, rfl⟩
theorem i_vc0 (k0 : Int32) : wpX_init (fun u => wpY_init (fun v => i_Rel 1 u v) k0) k0 := by
  have go : ∀ n, n ≤ 5 → (∀ post : SY → Prop, post (nI n, nI (2 ^ n), fun _ => 0, fun _ => 0) → wpY_init post k0) → wX_init_185 (fun u => wpY_init (fun v => i_Rel 1 u v) k0) (nI n) 0 0 0 0 0 65 0 (fun _ => 0) (fun _ => 0) (fun _ => 0) (fun _ => 0) (fun _ => 0) (fun _ => 0) (fun _ => 0) (fun _ => 0) (fun _ => 0) (fun _ => 0) (fun _ => 0) (fun _ => 0) (fun _ => 0) (fun _ => 0) (fun _ => 0) (fun _ => 0) (fun _ => 0) (fun _ => 0) (fun _ => 0) := by
    intro n h5 hY
    refine ad_init185 (f := (fun _ => 0, fun _ => 0, fun _ => 0, fun _ => 0, fun _ => 0, fun _ => 0)) (k := (fun _ => 0, fun _ => 0, fun _ => 0, fun _ => 0)) h5 ?_ 64 0 _ rfl (fun j hj => absurd hj (by omega))
    intro p pl F c r I u hF hpl
    refine hY _ ?_
    exact ad_keepR (X := fun _ => r) I (fun d hd => ⟨hpl d hd, u, fun j _ => hF _⟩) ⟨0, 0, 0, _, _, rfl⟩
  have y41 : ∀ n, n ≤ 5 → ∀ post : SY → Prop, post (nI n, nI (2 ^ n), fun _ => 0, fun _ => 0) → wY_init_41 post (nI n) 0 0 (fun _ => 0) (fun _ => 0) := by
    intro n h5 post h
    unfold wY_init_41
    exact nm_r (ad_sl1 (by omega)) h
  unfold wpX_init
  refine br_c (fun h2 => br_c (fun h5 => ⟨65, ?_⟩) (fun h5 => ⟨65, ?_⟩)) (fun h2 => ⟨65, ?_⟩)
  · have h0 : ¬ k0 < 0 := by
      intro h
      exact absurd (Int32.lt_of_lt_of_le (by decide : (0 : Int32) < 2) h2) (Int32.not_lt.mpr (Int32.le_of_lt h))
    obtain ⟨n, hn, rfl⟩ := nI_of h0
    have h5' : n ≤ 5 := (nI_leI hn (b := 5) (by decide)).mp h5
    refine go n h5' (fun post hp => ?_)
    unfold wpY_init
    exact br_t h2 (br_t h5 (y41 n h5' post hp))
  · refine go 5 (by decide) (fun post hp => ?_)
    unfold wpY_init
    exact br_t h2 (br_f h5 (y41 5 (by decide) post hp))
  · refine go 2 (by decide) (fun post hp => ?_)
    unfold wpY_init
    exact br_f h2 (y41 2 (by decide) post hp)
end
section
/-! the owed statements of the writing methods (printed by gen18.py) -/
theorem i_vc_constant {k : Nat} {u : SX} {v : SY} (I : i_Rel k u v) (hk : k + 5 ≤ 2561) (v1 : Int32) (v2 : Int32) : wpX_constant (fun r u' => wpY_constant (fun r' v' => r' = r ∧ i_Rel (k + 5) u' v') v v1 v2) u v1 v2 := by
  have I' := i_up I
  obtain ⟨n, c, F, p, mk, pl, wn, ww, val, res, X, I0, hX, ⟨md, rl, rb, f, kk, rfl⟩, rfl⟩ := I
  have h5 := I0.1.1
  by_cases hd : ∃ j, j < 8 ∧ v1 = nI j
  rotate_left
  · unfold wpX_constant
    dsimp only
    refine (ad_xP0 hd (br_t rfl ?_))
    unfold wpY_constant
    dsimp only
    exact (ad_yP0 hd (br_t rfl ⟨rfl, I'⟩))
  obtain ⟨d, hd, ed⟩ := hd
  subst ed
  · unfold wpX_constant
    dsimp only
    refine (ad_xP1 hd (br_f (by decide) ?_))
    refine ad_makeRoom (p := p) (f := f) (k := kk) I0 (ad_Rl_p hX) ?_
    intro p1 mk1 wn1 c1 I1 hc1 hpl1
    have hX1 := ad_Rl_n hX hpl1
    dsimp only
    refine ad_value (p := p1) (f := f) (k := kk) I1 (by omega) v2 ?_
    intro r F2 p2 c2 ur I2 E2 hc2 hF2
    dsimp only
    rw [nI_clamp (by omega), ad_vs2 (by have := ur.1; omega)]
    refine ⟨vp_in_nI hd (by decide), nm_e ?_⟩
    refine ad_yconstant h5 hd ?_
    intro val' res' hw
    exact ⟨rfl, ad_done hX1 I2 E2 (ad_U_w ur (Nat.zero_le _)) hw (fun j hj => hF2 _) ⟨md, rl, rb, f, kk, rfl⟩⟩
theorem i_vc_literal {k : Nat} {u : SX} {v : SY} (I : i_Rel k u v) (hk : k + 5 ≤ 2561) (v1 : Int32) (v2 : Int32) : wpX_literal (fun r u' => wpY_literal (fun r' v' => r' = r ∧ i_Rel (k + 5) u' v') v v1 v2) u v1 v2 := by
  have I' := i_up I
  obtain ⟨n, c, F, p, mk, pl, wn, ww, val, res, X, I0, hX, ⟨md, rl, rb, f, kk, rfl⟩, rfl⟩ := I
  have h5 := I0.1.1
  by_cases hd : ∃ j, j < 8 ∧ v1 = nI j
  rotate_left
  · unfold wpX_literal
    dsimp only
    refine (ad_xP0 hd (br_t rfl ?_))
    unfold wpY_literal
    dsimp only
    exact (ad_yP0 hd (br_t rfl ⟨rfl, I'⟩))
  obtain ⟨d, hd, ed⟩ := hd
  subst ed
  by_cases hx : ∃ j, j < n ∧ v2 = nI j
  rotate_left
  · unfold wpX_literal
    dsimp only
    refine (ad_xP1 hd (br_f (by decide) (ad_xV0 rfl h5 hx (br_t rfl ?_))))
    unfold wpY_literal
    dsimp only
    exact (ad_yP1 hd (br_f (by decide) (ad_yV0 h5 hx (br_t rfl ⟨rfl, I'⟩))))
  obtain ⟨x, hx, ex⟩ := hx
  subst ex
  · unfold wpX_literal
    dsimp only
    refine (ad_xP1 hd (br_f (by decide) (ad_xV1 rfl h5 hx (br_f (by decide) ?_))))
    refine ad_makeRoom (p := p) (f := f) (k := kk) I0 (ad_Rl_p hX) ?_
    intro p1 mk1 wn1 c1 I1 hc1 hpl1
    have hX1 := ad_Rl_n hX hpl1
    dsimp only
    refine ad_bitOf (p := p1) ⟨md, rl, rb, f, kk, rfl⟩ I1 hx (by omega) ?_
    rintro r F2 p2 c2 _ ⟨md2, rl2, rb2, f2, k2, rfl⟩ I2 E2 hc2 ur hF2
    dsimp only
    rw [nI_clamp (show d < 2 ^ 31 by omega), ad_vs2 (by have := ur.1; omega)]
    refine ⟨vp_in_nI hd (by decide), nm_e ?_⟩
    refine ad_yliteral h5 hd hx ?_
    intro val' res' hw
    exact ⟨rfl, ad_done hX1 I2 E2 ur hw (fun j hj => hF2 _) ⟨md2, rl2, rb2, f2, k2, rfl⟩⟩
theorem i_vc_apply {k : Nat} {u : SX} {v : SY} (I : i_Rel k u v) (hk : k + 5 ≤ 2561) (v1 : Int32) (v2 : Int32) (v3 : Int32) (v4 : Int32) : wpX_apply (fun r u' => wpY_apply (fun r' v' => r' = r ∧ i_Rel (k + 5) u' v') v v1 v2 v3 v4) u v1 v2 v3 v4 := by
  have I' := i_up I
  obtain ⟨n, c, F, p, mk, pl, wn, ww, val, res, X, I0, hX, ⟨md, rl, rb, f, kk, rfl⟩, rfl⟩ := I
  have h5 := I0.1.1
  by_cases hd : ∃ j, j < 8 ∧ v1 = nI j
  rotate_left
  · unfold wpX_apply
    dsimp only
    refine (ad_xP0 hd (br_t rfl ?_))
    unfold wpY_apply
    dsimp only
    exact (ad_yP0 hd (br_t rfl ⟨rfl, I'⟩))
  obtain ⟨d, hd, ed⟩ := hd
  subst ed
  by_cases ha : ∃ j, j < 8 ∧ v3 = nI j
  rotate_left
  · unfold wpX_apply
    dsimp only
    refine (ad_xP1 hd (br_f (by decide) (ad_xP0 ha (br_t rfl ?_))))
    unfold wpY_apply
    dsimp only
    exact (ad_yP1 hd (br_f (by decide) (ad_yP0 ha (br_t rfl ⟨rfl, I'⟩))))
  obtain ⟨a, ha, ea⟩ := ha
  subst ea
  by_cases hb : ∃ j, j < 8 ∧ v4 = nI j
  rotate_left
  · unfold wpX_apply
    dsimp only
    refine (ad_xP1 hd (br_f (by decide) (ad_xP1 ha (br_f (by decide) (ad_xP0 hb (br_t rfl ?_))))))
    unfold wpY_apply
    dsimp only
    exact (ad_yP1 hd (br_f (by decide) (ad_yP1 ha (br_f (by decide) (ad_yP0 hb (br_t rfl ⟨rfl, I'⟩))))))
  obtain ⟨b, hb, eb⟩ := hb
  subst eb
  by_cases hm : ∃ j, j < 7 ∧ v2 = nI j
  rotate_left
  · unfold wpX_apply
    dsimp only
    refine (ad_xP1 hd (br_f (by decide) (ad_xP1 ha (br_f (by decide) (ad_xP1 hb (br_f (by decide) (ad_xO0 hm (br_t rfl ?_))))))))
    unfold wpY_apply
    dsimp only
    rcases ad_op0 hm with z | ⟨z, z'⟩
    · exact (ad_yP1 hd (br_f (by decide) (ad_yP1 ha (br_f (by decide) (ad_yP1 hb (br_f (by decide) (br_t z ⟨rfl, I'⟩)))))))
    · exact (ad_yP1 hd (br_f (by decide) (ad_yP1 ha (br_f (by decide) (ad_yP1 hb (br_f (by decide) (br_f z (br_f (Int32.not_le.mpr z') ⟨rfl, I'⟩))))))))
  obtain ⟨m, hm, em⟩ := hm
  subst em
  · unfold wpX_apply
    dsimp only
    refine (ad_xP1 hd (br_f (by decide) (ad_xP1 ha (br_f (by decide) (ad_xP1 hb (br_f (by decide) (ad_xO1 hm (br_f (by decide) ?_))))))))
    refine ad_makeRoom (p := p) (f := f) (k := kk) I0 (ad_Rl_p hX) ?_
    intro p1 mk1 wn1 c1 I1 hc1 hpl1
    have hX1 := ad_Rl_n hX hpl1
    dsimp only
    rw [nI_clamp (show a < 2 ^ 31 by omega), nI_clamp (show b < 2 ^ 31 by omega), (hX1 a ha).1, (hX1 b hb).1]
    refine ⟨vp_in_nI ha (by decide), vp_in_nI hb (by decide), vp_in_nI ha (by decide), ?_⟩
    refine ad_comb_op (p := p1) ⟨md, rl, rb, f, kk, rfl⟩ I1 hm (hX1 a ha).2.1 (hX1 b hb).2.1 (by omega) ?_
    rintro r F2 p2 c2 _ ⟨md2, rl2, rb2, f2, k2, rfl⟩ I2 E2 hc2 ur hF2
    dsimp only
    rw [nI_clamp (show d < 2 ^ 31 by omega), ad_vs2 (by have := ur.1; omega)]
    refine ⟨vp_in_nI hd (by decide), nm_e ?_⟩
    refine ad_yapply h5 hd hm ha hb ?_
    intro val' res' hw
    exact ⟨rfl, ad_done hX1 I2 E2 ur hw (fun j hj => by rw [hF2, (hX1 a ha).2.2 j hj, (hX1 b hb).2.2 j hj]) ⟨md2, rl2, rb2, f2, k2, rfl⟩⟩
theorem i_vc_choose {k : Nat} {u : SX} {v : SY} (I : i_Rel k u v) (hk : k + 5 ≤ 2561) (v1 : Int32) (v2 : Int32) (v3 : Int32) (v4 : Int32) : wpX_choose (fun r u' => wpY_choose (fun r' v' => r' = r ∧ i_Rel (k + 5) u' v') v v1 v2 v3 v4) u v1 v2 v3 v4 := by
  have I' := i_up I
  obtain ⟨n, c, F, p, mk, pl, wn, ww, val, res, X, I0, hX, ⟨md, rl, rb, f, kk, rfl⟩, rfl⟩ := I
  have h5 := I0.1.1
  by_cases hd : ∃ j, j < 8 ∧ v1 = nI j
  rotate_left
  · unfold wpX_choose
    dsimp only
    refine (ad_xP0 hd (br_t rfl ?_))
    unfold wpY_choose
    dsimp only
    exact (ad_yP0 hd (br_t rfl ⟨rfl, I'⟩))
  obtain ⟨d, hd, ed⟩ := hd
  subst ed
  by_cases hg : ∃ j, j < 8 ∧ v2 = nI j
  rotate_left
  · unfold wpX_choose
    dsimp only
    refine (ad_xP1 hd (br_f (by decide) (ad_xP0 hg (br_t rfl ?_))))
    unfold wpY_choose
    dsimp only
    exact (ad_yP1 hd (br_f (by decide) (ad_yP0 hg (br_t rfl ⟨rfl, I'⟩))))
  obtain ⟨g, hg, eg⟩ := hg
  subst eg
  by_cases ha : ∃ j, j < 8 ∧ v3 = nI j
  rotate_left
  · unfold wpX_choose
    dsimp only
    refine (ad_xP1 hd (br_f (by decide) (ad_xP1 hg (br_f (by decide) (ad_xP0 ha (br_t rfl ?_))))))
    unfold wpY_choose
    dsimp only
    exact (ad_yP1 hd (br_f (by decide) (ad_yP1 hg (br_f (by decide) (ad_yP0 ha (br_t rfl ⟨rfl, I'⟩))))))
  obtain ⟨a, ha, ea⟩ := ha
  subst ea
  by_cases hb : ∃ j, j < 8 ∧ v4 = nI j
  rotate_left
  · unfold wpX_choose
    dsimp only
    refine (ad_xP1 hd (br_f (by decide) (ad_xP1 hg (br_f (by decide) (ad_xP1 ha (br_f (by decide) (ad_xP0 hb (br_t rfl ?_))))))))
    unfold wpY_choose
    dsimp only
    exact (ad_yP1 hd (br_f (by decide) (ad_yP1 hg (br_f (by decide) (ad_yP1 ha (br_f (by decide) (ad_yP0 hb (br_t rfl ⟨rfl, I'⟩))))))))
  obtain ⟨b, hb, eb⟩ := hb
  subst eb
  · unfold wpX_choose
    dsimp only
    refine (ad_xP1 hd (br_f (by decide) (ad_xP1 hg (br_f (by decide) (ad_xP1 ha (br_f (by decide) (ad_xP1 hb (br_f (by decide) ?_))))))))
    refine ad_makeRoom (p := p) (f := f) (k := kk) I0 (ad_Rl_p hX) ?_
    intro p1 mk1 wn1 c1 I1 hc1 hpl1
    have hX1 := ad_Rl_n hX hpl1
    dsimp only
    rw [nI_clamp (show a < 2 ^ 31 by omega), nI_clamp (show b < 2 ^ 31 by omega), nI_clamp (show g < 2 ^ 31 by omega), (hX1 a ha).1, (hX1 b hb).1, (hX1 g hg).1]
    refine ⟨vp_in_nI ha (by decide), vp_in_nI hb (by decide), vp_in_nI hg (by decide), ?_⟩
    refine ad_comb_ch (p := p1) ⟨md, rl, rb, f, kk, rfl⟩ I1 (hX1 a ha).2.1 (hX1 b hb).2.1 (hX1 g hg).2.1 (by omega) ?_
    rintro r F2 p2 c2 _ ⟨md2, rl2, rb2, f2, k2, rfl⟩ I2 E2 hc2 ur hF2
    dsimp only
    rw [nI_clamp (show d < 2 ^ 31 by omega), ad_vs2 (by have := ur.1; omega)]
    refine ⟨vp_in_nI hd (by decide), nm_e ?_⟩
    refine ad_ychoose h5 hd hg ha hb ?_
    intro val' res' hw
    exact ⟨rfl, ad_done hX1 I2 E2 ur hw (fun j hj => by rw [hF2, (hX1 a ha).2.2 j hj, (hX1 b hb).2.2 j hj, (hX1 g hg).2.2 j hj]) ⟨md2, rl2, rb2, f2, k2, rfl⟩⟩
theorem i_vc_fold {k : Nat} {u : SX} {v : SY} (I : i_Rel k u v) (hk : k + 5 ≤ 2561) (v1 : Int32) (v2 : Int32) (v3 : Int32) (v4 : Int32) : wpX_fold (fun r u' => wpY_fold (fun r' v' => r' = r ∧ i_Rel (k + 5) u' v') v v1 v2 v3 v4) u v1 v2 v3 v4 := by
  have I' := i_up I
  obtain ⟨n, c, F, p, mk, pl, wn, ww, val, res, X, I0, hX, ⟨md, rl, rb, f, kk, rfl⟩, rfl⟩ := I
  have h5 := I0.1.1
  by_cases hd : ∃ j, j < 8 ∧ v1 = nI j
  rotate_left
  · unfold wpX_fold
    dsimp only
    refine (ad_xP0 hd (br_t rfl ?_))
    unfold wpY_fold
    dsimp only
    exact (ad_yP0 hd (br_t rfl ⟨rfl, I'⟩))
  obtain ⟨d, hd, ed⟩ := hd
  subst ed
  by_cases ha : ∃ j, j < 8 ∧ v3 = nI j
  rotate_left
  · unfold wpX_fold
    dsimp only
    refine (ad_xP1 hd (br_f (by decide) (ad_xP0 ha (br_t rfl ?_))))
    unfold wpY_fold
    dsimp only
    exact (ad_yP1 hd (br_f (by decide) (ad_yP0 ha (br_t rfl ⟨rfl, I'⟩))))
  obtain ⟨a, ha, ea⟩ := ha
  subst ea
  by_cases hm : ∃ j, j < 7 ∧ v2 = nI j
  rotate_left
  · unfold wpX_fold
    dsimp only
    refine (ad_xP1 hd (br_f (by decide) (ad_xP1 ha (br_f (by decide) (ad_xO0 hm (br_t rfl ?_))))))
    unfold wpY_fold
    dsimp only
    rcases ad_op0 hm with z | ⟨z, z'⟩
    · exact (ad_yP1 hd (br_f (by decide) (ad_yP1 ha (br_f (by decide) (br_t z ⟨rfl, I'⟩)))))
    · exact (ad_yP1 hd (br_f (by decide) (ad_yP1 ha (br_f (by decide) (br_f z (br_t z' ⟨rfl, I'⟩))))))
  obtain ⟨m, hm, em⟩ := hm
  subst em
  by_cases hx : ∃ j, j < n ∧ v4 = nI j
  rotate_left
  · unfold wpX_fold
    dsimp only
    refine (ad_xP1 hd (br_f (by decide) (ad_xP1 ha (br_f (by decide) (ad_xO1 hm (br_f (by decide) (ad_xV0 rfl h5 hx (br_t rfl ?_))))))))
    unfold wpY_fold
    dsimp only
    exact (ad_yP1 hd (br_f (by decide) (ad_yP1 ha (br_f (by decide) (br_f (nI_pos (by omega)) (pk_lt 6 m (fun z => absurd z (by omega)) (fun _ => (ad_yV0 h5 hx (br_t rfl ⟨rfl, I'⟩)))))))))
  obtain ⟨x, hx, ex⟩ := hx
  subst ex
  · unfold wpX_fold
    dsimp only
    refine (ad_xP1 hd (br_f (by decide) (ad_xP1 ha (br_f (by decide) (ad_xO1 hm (br_f (by decide) (ad_xV1 rfl h5 hx (br_f (by decide) ?_))))))))
    refine ad_makeRoom (p := p) (f := f) (k := kk) I0 (ad_Rl_p hX) ?_
    intro p1 mk1 wn1 c1 I1 hc1 hpl1
    have hX1 := ad_Rl_n hX hpl1
    dsimp only
    rw [nI_clamp (show a < 2 ^ 31 by omega), (hX1 a ha).1]
    refine ⟨vp_in_nI ha (by decide), ?_⟩
    refine ad_restrict (p := p1) ⟨md, rl, rb, f, kk, rfl⟩ I1 false hx (hX1 a ha).2.1 (by omega) ?_
    rintro r2 F2 p2 c2 _ ⟨md2, rl2, rb2, f2, k2, rfl⟩ I2 E2 hc2 u2 hF2
    dsimp only
    rw [(hX1 a ha).1]
    refine ⟨vp_in_nI ha (by decide), ?_⟩
    refine ad_restrict (p := p2) ⟨md2, rl2, rb2, f2, k2, rfl⟩ I2 true hx (ad_Ext_U E2 (hX1 a ha).2.1) (by omega) ?_
    rintro r3 F3 p3 c3 _ ⟨md3, rl3, rb3, f3, k3, rfl⟩ I3 E3 hc3 u3 hF3
    dsimp only
    have q0 : ∀ j, j < 2 ^ n → F3 r2 (ad_bt j) = val (32 * a + ad_sb j x false) := by
      intro j hj
      rw [ad_Ext_F E3 u2, hF2, ← ad_sb_bt, (hX1 a ha).2.2 _ (ad_sb_lt false hj hx)]
    have q1 : ∀ j, j < 2 ^ n → F3 r3 (ad_bt j) = val (32 * a + ad_sb j x true) := by
      intro j hj
      rw [hF3, ad_Ext_F E2 (hX1 a ha).2.1, ← ad_sb_bt, (hX1 a ha).2.2 _ (ad_sb_lt true hj hx)]
    refine ad_comb_op (p := p3) ⟨md3, rl3, rb3, f3, k3, rfl⟩ I3 hm (ad_Ext_U E3 u2) u3 (by omega) ?_
    rintro r F4 p4 c4 _ ⟨md4, rl4, rb4, f4, k4, rfl⟩ I4 E4 hc4 ur hF4
    dsimp only
    rw [nI_clamp (show d < 2 ^ 31 by omega), ad_vs2 (by have := ur.1; omega)]
    refine ⟨vp_in_nI hd (by decide), nm_e ?_⟩
    refine ad_yfold h5 hd hm ha hx ?_
    intro val' res' hw
    exact ⟨rfl, ad_done hX1 I4 (ad_Ext_t E2 (ad_Ext_t E3 E4)) ur hw (fun j hj => by rw [hF4, q0 j hj, q1 j hj]) ⟨md4, rl4, rb4, f4, k4, rfl⟩⟩
theorem i_vc_substitute {k : Nat} {u : SX} {v : SY} (I : i_Rel k u v) (hk : k + 5 ≤ 2561) (v1 : Int32) (v2 : Int32) (v3 : Int32) (v4 : Int32) : wpX_substitute (fun r u' => wpY_substitute (fun r' v' => r' = r ∧ i_Rel (k + 5) u' v') v v1 v2 v3 v4) u v1 v2 v3 v4 := by
  have I' := i_up I
  obtain ⟨n, c, F, p, mk, pl, wn, ww, val, res, X, I0, hX, ⟨md, rl, rb, f, kk, rfl⟩, rfl⟩ := I
  have h5 := I0.1.1
  by_cases hd : ∃ j, j < 8 ∧ v1 = nI j
  rotate_left
  · unfold wpX_substitute
    dsimp only
    refine (ad_xP0 hd (br_t rfl ?_))
    unfold wpY_substitute
    dsimp only
    exact (ad_yP0 hd (br_t rfl ⟨rfl, I'⟩))
  obtain ⟨d, hd, ed⟩ := hd
  subst ed
  by_cases ha : ∃ j, j < 8 ∧ v2 = nI j
  rotate_left
  · unfold wpX_substitute
    dsimp only
    refine (ad_xP1 hd (br_f (by decide) (ad_xP0 ha (br_t rfl ?_))))
    unfold wpY_substitute
    dsimp only
    exact (ad_yP1 hd (br_f (by decide) (ad_yP0 ha (br_t rfl ⟨rfl, I'⟩))))
  obtain ⟨a, ha, ea⟩ := ha
  subst ea
  by_cases hb : ∃ j, j < 8 ∧ v4 = nI j
  rotate_left
  · unfold wpX_substitute
    dsimp only
    refine (ad_xP1 hd (br_f (by decide) (ad_xP1 ha (br_f (by decide) (ad_xP0 hb (br_t rfl ?_))))))
    unfold wpY_substitute
    dsimp only
    exact (ad_yP1 hd (br_f (by decide) (ad_yP1 ha (br_f (by decide) (ad_yP0 hb (br_t rfl ⟨rfl, I'⟩))))))
  obtain ⟨b, hb, eb⟩ := hb
  subst eb
  by_cases hx : ∃ j, j < n ∧ v3 = nI j
  rotate_left
  · unfold wpX_substitute
    dsimp only
    refine (ad_xP1 hd (br_f (by decide) (ad_xP1 ha (br_f (by decide) (ad_xP1 hb (br_f (by decide) (ad_xV0 rfl h5 hx (br_t rfl ?_))))))))
    unfold wpY_substitute
    dsimp only
    exact (ad_yP1 hd (br_f (by decide) (ad_yP1 ha (br_f (by decide) (ad_yP1 hb (br_f (by decide) (ad_yV0 h5 hx (br_t rfl ⟨rfl, I'⟩))))))))
  obtain ⟨x, hx, ex⟩ := hx
  subst ex
  · unfold wpX_substitute
    dsimp only
    refine (ad_xP1 hd (br_f (by decide) (ad_xP1 ha (br_f (by decide) (ad_xP1 hb (br_f (by decide) (ad_xV1 rfl h5 hx (br_f (by decide) ?_))))))))
    refine ad_makeRoom (p := p) (f := f) (k := kk) I0 (ad_Rl_p hX) ?_
    intro p1 mk1 wn1 c1 I1 hc1 hpl1
    have hX1 := ad_Rl_n hX hpl1
    dsimp only
    rw [nI_clamp (show a < 2 ^ 31 by omega), (hX1 a ha).1]
    refine ⟨vp_in_nI ha (by decide), ?_⟩
    refine ad_restrict (p := p1) ⟨md, rl, rb, f, kk, rfl⟩ I1 false hx (hX1 a ha).2.1 (by omega) ?_
    rintro r2 F2 p2 c2 _ ⟨md2, rl2, rb2, f2, k2, rfl⟩ I2 E2 hc2 u2 hF2
    dsimp only
    rw [(hX1 a ha).1]
    refine ⟨vp_in_nI ha (by decide), ?_⟩
    refine ad_restrict (p := p2) ⟨md2, rl2, rb2, f2, k2, rfl⟩ I2 true hx (ad_Ext_U E2 (hX1 a ha).2.1) (by omega) ?_
    rintro r3 F3 p3 c3 _ ⟨md3, rl3, rb3, f3, k3, rfl⟩ I3 E3 hc3 u3 hF3
    dsimp only
    have q0 : ∀ j, j < 2 ^ n → F3 r2 (ad_bt j) = val (32 * a + ad_sb j x false) := by
      intro j hj
      rw [ad_Ext_F E3 u2, hF2, ← ad_sb_bt, (hX1 a ha).2.2 _ (ad_sb_lt false hj hx)]
    have q1 : ∀ j, j < 2 ^ n → F3 r3 (ad_bt j) = val (32 * a + ad_sb j x true) := by
      intro j hj
      rw [hF3, ad_Ext_F E2 (hX1 a ha).2.1, ← ad_sb_bt, (hX1 a ha).2.2 _ (ad_sb_lt true hj hx)]
    have E13 := ad_Ext_t E2 E3
    rw [nI_clamp (show b < 2 ^ 31 by omega), (hX1 b hb).1]
    refine ⟨vp_in_nI hb (by decide), ?_⟩
    refine ad_comb_ch (p := p3) ⟨md3, rl3, rb3, f3, k3, rfl⟩ I3 u3 (ad_Ext_U E3 u2) (ad_Ext_U E13 (hX1 b hb).2.1) (by omega) ?_
    rintro r F4 p4 c4 _ ⟨md4, rl4, rb4, f4, k4, rfl⟩ I4 E4 hc4 ur hF4
    dsimp only
    rw [nI_clamp (show d < 2 ^ 31 by omega), ad_vs2 (by have := ur.1; omega)]
    refine ⟨vp_in_nI hd (by decide), nm_e ?_⟩
    refine ad_ysubstitute h5 hd ha hx hb ?_
    intro val' res' hw
    refine ⟨rfl, ad_done hX1 I4 (ad_Ext_t E2 (ad_Ext_t E3 E4)) ur hw (fun j hj => ?_) ⟨md4, rl4, rb4, f4, k4, rfl⟩⟩
    rw [hF4, q0 j hj, q1 j hj, ad_Ext_F E13 (hX1 b hb).2.1, (hX1 b hb).2.2 j hj]
    by_cases z : val (32 * b + j) = 0
    · rw [if_pos z, decide_eq_true z]
      rfl
    · rw [if_neg z, decide_eq_false z]
      rfl
theorem i_vc_exchange {k : Nat} {u : SX} {v : SY} (I : i_Rel k u v) (hk : k + 5 ≤ 2561) (v1 : Int32) (v2 : Int32) (v3 : Int32) (v4 : Int32) : wpX_exchange (fun r u' => wpY_exchange (fun r' v' => r' = r ∧ i_Rel (k + 5) u' v') v v1 v2 v3 v4) u v1 v2 v3 v4 := by
  have I' := i_up I
  obtain ⟨n, c, F, p, mk, pl, wn, ww, val, res, X, I0, hX, ⟨md, rl, rb, f, kk, rfl⟩, rfl⟩ := I
  have h5 := I0.1.1
  by_cases hd : ∃ j, j < 8 ∧ v1 = nI j
  rotate_left
  · unfold wpX_exchange
    dsimp only
    refine (ad_xP0 hd (br_t rfl ?_))
    unfold wpY_exchange
    dsimp only
    exact (ad_yP0 hd (br_t rfl ⟨rfl, I'⟩))
  obtain ⟨d, hd, ed⟩ := hd
  subst ed
  by_cases ha : ∃ j, j < 8 ∧ v2 = nI j
  rotate_left
  · unfold wpX_exchange
    dsimp only
    refine (ad_xP1 hd (br_f (by decide) (ad_xP0 ha (br_t rfl ?_))))
    unfold wpY_exchange
    dsimp only
    exact (ad_yP1 hd (br_f (by decide) (ad_yP0 ha (br_t rfl ⟨rfl, I'⟩))))
  obtain ⟨a, ha, ea⟩ := ha
  subst ea
  by_cases hx : ∃ j, j < n ∧ v3 = nI j
  rotate_left
  · unfold wpX_exchange
    dsimp only
    refine (ad_xP1 hd (br_f (by decide) (ad_xP1 ha (br_f (by decide) (ad_xV0 rfl h5 hx (br_t rfl ?_))))))
    unfold wpY_exchange
    dsimp only
    exact (ad_yP1 hd (br_f (by decide) (ad_yP1 ha (br_f (by decide) (ad_yV0 h5 hx (br_t rfl ⟨rfl, I'⟩))))))
  obtain ⟨x, hx, ex⟩ := hx
  subst ex
  by_cases hy : ∃ j, j < n ∧ v4 = nI j
  rotate_left
  · unfold wpX_exchange
    dsimp only
    refine (ad_xP1 hd (br_f (by decide) (ad_xP1 ha (br_f (by decide) (ad_xV1 rfl h5 hx (br_f (by decide) (ad_xV0 rfl h5 hy (br_t rfl ?_))))))))
    unfold wpY_exchange
    dsimp only
    exact (ad_yP1 hd (br_f (by decide) (ad_yP1 ha (br_f (by decide) (ad_yV1 h5 hx (br_f (by decide) (ad_yV0 h5 hy (br_t rfl ⟨rfl, I'⟩))))))))
  obtain ⟨y, hy, ey⟩ := hy
  subst ey
  · unfold wpX_exchange
    dsimp only
    refine (ad_xP1 hd (br_f (by decide) (ad_xP1 ha (br_f (by decide) (ad_xV1 rfl h5 hx (br_f (by decide) (ad_xV1 rfl h5 hy (br_f (by decide) ?_))))))))
    refine ad_makeRoom (p := p) (f := f) (k := kk) I0 (ad_Rl_p hX) ?_
    intro p1 mk1 wn1 c1 I1 hc1 hpl1
    have hX1 := ad_Rl_n hX hpl1
    dsimp only
    rw [nI_clamp (show a < 2 ^ 31 by omega), (hX1 a ha).1]
    have hxa := (hX1 a ha).2.1.1
    have q : ∀ j, j < 2 ^ n → F (X a) (ad_up (ad_up (ad_bt j) x (ad_bt j y)) y (ad_bt j x)) = val (32 * a + ad_sb (ad_sb j x (ad_bt j y)) y (ad_bt j x)) := by
      intro j hj
      rw [← ad_sb_bt, ← ad_sb_bt, (hX1 a ha).2.2 _ (ad_sb_lt _ (ad_sb_lt _ hj hx) hy)]
    refine ⟨vp_in_nI ha (by decide), nm_e ?_⟩
    refine pk_eq x y (fun exy => ?_) (fun exy => ?_)
    · unfold wX_exchange_64
      rw [nI_clamp (show d < 2 ^ 31 by omega), ad_vs2 (by omega)]
      refine ⟨vp_in_nI hd (by decide), nm_e ?_⟩
      refine ad_yexchange h5 hd ha hx hy ?_
      intro val' res' hw
      refine ⟨rfl, ad_done hX1 I1 ad_Ext_r (hX1 a ha).2.1 hw (fun j hj => ?_) ⟨md, rl, rb, f, kk, rfl⟩⟩
      rw [← q j hj, exy, ad_up_up, ad_up_id]
    · refine ad_exchanged (p := p1) ⟨md, rl, rb, f, kk, rfl⟩ I1 hx hy (hX1 a ha).2.1 (by omega) ?_
      rintro r F2 p2 c2 _ ⟨md2, rl2, rb2, f2, k2, rfl⟩ I2 E2 ur hF2
      dsimp only
      unfold wX_exchange_64
      rw [nI_clamp (show d < 2 ^ 31 by omega), ad_vs2 (by have := ur.1; omega)]
      refine ⟨vp_in_nI hd (by decide), nm_e ?_⟩
      refine ad_yexchange h5 hd ha hx hy ?_
      intro val' res' hw
      exact ⟨rfl, ad_done hX1 I2 E2 ur hw (fun j hj => by rw [hF2, q j hj]) ⟨md2, rl2, rb2, f2, k2, rfl⟩⟩
end
section
/-! the owed statements of the reading methods -/
theorem i_vc_valueAt {k : Nat} {u : SX} {v : SY} (I : i_Rel k u v) (hk : k + 5 ≤ 2561) (v1 : Int32) (v2 : Int32) : wpX_valueAt (fun r => wpY_valueAt (fun r' => r' = r ∧ i_Rel (k + 5) u v) v v1 v2) u v1 v2 := by
  have I' := i_up I
  obtain ⟨n, c, F, p, mk, pl, wn, ww, val, res, X, I0, hX, ⟨md, rl, rb, f, kk, rfl⟩, rfl⟩ := I
  have h5 := I0.1.1
  have hp5 := ad_p5 h5
  by_cases hd : ∃ j, j < 8 ∧ v1 = nI j
  rotate_left
  · unfold wpX_valueAt
    dsimp only
    refine ad_xP0 hd (br_t rfl ?_)
    unfold wpY_valueAt
    dsimp only
    exact ad_yP0 hd (br_t rfl ⟨rfl, I'⟩)
  obtain ⟨d, hd, rfl⟩ := hd
  obtain ⟨ex, ux, ht⟩ := hX d hd
  rcases pk_ix v2 (n := 2 ^ n) (by omega) with h | h | ⟨j, hj, rfl⟩
  · unfold wpX_valueAt
    dsimp only
    refine ad_xP1 hd (br_f (by decide) (br_t h ?_))
    unfold wpY_valueAt
    dsimp only
    exact ad_yP1 hd (br_f (by decide) (br_t h ⟨rfl, I'⟩))
  · have h0 : ¬ v2 < 0 := Int32.not_lt.mpr (Int32.le_trans (nI_pos' (by omega)) h)
    have hn : ¬ v2 < nI (2 ^ n) := Int32.not_lt.mpr h
    unfold wpX_valueAt
    dsimp only
    rw [ad_sl1 (by omega)]
    refine ad_xP1 hd (br_f (by decide) (br_f h0 (br_f hn ?_)))
    unfold wpY_valueAt
    dsimp only
    exact ad_yP1 hd (br_f (by decide) (br_f h0 (br_f hn ⟨rfl, I'⟩)))
  · refine ad_xvalueAt (p := p) (f := f) (k := kk) I0 rfl hd ex ux hj ?_
    refine ad_yvalueAt h5 hd hj ⟨(ht j hj).symm, I'⟩
theorem i_vc_same {k : Nat} {u : SX} {v : SY} (I : i_Rel k u v) (hk : k + 5 ≤ 2561) (v1 : Int32) (v2 : Int32) : wpX_same (fun r => wpY_same (fun r' => r' = r ∧ i_Rel (k + 5) u v) v v1 v2) u v1 v2 := by
  have I' := i_up I
  obtain ⟨n, c, F, p, mk, pl, wn, ww, val, res, X, I0, hX, ⟨md, rl, rb, f, kk, rfl⟩, rfl⟩ := I
  have h5 := I0.1.1
  unfold wpX_same
  dsimp only
  by_cases hd : ∃ j, j < 8 ∧ v1 = nI j
  rotate_left
  · refine ad_xP0 hd (br_t rfl ?_)
    unfold wpY_same
    dsimp only
    exact ad_yP0 hd (br_t rfl ⟨rfl, I'⟩)
  obtain ⟨d, hd, rfl⟩ := hd
  by_cases hb : ∃ j, j < 8 ∧ v2 = nI j
  rotate_left
  · refine ad_xP1 hd (br_f (by decide) (ad_xP0 hb (br_t rfl ?_)))
    unfold wpY_same
    dsimp only
    exact ad_yP1 hd (br_f (by decide) (ad_yP0 hb (br_t rfl ⟨rfl, I'⟩)))
  obtain ⟨b, hb, rfl⟩ := hb
  obtain ⟨ex, ux, ht⟩ := hX d hd
  obtain ⟨ey, uy, ht2⟩ := hX b hb
  refine ad_xP1 hd (br_f (by decide) (ad_xP1 hb (br_f (by decide) ⟨vp_in_nI hd (by decide), vp_in_nI hb (by decide), ?_⟩)))
  rw [nI_clamp (show d < 2 ^ 31 by omega), nI_clamp (show b < 2 ^ 31 by omega), ex, ey]
  refine pk_eq (X d) (X b) (fun e => ?_) (fun e => ?_) rfl rfl (by have := ux.1; omega) (by have := uy.1; omega)
  · refine ad_ysame h5 hd hb (fun _ => ⟨rfl, I'⟩) (fun hne => absurd (fun j hj => ?_) hne)
    rw [← ht j hj, ← ht2 j hj, e]
  · refine ad_ysame h5 hd hb (fun hall => absurd (ad_eqt I0 ux uy (fun j hj => ?_)) e) (fun _ => ⟨rfl, I'⟩)
    rw [ht j hj, ht2 j hj, hall j hj]
theorem i_vc_parts {k : Nat} {u : SX} {v : SY} (I : i_Rel k u v) (hk : k + 5 ≤ 2561) (v1 : Int32) : wpX_parts (fun r u' => wpY_parts (fun r' => r' = r ∧ i_Rel (k + 5) u' v) v v1) u v1 := by
  have I' := i_up I
  obtain ⟨n, c, F, p, mk, pl, wn, ww, val, res, X, I0, hX, ⟨md, rl, rb, f, kk, rfl⟩, rfl⟩ := I
  have h5 := I0.1.1
  by_cases hd : ∃ j, j < 8 ∧ v1 = nI j
  rotate_left
  · unfold wpX_parts
    dsimp only
    refine ad_xP0 hd (br_t rfl ?_)
    unfold wpY_parts
    dsimp only
    exact ad_yP0 hd (br_t rfl ⟨rfl, I'⟩)
  obtain ⟨d, hd, rfl⟩ := hd
  obtain ⟨ex, ux, ht⟩ := hX d hd
  refine ad_xparts (p := p) (f := f) (k := kk) I0 hd ex ux ?_
  intro mk' wn' hM hx
  obtain ⟨W, hW, hc⟩ := ad_partsEq I0 (X := X) (val := val) hM.1 (a := 64 * d) (b := 64 * d + 64) (by omega) (fun N n1 n2 => by
    rw [show N / 64 = d by omega]
    exact ⟨ux, hx, ht⟩) (fun y hy my => ⟨d, Nat.le_refl _, Nat.le_refl _, hM.2 y hy my⟩)
  unfold wpY_parts
  dsimp only
  rw [show (64 : Int32) * nI d = nI (64 * d) from pk_mul 64 d, show nI (64 * d) + 64 = nI (64 * d + 64) from nI_add (64 * d) 64]
  refine ad_yP1 hd (br_f (by decide) (ad_differentParts h5 (by omega) (by omega) hW ?_))
  rw [hc]
  exact ⟨rfl, ad_keepR I0 hX ⟨md, rl, rb, f, kk, rfl⟩⟩
theorem i_vc_countOf {k : Nat} {u : SX} {v : SY} (I : i_Rel k u v) (hk : k + 5 ≤ 2561) (v1 : Int32) (v2 : Int32) : wpX_countOf (fun r u' => wpY_countOf (fun r' => r' = r ∧ i_Rel (k + 5) u' v) v v1 v2) u v1 v2 := by
  have I' := i_up I
  obtain ⟨n, c, F, p, mk, pl, wn, ww, val, res, X, I0, hX, ⟨md, rl, rb, f, kk, rfl⟩, rfl⟩ := I
  have h5 := I0.1.1
  by_cases hd : ∃ j, j < 8 ∧ v1 = nI j
  rotate_left
  · unfold wpX_countOf
    dsimp only
    refine ad_xP0 hd (br_t rfl ?_)
    unfold wpY_countOf
    dsimp only
    exact ad_yP0 hd (br_t rfl ⟨rfl, I'⟩)
  obtain ⟨d, hd, rfl⟩ := hd
  obtain ⟨ex, ux, ht⟩ := hX d hd
  refine ad_xcountOf (p := p) (f := f) (k := kk) I0 rfl hd ex ux v2 ?_
  intro wn' ww'
  refine ad_ycountOf h5 hd ⟨?_, ad_keepR I0 hX ⟨md, rl, rb, f, kk, rfl⟩⟩
  unfold ad_Sg
  congr 1
  refine ad_sm_e (fun j hj => ?_)
  dsimp only
  rw [ht j hj]
theorem i_vc_support {k : Nat} {u : SX} {v : SY} (I : i_Rel k u v) (hk : k + 5 ≤ 2561) (v1 : Int32) : wpX_support (fun r u' => wpY_support (fun r' => r' = r ∧ i_Rel (k + 5) u' v) v v1) u v1 := by
  have I' := i_up I
  obtain ⟨n, c, F, p, mk, pl, wn, ww, val, res, X, I0, hX, ⟨md, rl, rb, f, kk, rfl⟩, rfl⟩ := I
  have h5 := I0.1.1
  by_cases hd : ∃ j, j < 8 ∧ v1 = nI j
  rotate_left
  · unfold wpX_support
    dsimp only
    refine ad_xP0 hd (br_t rfl ?_)
    unfold wpY_support
    dsimp only
    exact ad_yP0 hd (br_t rfl ⟨rfl, I'⟩)
  obtain ⟨d, hd, rfl⟩ := hd
  obtain ⟨ex, ux, ht⟩ := hX d hd
  refine ad_xsupport (p := p) (f := f) (k := kk) I0 hd ex ux ?_
  intro mk' wn' m hM hx hm
  refine ad_ysupport h5 hd ?_
  intro m' hm'
  refine ⟨?_, ad_keepR I0 hX ⟨md, rl, rb, f, kk, rfl⟩⟩
  rw [ad_supEq I0 ux hx hM ht hm hm']
theorem i_vc_total {k : Nat} {u : SX} {v : SY} (I : i_Rel k u v) (hk : k + 5 ≤ 2561) (v1 : Int32) : wpX_total (fun r u' => wpY_total (fun r' => r' = r ∧ i_Rel (k + 5) u' v) v v1) u v1 := by
  have I' := i_up I
  obtain ⟨n, c, F, p, mk, pl, wn, ww, val, res, X, I0, hX, ⟨md, rl, rb, f, kk, rfl⟩, rfl⟩ := I
  have h5 := I0.1.1
  by_cases hd : ∃ j, j < 8 ∧ v1 = nI j
  rotate_left
  · unfold wpX_total
    dsimp only
    refine ad_xP0 hd (br_t rfl ?_)
    unfold wpY_total
    dsimp only
    exact ad_yP0 hd (br_t rfl ⟨rfl, I'⟩)
  obtain ⟨d, hd, rfl⟩ := hd
  obtain ⟨ex, ux, ht⟩ := hX d hd
  refine ad_xtotal (p := p) (f := f) (k := kk) I0 rfl hd ex ux ?_
  intro wn' ww'
  refine ad_ytotal h5 hd ⟨?_, ad_keepR I0 hX ⟨md, rl, rb, f, kk, rfl⟩⟩
  unfold ad_Sg
  congr 1
  refine ad_sm_e (fun j hj => ?_)
  dsimp only
  rw [ht j hj]
theorem i_vc_allParts {k : Nat} {u : SX} {v : SY} (I : i_Rel k u v) (hk : k + 5 ≤ 2561) : wpX_allParts (fun r u' => wpY_allParts (fun r' => r' = r ∧ i_Rel (k + 5) u' v) v) u := by
  obtain ⟨n, c, F, p, mk, pl, wn, ww, val, res, X, I0, hX, ⟨md, rl, rb, f, kk, rfl⟩, rfl⟩ := I
  have h5 := I0.1.1
  refine ad_xall (p := p) (f := f) (k := kk) I0 X (fun d hd => ⟨(hX d hd).1, (hX d hd).2.1⟩) ?_
  intro mk' wn' hM hx
  obtain ⟨W, hW, hc⟩ := ad_partsEq I0 (X := X) (val := val) hM.1 (a := 0) (b := 512) (by omega) (fun N n1 n2 => by
    have hd : N / 64 < 8 := by omega
    exact ⟨(hX _ hd).2.1, hx _ hd, (hX _ hd).2.2⟩) (fun y hy my => by
    obtain ⟨d, hd, h⟩ := hM.2 y hy my
    exact ⟨d, by omega, by omega, h⟩)
  unfold wpY_allParts
  dsimp only
  refine ad_differentParts (a := 0) (b := 512) h5 (by omega) (by omega) hW ?_
  rw [hc]
  exact ⟨rfl, ad_keepR I0 hX ⟨md, rl, rb, f, kk, rfl⟩⟩
end
