section
/-! pure rows to paste: stores, nI and lN arithmetic, masks, shifts, narrowing, branches by naturals (pk_le, pk_lt, pk_eq), loops (lp1 .. lp16: the measure of the state; rp1 ..: recursion), negatives. Take what you need -/
theorem pk_us {f : Nat → Int32} {k : Nat} {x : Int32} : upd f k x k = x := if_pos rfl
theorem pk_un {f : Nat → Int32} {k j : Nat} {x : Int32} (h : j ≠ k) : upd f k x j = f j := if_neg h
theorem pk_uLs {f : Nat → Int64} {k : Nat} {x : Int64} : vp_updL f k x k = x := if_pos rfl
theorem pk_uLn {f : Nat → Int64} {k j : Nat} {x : Int64} (h : j ≠ k) : vp_updL f k x j = f j := if_neg h
theorem pk_sub {a b : Nat} (h : b ≤ a) : nI a - nI b = nI (a - b) := by
  obtain ⟨c, rfl⟩ : ∃ c, a = c + b := ⟨a - b, by omega⟩
  rw [← nI_add, Int32.add_sub_cancel, Nat.add_sub_cancel]
theorem pk_m1 (n : Nat) : nI (n + 1) + (-1) = nI n := by
  rw [← nI_1, Int32.add_assoc, show (1 : Int32) + (-1) = 0 from rfl, Int32.add_zero]
theorem pk_mul (a b : Nat) : nI a * nI b = nI (a * b) := (Int32.ofNat_mul a b).symm
theorem pk_div {a d : Nat} (ha : a < 2 ^ 31) (h0 : 0 < d) (hd : d < 2 ^ 31) : nI a / nI d = nI (a / d) := by
  apply Int32.toInt_inj.mp
  rw [lg_idiv_nonneg (by rw [nI_toInt ha]; omega) (by rw [nI_toInt hd]; omega), nI_toInt ha, nI_toInt hd, nI_toInt (Nat.lt_of_le_of_lt (Nat.div_le_self a d) ha)]
  first | rfl | exact (Int.natCast_ediv _ _).symm
theorem pk_rem {a d : Nat} (ha : a < 2 ^ 31) (h0 : 0 < d) (hd : d < 2 ^ 31) : nI a - nI a / nI d * nI d = nI (a % d) := by
  rw [pk_div ha h0 hd, pk_mul, pk_sub (Nat.div_mul_le_self a d)]
  exact congrArg nI (by have := Nat.div_add_mod' a d; omega)
theorem pk_sub_toInt {a b : Nat} (ha : a < 2 ^ 30) (hb : b < 2 ^ 30) : (nI a - nI b).toInt = (a : Int) - b := by
  rw [Int32.toInt_sub, nI_toInt (by omega), nI_toInt (by omega)]
  exact Int.bmod_eq_of_le (by omega) (by omega)
theorem pk_sneg {a b : Nat} (hb : b < 2 ^ 30) (h : a < b) : nI a - nI b < 0 := by
  rw [Int32.lt_iff_toInt_lt, pk_sub_toInt (by omega) hb, show (0 : Int32).toInt = 0 from by decide]
  omega
theorem pk_ix (x : Int32) {n : Nat} (hn : n < 2 ^ 31) : x < 0 ∨ nI n ≤ x ∨ ∃ j : Nat, j < n ∧ x = nI j := by
  by_cases h : x < 0
  · exact Or.inl h
  · obtain ⟨j, hj, rfl⟩ := nI_of h
    by_cases h2 : j < n
    · exact Or.inr (Or.inr ⟨j, h2, rfl⟩)
    · exact Or.inr (Or.inl (nI_le (by omega) hj))
theorem pk_le {x y : Int32} {A B : Prop} (a b : Nat) (f : a ≤ b → A) (g : b < a → B) (hx : x = nI a := by rfl) (hy : y = nI b := by rfl) (ha : a < 2 ^ 31 := by omega) (hb : b < 2 ^ 31 := by omega) : (x ≤ y → A) ∧ (¬ x ≤ y → B) := by
  subst hx hy
  rw [nI_leI ha hb]
  exact ⟨f, fun z => g (by omega)⟩
theorem pk_lt {x y : Int32} {A B : Prop} (a b : Nat) (f : a < b → A) (g : b ≤ a → B) (hx : x = nI a := by rfl) (hy : y = nI b := by rfl) (ha : a < 2 ^ 31 := by omega) (hb : b < 2 ^ 31 := by omega) : (x < y → A) ∧ (¬ x < y → B) := by
  subst hx hy
  rw [nI_ltI ha hb]
  exact ⟨f, fun z => g (by omega)⟩
theorem pk_eq {x y : Int32} {A B : Prop} (a b : Nat) (f : a = b → A) (g : a ≠ b → B) (hx : x = nI a := by rfl) (hy : y = nI b := by rfl) (ha : a < 2 ^ 31 := by omega) (hb : b < 2 ^ 31 := by omega) : (x = y → A) ∧ (¬ x = y → B) := by
  subst hx hy
  rw [nI_eq ha hb]
  exact ⟨f, g⟩
theorem pk_in {x : Int32} (n N : Nat) (h : n < N) (hx : x = nI n := by rfl) (hN : N < 2 ^ 31 := by omega) : vp_in x N := by
  subst hx
  exact vp_in_nI h hN
theorem pk_cl {x : Int32} (n : Nat) (hx : x = nI n := by rfl) (h : n < 2 ^ 31 := by omega) : x.toNatClampNeg = n := by
  subst hx
  exact nI_clamp h
theorem pk_tn {n : Nat} (h : n < 2 ^ 32) : (nI n).toBitVec.toNat = n := Nat.mod_eq_of_lt h
theorem pk_and (x : Int32) {m : Int32} (k : Nat) (hm : m.toBitVec.toNat = 2 ^ k - 1) : x &&& m = nI (x.toBitVec.toNat % 2 ^ k) := by
  apply Int32.toBitVec_inj.mp
  apply BitVec.eq_of_toNat_eq
  rw [Int32.toBitVec_and, BitVec.toNat_and, hm, Nat.and_two_pow_sub_one_eq_mod]
  show _ = (BitVec.ofNat 32 _).toNat
  rw [BitVec.toNat_ofNat]
  exact (Nat.mod_eq_of_lt (Nat.lt_of_le_of_lt (Nat.mod_le _ _) x.toBitVec.isLt)).symm
theorem pk_andN {n : Nat} (h : n < 2 ^ 32) {m : Int32} (k : Nat) (hm : m.toBitVec.toNat = 2 ^ k - 1) : nI n &&& m = nI (n % 2 ^ k) := by
  rw [pk_and _ k hm, pk_tn h]
theorem pk_andE (x : Int32) {m : Int32} (k : Nat) (hm : m.toBitVec.toNat = 2 ^ k - 1) : ∃ j : Nat, j < 2 ^ k ∧ x &&& m = nI j := ⟨_, Nat.mod_lt _ (Nat.two_pow_pos k), pk_and x k hm⟩
theorem pk_andIn (x : Int32) {m : Int32} (k : Nat) (hm : m.toBitVec.toNat = 2 ^ k - 1) (hk : k ≤ 30) : vp_in (x &&& m) (2 ^ k) := by
  obtain ⟨j, hj, e⟩ := pk_andE x k hm
  rw [e]
  exact vp_in_nI hj (Nat.lt_of_le_of_lt (Nat.pow_le_pow_right (by decide) hk) (by decide))
theorem pk_shl (a s : Int32) (k : Nat) (hs : (s.toBitVec.smod 32).toNat = k) : (a <<< s).toBitVec.toNat = a.toBitVec.toNat * 2 ^ k % 2 ^ 32 := by
  show (a.toBitVec <<< (s.toBitVec.smod 32).toNat).toNat = _
  rw [hs, BitVec.toNat_shiftLeft, Nat.shiftLeft_eq]
theorem pk_shlN {n : Nat} (s : Int32) (k : Nat) (hs : (s.toBitVec.smod 32).toNat = k) (h : n * 2 ^ k < 2 ^ 32) : nI n <<< s = nI (n * 2 ^ k) := by
  apply Int32.toBitVec_inj.mp
  apply BitVec.eq_of_toNat_eq
  have hn : n < 2 ^ 32 := Nat.lt_of_le_of_lt (Nat.le_mul_of_pos_right n (Nat.two_pow_pos k)) h
  rw [pk_shl _ _ k hs, pk_tn hn, pk_tn h, Nat.mod_eq_of_lt h]
theorem pk_shr (a s : Int32) (k : Nat) (hs : (s.toBitVec.smod 32).toNat = k) : (a >>> s).toInt = a.toInt >>> k := by
  show (a.toBitVec.sshiftRight (s.toBitVec.smod 32).toNat).toInt = _
  rw [hs, BitVec.toInt_sshiftRight]
  rfl
theorem pk_shrN {n : Nat} (h : n < 2 ^ 31) (s : Int32) (k : Nat) (hs : (s.toBitVec.smod 32).toNat = k) : nI n >>> s = nI (n / 2 ^ k) := by
  apply Int32.toInt_inj.mp
  have h2 : n / 2 ^ k ≤ n := Nat.div_le_self _ _
  rw [pk_shr _ _ k hs, nI_toInt h, nI_toInt (by omega), Int.shiftRight_eq_div_pow]
  rfl
theorem pk_ushr (x s : Int32) (k : Nat) (hs : ((s.toUInt32 &&& Int32.toUInt32 31).toBitVec % 32).toNat = k) : (x.toUInt32 >>> (s.toUInt32 &&& Int32.toUInt32 31)).toInt32.toBitVec.toNat = x.toBitVec.toNat / 2 ^ k := by
  have e : (x.toUInt32 >>> (s.toUInt32 &&& Int32.toUInt32 31)).toInt32.toBitVec = x.toBitVec >>> k := by
    rw [← hs]
    exact UInt32.toBitVec_shiftRight _ _
  rw [e, BitVec.toNat_ushiftRight, Nat.shiftRight_eq_div_pow]
theorem pk_ushrN {n : Nat} (hn : n < 2 ^ 32) (s : Int32) (k : Nat) (hs : ((s.toUInt32 &&& Int32.toUInt32 31).toBitVec % 32).toNat = k) : ((nI n).toUInt32 >>> (s.toUInt32 &&& Int32.toUInt32 31)).toInt32 = nI (n / 2 ^ k) := by
  apply Int32.toBitVec_inj.mp
  apply BitVec.eq_of_toNat_eq
  rw [pk_ushr _ s k hs, pk_tn hn, pk_tn (Nat.lt_of_le_of_lt (Nat.div_le_self _ _) hn)]
theorem pk_nb (z : Int32) : narrow .byte (.int z.toInt8.toInt32) = .int z.toInt8.toInt32 := congrArg Value.int (by simp)
theorem pk_ns (z : Int32) : narrow .short (.int z.toInt16.toInt32) = .int z.toInt16.toInt32 := congrArg Value.int (by simp)
theorem pk_fb (r : Int32) : fits .byte (.int r.toInt8.toInt32) = true := by
  have ⟨a, b⟩ := lg_i2b_range r
  have h1 : (-128 : Int32).toInt = -128 := by decide
  have h2 : (127 : Int32).toInt = 127 := by decide
  simp only [fits, Bool.and_eq_true, decide_eq_true_eq, Int32.le_iff_toInt_le, h1, h2]
  omega
theorem pk_fs (r : Int32) : fits .short (.int r.toInt16.toInt32) = true := by
  have ⟨a, b⟩ := lg_i2s_range r
  have h1 : (-32768 : Int32).toInt = -32768 := by decide
  have h2 : (32767 : Int32).toInt = 32767 := by decide
  simp only [fits, Bool.and_eq_true, decide_eq_true_eq, Int32.le_iff_toInt_le, h1, h2]
  omega
theorem pk_charN {q : Nat} (hq : q < 65536) : narrow .char (.int (nI q)) = .int (nI q) ∧ fits .char (.int (nI q)) = true := by
  constructor
  · have e : (nI q).toUInt32.toUInt16.toUInt32.toInt32 = nI q := by
      apply Int32.toBitVec_inj.mp
      apply BitVec.eq_of_toNat_eq
      show (nI q).toUInt32.toUInt16.toUInt32.toNat = q % 2 ^ 32
      rw [UInt16.toNat_toUInt32, UInt32.toNat_toUInt16, show (nI q).toUInt32.toNat = q % 2 ^ 32 from rfl]
      omega
    exact congrArg Value.int e
  · have a : (0 : Int32) ≤ nI q := nI_pos' (by omega)
    have b : nI q ≤ 65535 := nI_le (b := 65535) (by omega) (by decide)
    show (decide ((0 : Int32) ≤ nI q) && decide (nI q ≤ 65535)) = true
    rw [decide_eq_true a, decide_eq_true b]
    rfl
theorem pk_char (x : Int32) : (x.toUInt32 % 65536).toInt32 = nI (x.toBitVec.toNat % 65536) := by
  apply Int32.toBitVec_inj.mp
  apply BitVec.eq_of_toNat_eq
  rw [pk_tn (by omega)]
  show (x.toUInt32 % 65536).toNat = _
  rw [UInt32.toNat_mod]
  rfl
theorem pk_nc (x : Int32) : narrow .char (.int (x.toUInt32 % 65536).toInt32) = .int (x.toUInt32 % 65536).toInt32 := by
  rw [pk_char]
  exact (pk_charN (Nat.mod_lt _ (by decide))).1
theorem pk_fc (x : Int32) : fits .char (.int (x.toUInt32 % 65536).toInt32) = true := by
  rw [pk_char]
  exact (pk_charN (Nat.mod_lt _ (by decide))).2
theorem pk_vb (z : Int32) : vp_nar .byte z.toInt8.toInt32 = z.toInt8.toInt32 := by rw [vp_nar_byte]; simp
theorem pk_vs (z : Int32) : vp_nar .short z.toInt16.toInt32 = z.toInt16.toInt32 := by rw [vp_nar_short]; simp
theorem pk_vc (z : Int32) : vp_nar .char (z.toUInt32 % 65536).toInt32 = (z.toUInt32 % 65536).toInt32 := Value.int.inj (pk_nc z)
theorem pk_lT {n : Nat} (h : n < 2 ^ 63) : (lN n).toInt = (n : Int) := lg_ofNat_toInt h
theorem pk_lLT {a b : Nat} (ha : a < 2 ^ 63) (hb : b < 2 ^ 63) : lN a < lN b ↔ a < b := by
  rw [Int64.lt_iff_toInt_lt, pk_lT ha, pk_lT hb]; omega
theorem pk_lLE {a b : Nat} (ha : a < 2 ^ 63) (hb : b < 2 ^ 63) : lN a ≤ lN b ↔ a ≤ b := by
  rw [Int64.le_iff_toInt_le, pk_lT ha, pk_lT hb]; omega
theorem pk_lEQ {a b : Nat} (ha : a < 2 ^ 63) (hb : b < 2 ^ 63) : lN a = lN b ↔ a = b := by
  rw [← Int64.toInt_inj, pk_lT ha, pk_lT hb]; omega
theorem pk_lOf {x : Int64} (h : ¬ x < 0) : ∃ k : Nat, k < 2 ^ 63 ∧ x = lN k := by
  rw [Int64.lt_iff_toInt_lt] at h
  have h0 : (0 : Int64).toInt = 0 := by decide
  have hx := Int64.toInt_lt x
  refine ⟨x.toInt.toNat, by omega, Int64.toInt_inj.mp ?_⟩
  rw [pk_lT (by omega)]
  omega
theorem pk_lDiv {a b : Nat} (ha : a < 2 ^ 63) (h0 : 0 < b) (hb : b < 2 ^ 63) : lN a / lN b = lN (a / b) := by
  apply Int64.toInt_inj.mp
  rw [lg_ldiv_nonneg (by rw [pk_lT ha]; omega) (by rw [pk_lT hb]; omega), pk_lT ha, pk_lT hb, pk_lT (Nat.lt_of_le_of_lt (Nat.div_le_self a b) ha)]
  rfl
theorem pk_lRem {a b : Nat} (ha : a < 2 ^ 63) (h0 : 0 < b) (hb : b < 2 ^ 63) : lN a - lN a / lN b * lN b = lN (a % b) := by
  rw [pk_lDiv ha h0 hb, lN_mul, lN_sub (Nat.div_mul_le_self a b)]
  exact congrArg lN (by have := Nat.div_add_mod' a b; omega)
theorem pk_loop {σ : Type} (W : Nat → Nat → σ → Prop) (I : Nat → σ → Prop) (e i0 : Nat) (s : σ) (hi : i0 ≤ e) (h0 : I i0 s) (hx : ∀ n s, I e s → W (n + 1) e s)
    (hs : ∀ n i s, i < e → I i s → (∀ s', I (i + 1) s' → W n (i + 1) s') → W (n + 1) i s) : ∃ n, W n i0 s :=
  ⟨e + 1, loop_i W I e hx hs (e + 1) i0 s hi (by omega) h0⟩
theorem pk_loopD {σ : Type} (W : Nat → Nat → σ → Prop) (I : Nat → σ → Prop) (hx : ∀ n s, I 0 s → W (n + 1) 0 s)
    (hs : ∀ n i s, I (i + 1) s → (∀ s', I i s' → W n i s') → W (n + 1) (i + 1) s) : ∀ (e : Nat) (s : σ), I e s → W (e + 1) e s := by
  intro e
  induction e with
  | zero => exact fun s h => hx 0 s h
  | succ e ih => exact fun s h => hs (e + 1) e s h (fun s' h' => ih s' h')
theorem lp1 {A1 : Type} (W : Nat → A1 → Prop) (I : A1 → Prop) (μ : A1 → Nat) (hs : ∀ (n : Nat) (a1 : A1), I a1 → (∀ (b1 : A1), I b1 → μ b1 < μ a1 → W n b1) → W (n + 1) a1) (a1 : A1) (h : I a1) : ∃ n, W n a1 :=
  loop_m (σ := A1) (fun n s => W n s) (fun s => I s) (fun s => μ s) (fun n s hI hk => hs n s hI (fun b1 h9 hm => hk b1 h9 hm)) a1 h
theorem lp2 {A1 A2 : Type} (W : Nat → A1 → A2 → Prop) (I : A1 → A2 → Prop) (μ : A1 → A2 → Nat) (hs : ∀ (n : Nat) (a1 : A1) (a2 : A2), I a1 a2 → (∀ (b1 : A1) (b2 : A2), I b1 b2 → μ b1 b2 < μ a1 a2 → W n b1 b2) → W (n + 1) a1 a2) (a1 : A1) (a2 : A2) (h : I a1 a2) : ∃ n, W n a1 a2 :=
  loop_m (σ := A1 × A2) (fun n s => W n s.1 s.2) (fun s => I s.1 s.2) (fun s => μ s.1 s.2) (fun n s hI hk => hs n s.1 s.2 hI (fun b1 b2 h9 hm => hk (b1, b2) h9 hm)) (a1, a2) h
theorem lp3 {A1 A2 A3 : Type} (W : Nat → A1 → A2 → A3 → Prop) (I : A1 → A2 → A3 → Prop) (μ : A1 → A2 → A3 → Nat) (hs : ∀ (n : Nat) (a1 : A1) (a2 : A2) (a3 : A3), I a1 a2 a3 → (∀ (b1 : A1) (b2 : A2) (b3 : A3), I b1 b2 b3 → μ b1 b2 b3 < μ a1 a2 a3 → W n b1 b2 b3) → W (n + 1) a1 a2 a3) (a1 : A1) (a2 : A2) (a3 : A3) (h : I a1 a2 a3) : ∃ n, W n a1 a2 a3 :=
  loop_m (σ := A1 × A2 × A3) (fun n s => W n s.1 s.2.1 s.2.2) (fun s => I s.1 s.2.1 s.2.2) (fun s => μ s.1 s.2.1 s.2.2) (fun n s hI hk => hs n s.1 s.2.1 s.2.2 hI (fun b1 b2 b3 h9 hm => hk (b1, b2, b3) h9 hm)) (a1, a2, a3) h
theorem lp4 {A1 A2 A3 A4 : Type} (W : Nat → A1 → A2 → A3 → A4 → Prop) (I : A1 → A2 → A3 → A4 → Prop) (μ : A1 → A2 → A3 → A4 → Nat) (hs : ∀ (n : Nat) (a1 : A1) (a2 : A2) (a3 : A3) (a4 : A4), I a1 a2 a3 a4 → (∀ (b1 : A1) (b2 : A2) (b3 : A3) (b4 : A4), I b1 b2 b3 b4 → μ b1 b2 b3 b4 < μ a1 a2 a3 a4 → W n b1 b2 b3 b4) → W (n + 1) a1 a2 a3 a4) (a1 : A1) (a2 : A2) (a3 : A3) (a4 : A4) (h : I a1 a2 a3 a4) : ∃ n, W n a1 a2 a3 a4 :=
  loop_m (σ := A1 × A2 × A3 × A4) (fun n s => W n s.1 s.2.1 s.2.2.1 s.2.2.2) (fun s => I s.1 s.2.1 s.2.2.1 s.2.2.2) (fun s => μ s.1 s.2.1 s.2.2.1 s.2.2.2) (fun n s hI hk => hs n s.1 s.2.1 s.2.2.1 s.2.2.2 hI (fun b1 b2 b3 b4 h9 hm => hk (b1, b2, b3, b4) h9 hm)) (a1, a2, a3, a4) h
theorem lp5 {A1 A2 A3 A4 A5 : Type} (W : Nat → A1 → A2 → A3 → A4 → A5 → Prop) (I : A1 → A2 → A3 → A4 → A5 → Prop) (μ : A1 → A2 → A3 → A4 → A5 → Nat) (hs : ∀ (n : Nat) (a1 : A1) (a2 : A2) (a3 : A3) (a4 : A4) (a5 : A5), I a1 a2 a3 a4 a5 → (∀ (b1 : A1) (b2 : A2) (b3 : A3) (b4 : A4) (b5 : A5), I b1 b2 b3 b4 b5 → μ b1 b2 b3 b4 b5 < μ a1 a2 a3 a4 a5 → W n b1 b2 b3 b4 b5) → W (n + 1) a1 a2 a3 a4 a5) (a1 : A1) (a2 : A2) (a3 : A3) (a4 : A4) (a5 : A5) (h : I a1 a2 a3 a4 a5) : ∃ n, W n a1 a2 a3 a4 a5 :=
  loop_m (σ := A1 × A2 × A3 × A4 × A5) (fun n s => W n s.1 s.2.1 s.2.2.1 s.2.2.2.1 s.2.2.2.2) (fun s => I s.1 s.2.1 s.2.2.1 s.2.2.2.1 s.2.2.2.2) (fun s => μ s.1 s.2.1 s.2.2.1 s.2.2.2.1 s.2.2.2.2) (fun n s hI hk => hs n s.1 s.2.1 s.2.2.1 s.2.2.2.1 s.2.2.2.2 hI (fun b1 b2 b3 b4 b5 h9 hm => hk (b1, b2, b3, b4, b5) h9 hm)) (a1, a2, a3, a4, a5) h
theorem lp6 {A1 A2 A3 A4 A5 A6 : Type} (W : Nat → A1 → A2 → A3 → A4 → A5 → A6 → Prop) (I : A1 → A2 → A3 → A4 → A5 → A6 → Prop) (μ : A1 → A2 → A3 → A4 → A5 → A6 → Nat) (hs : ∀ (n : Nat) (a1 : A1) (a2 : A2) (a3 : A3) (a4 : A4) (a5 : A5) (a6 : A6), I a1 a2 a3 a4 a5 a6 → (∀ (b1 : A1) (b2 : A2) (b3 : A3) (b4 : A4) (b5 : A5) (b6 : A6), I b1 b2 b3 b4 b5 b6 → μ b1 b2 b3 b4 b5 b6 < μ a1 a2 a3 a4 a5 a6 → W n b1 b2 b3 b4 b5 b6) → W (n + 1) a1 a2 a3 a4 a5 a6) (a1 : A1) (a2 : A2) (a3 : A3) (a4 : A4) (a5 : A5) (a6 : A6) (h : I a1 a2 a3 a4 a5 a6) : ∃ n, W n a1 a2 a3 a4 a5 a6 :=
  loop_m (σ := A1 × A2 × A3 × A4 × A5 × A6) (fun n s => W n s.1 s.2.1 s.2.2.1 s.2.2.2.1 s.2.2.2.2.1 s.2.2.2.2.2) (fun s => I s.1 s.2.1 s.2.2.1 s.2.2.2.1 s.2.2.2.2.1 s.2.2.2.2.2) (fun s => μ s.1 s.2.1 s.2.2.1 s.2.2.2.1 s.2.2.2.2.1 s.2.2.2.2.2) (fun n s hI hk => hs n s.1 s.2.1 s.2.2.1 s.2.2.2.1 s.2.2.2.2.1 s.2.2.2.2.2 hI (fun b1 b2 b3 b4 b5 b6 h9 hm => hk (b1, b2, b3, b4, b5, b6) h9 hm)) (a1, a2, a3, a4, a5, a6) h
theorem lp7 {A1 A2 A3 A4 A5 A6 A7 : Type} (W : Nat → A1 → A2 → A3 → A4 → A5 → A6 → A7 → Prop) (I : A1 → A2 → A3 → A4 → A5 → A6 → A7 → Prop) (μ : A1 → A2 → A3 → A4 → A5 → A6 → A7 → Nat) (hs : ∀ (n : Nat) (a1 : A1) (a2 : A2) (a3 : A3) (a4 : A4) (a5 : A5) (a6 : A6) (a7 : A7), I a1 a2 a3 a4 a5 a6 a7 → (∀ (b1 : A1) (b2 : A2) (b3 : A3) (b4 : A4) (b5 : A5) (b6 : A6) (b7 : A7), I b1 b2 b3 b4 b5 b6 b7 → μ b1 b2 b3 b4 b5 b6 b7 < μ a1 a2 a3 a4 a5 a6 a7 → W n b1 b2 b3 b4 b5 b6 b7) → W (n + 1) a1 a2 a3 a4 a5 a6 a7) (a1 : A1) (a2 : A2) (a3 : A3) (a4 : A4) (a5 : A5) (a6 : A6) (a7 : A7) (h : I a1 a2 a3 a4 a5 a6 a7) : ∃ n, W n a1 a2 a3 a4 a5 a6 a7 :=
  loop_m (σ := A1 × A2 × A3 × A4 × A5 × A6 × A7) (fun n s => W n s.1 s.2.1 s.2.2.1 s.2.2.2.1 s.2.2.2.2.1 s.2.2.2.2.2.1 s.2.2.2.2.2.2) (fun s => I s.1 s.2.1 s.2.2.1 s.2.2.2.1 s.2.2.2.2.1 s.2.2.2.2.2.1 s.2.2.2.2.2.2) (fun s => μ s.1 s.2.1 s.2.2.1 s.2.2.2.1 s.2.2.2.2.1 s.2.2.2.2.2.1 s.2.2.2.2.2.2) (fun n s hI hk => hs n s.1 s.2.1 s.2.2.1 s.2.2.2.1 s.2.2.2.2.1 s.2.2.2.2.2.1 s.2.2.2.2.2.2 hI (fun b1 b2 b3 b4 b5 b6 b7 h9 hm => hk (b1, b2, b3, b4, b5, b6, b7) h9 hm)) (a1, a2, a3, a4, a5, a6, a7) h
theorem lp8 {A1 A2 A3 A4 A5 A6 A7 A8 : Type} (W : Nat → A1 → A2 → A3 → A4 → A5 → A6 → A7 → A8 → Prop) (I : A1 → A2 → A3 → A4 → A5 → A6 → A7 → A8 → Prop) (μ : A1 → A2 → A3 → A4 → A5 → A6 → A7 → A8 → Nat) (hs : ∀ (n : Nat) (a1 : A1) (a2 : A2) (a3 : A3) (a4 : A4) (a5 : A5) (a6 : A6) (a7 : A7) (a8 : A8), I a1 a2 a3 a4 a5 a6 a7 a8 → (∀ (b1 : A1) (b2 : A2) (b3 : A3) (b4 : A4) (b5 : A5) (b6 : A6) (b7 : A7) (b8 : A8), I b1 b2 b3 b4 b5 b6 b7 b8 → μ b1 b2 b3 b4 b5 b6 b7 b8 < μ a1 a2 a3 a4 a5 a6 a7 a8 → W n b1 b2 b3 b4 b5 b6 b7 b8) → W (n + 1) a1 a2 a3 a4 a5 a6 a7 a8) (a1 : A1) (a2 : A2) (a3 : A3) (a4 : A4) (a5 : A5) (a6 : A6) (a7 : A7) (a8 : A8) (h : I a1 a2 a3 a4 a5 a6 a7 a8) : ∃ n, W n a1 a2 a3 a4 a5 a6 a7 a8 :=
  loop_m (σ := A1 × A2 × A3 × A4 × A5 × A6 × A7 × A8) (fun n s => W n s.1 s.2.1 s.2.2.1 s.2.2.2.1 s.2.2.2.2.1 s.2.2.2.2.2.1 s.2.2.2.2.2.2.1 s.2.2.2.2.2.2.2) (fun s => I s.1 s.2.1 s.2.2.1 s.2.2.2.1 s.2.2.2.2.1 s.2.2.2.2.2.1 s.2.2.2.2.2.2.1 s.2.2.2.2.2.2.2) (fun s => μ s.1 s.2.1 s.2.2.1 s.2.2.2.1 s.2.2.2.2.1 s.2.2.2.2.2.1 s.2.2.2.2.2.2.1 s.2.2.2.2.2.2.2) (fun n s hI hk => hs n s.1 s.2.1 s.2.2.1 s.2.2.2.1 s.2.2.2.2.1 s.2.2.2.2.2.1 s.2.2.2.2.2.2.1 s.2.2.2.2.2.2.2 hI (fun b1 b2 b3 b4 b5 b6 b7 b8 h9 hm => hk (b1, b2, b3, b4, b5, b6, b7, b8) h9 hm)) (a1, a2, a3, a4, a5, a6, a7, a8) h
theorem lp9 {A1 A2 A3 A4 A5 A6 A7 A8 A9 : Type} (W : Nat → A1 → A2 → A3 → A4 → A5 → A6 → A7 → A8 → A9 → Prop) (I : A1 → A2 → A3 → A4 → A5 → A6 → A7 → A8 → A9 → Prop) (μ : A1 → A2 → A3 → A4 → A5 → A6 → A7 → A8 → A9 → Nat) (hs : ∀ (n : Nat) (a1 : A1) (a2 : A2) (a3 : A3) (a4 : A4) (a5 : A5) (a6 : A6) (a7 : A7) (a8 : A8) (a9 : A9), I a1 a2 a3 a4 a5 a6 a7 a8 a9 → (∀ (b1 : A1) (b2 : A2) (b3 : A3) (b4 : A4) (b5 : A5) (b6 : A6) (b7 : A7) (b8 : A8) (b9 : A9), I b1 b2 b3 b4 b5 b6 b7 b8 b9 → μ b1 b2 b3 b4 b5 b6 b7 b8 b9 < μ a1 a2 a3 a4 a5 a6 a7 a8 a9 → W n b1 b2 b3 b4 b5 b6 b7 b8 b9) → W (n + 1) a1 a2 a3 a4 a5 a6 a7 a8 a9) (a1 : A1) (a2 : A2) (a3 : A3) (a4 : A4) (a5 : A5) (a6 : A6) (a7 : A7) (a8 : A8) (a9 : A9) (h : I a1 a2 a3 a4 a5 a6 a7 a8 a9) : ∃ n, W n a1 a2 a3 a4 a5 a6 a7 a8 a9 :=
  loop_m (σ := A1 × A2 × A3 × A4 × A5 × A6 × A7 × A8 × A9) (fun n s => W n s.1 s.2.1 s.2.2.1 s.2.2.2.1 s.2.2.2.2.1 s.2.2.2.2.2.1 s.2.2.2.2.2.2.1 s.2.2.2.2.2.2.2.1 s.2.2.2.2.2.2.2.2) (fun s => I s.1 s.2.1 s.2.2.1 s.2.2.2.1 s.2.2.2.2.1 s.2.2.2.2.2.1 s.2.2.2.2.2.2.1 s.2.2.2.2.2.2.2.1 s.2.2.2.2.2.2.2.2) (fun s => μ s.1 s.2.1 s.2.2.1 s.2.2.2.1 s.2.2.2.2.1 s.2.2.2.2.2.1 s.2.2.2.2.2.2.1 s.2.2.2.2.2.2.2.1 s.2.2.2.2.2.2.2.2) (fun n s hI hk => hs n s.1 s.2.1 s.2.2.1 s.2.2.2.1 s.2.2.2.2.1 s.2.2.2.2.2.1 s.2.2.2.2.2.2.1 s.2.2.2.2.2.2.2.1 s.2.2.2.2.2.2.2.2 hI (fun b1 b2 b3 b4 b5 b6 b7 b8 b9 h9 hm => hk (b1, b2, b3, b4, b5, b6, b7, b8, b9) h9 hm)) (a1, a2, a3, a4, a5, a6, a7, a8, a9) h
theorem lp10 {A1 A2 A3 A4 A5 A6 A7 A8 A9 A10 : Type} (W : Nat → A1 → A2 → A3 → A4 → A5 → A6 → A7 → A8 → A9 → A10 → Prop) (I : A1 → A2 → A3 → A4 → A5 → A6 → A7 → A8 → A9 → A10 → Prop) (μ : A1 → A2 → A3 → A4 → A5 → A6 → A7 → A8 → A9 → A10 → Nat) (hs : ∀ (n : Nat) (a1 : A1) (a2 : A2) (a3 : A3) (a4 : A4) (a5 : A5) (a6 : A6) (a7 : A7) (a8 : A8) (a9 : A9) (a10 : A10), I a1 a2 a3 a4 a5 a6 a7 a8 a9 a10 → (∀ (b1 : A1) (b2 : A2) (b3 : A3) (b4 : A4) (b5 : A5) (b6 : A6) (b7 : A7) (b8 : A8) (b9 : A9) (b10 : A10), I b1 b2 b3 b4 b5 b6 b7 b8 b9 b10 → μ b1 b2 b3 b4 b5 b6 b7 b8 b9 b10 < μ a1 a2 a3 a4 a5 a6 a7 a8 a9 a10 → W n b1 b2 b3 b4 b5 b6 b7 b8 b9 b10) → W (n + 1) a1 a2 a3 a4 a5 a6 a7 a8 a9 a10) (a1 : A1) (a2 : A2) (a3 : A3) (a4 : A4) (a5 : A5) (a6 : A6) (a7 : A7) (a8 : A8) (a9 : A9) (a10 : A10) (h : I a1 a2 a3 a4 a5 a6 a7 a8 a9 a10) : ∃ n, W n a1 a2 a3 a4 a5 a6 a7 a8 a9 a10 :=
  loop_m (σ := A1 × A2 × A3 × A4 × A5 × A6 × A7 × A8 × A9 × A10) (fun n s => W n s.1 s.2.1 s.2.2.1 s.2.2.2.1 s.2.2.2.2.1 s.2.2.2.2.2.1 s.2.2.2.2.2.2.1 s.2.2.2.2.2.2.2.1 s.2.2.2.2.2.2.2.2.1 s.2.2.2.2.2.2.2.2.2) (fun s => I s.1 s.2.1 s.2.2.1 s.2.2.2.1 s.2.2.2.2.1 s.2.2.2.2.2.1 s.2.2.2.2.2.2.1 s.2.2.2.2.2.2.2.1 s.2.2.2.2.2.2.2.2.1 s.2.2.2.2.2.2.2.2.2) (fun s => μ s.1 s.2.1 s.2.2.1 s.2.2.2.1 s.2.2.2.2.1 s.2.2.2.2.2.1 s.2.2.2.2.2.2.1 s.2.2.2.2.2.2.2.1 s.2.2.2.2.2.2.2.2.1 s.2.2.2.2.2.2.2.2.2) (fun n s hI hk => hs n s.1 s.2.1 s.2.2.1 s.2.2.2.1 s.2.2.2.2.1 s.2.2.2.2.2.1 s.2.2.2.2.2.2.1 s.2.2.2.2.2.2.2.1 s.2.2.2.2.2.2.2.2.1 s.2.2.2.2.2.2.2.2.2 hI (fun b1 b2 b3 b4 b5 b6 b7 b8 b9 b10 h9 hm => hk (b1, b2, b3, b4, b5, b6, b7, b8, b9, b10) h9 hm)) (a1, a2, a3, a4, a5, a6, a7, a8, a9, a10) h
theorem lp11 {A1 A2 A3 A4 A5 A6 A7 A8 A9 A10 A11 : Type} (W : Nat → A1 → A2 → A3 → A4 → A5 → A6 → A7 → A8 → A9 → A10 → A11 → Prop) (I : A1 → A2 → A3 → A4 → A5 → A6 → A7 → A8 → A9 → A10 → A11 → Prop) (μ : A1 → A2 → A3 → A4 → A5 → A6 → A7 → A8 → A9 → A10 → A11 → Nat) (hs : ∀ (n : Nat) (a1 : A1) (a2 : A2) (a3 : A3) (a4 : A4) (a5 : A5) (a6 : A6) (a7 : A7) (a8 : A8) (a9 : A9) (a10 : A10) (a11 : A11), I a1 a2 a3 a4 a5 a6 a7 a8 a9 a10 a11 → (∀ (b1 : A1) (b2 : A2) (b3 : A3) (b4 : A4) (b5 : A5) (b6 : A6) (b7 : A7) (b8 : A8) (b9 : A9) (b10 : A10) (b11 : A11), I b1 b2 b3 b4 b5 b6 b7 b8 b9 b10 b11 → μ b1 b2 b3 b4 b5 b6 b7 b8 b9 b10 b11 < μ a1 a2 a3 a4 a5 a6 a7 a8 a9 a10 a11 → W n b1 b2 b3 b4 b5 b6 b7 b8 b9 b10 b11) → W (n + 1) a1 a2 a3 a4 a5 a6 a7 a8 a9 a10 a11) (a1 : A1) (a2 : A2) (a3 : A3) (a4 : A4) (a5 : A5) (a6 : A6) (a7 : A7) (a8 : A8) (a9 : A9) (a10 : A10) (a11 : A11) (h : I a1 a2 a3 a4 a5 a6 a7 a8 a9 a10 a11) : ∃ n, W n a1 a2 a3 a4 a5 a6 a7 a8 a9 a10 a11 :=
  loop_m (σ := A1 × A2 × A3 × A4 × A5 × A6 × A7 × A8 × A9 × A10 × A11) (fun n s => W n s.1 s.2.1 s.2.2.1 s.2.2.2.1 s.2.2.2.2.1 s.2.2.2.2.2.1 s.2.2.2.2.2.2.1 s.2.2.2.2.2.2.2.1 s.2.2.2.2.2.2.2.2.1 s.2.2.2.2.2.2.2.2.2.1 s.2.2.2.2.2.2.2.2.2.2) (fun s => I s.1 s.2.1 s.2.2.1 s.2.2.2.1 s.2.2.2.2.1 s.2.2.2.2.2.1 s.2.2.2.2.2.2.1 s.2.2.2.2.2.2.2.1 s.2.2.2.2.2.2.2.2.1 s.2.2.2.2.2.2.2.2.2.1 s.2.2.2.2.2.2.2.2.2.2) (fun s => μ s.1 s.2.1 s.2.2.1 s.2.2.2.1 s.2.2.2.2.1 s.2.2.2.2.2.1 s.2.2.2.2.2.2.1 s.2.2.2.2.2.2.2.1 s.2.2.2.2.2.2.2.2.1 s.2.2.2.2.2.2.2.2.2.1 s.2.2.2.2.2.2.2.2.2.2) (fun n s hI hk => hs n s.1 s.2.1 s.2.2.1 s.2.2.2.1 s.2.2.2.2.1 s.2.2.2.2.2.1 s.2.2.2.2.2.2.1 s.2.2.2.2.2.2.2.1 s.2.2.2.2.2.2.2.2.1 s.2.2.2.2.2.2.2.2.2.1 s.2.2.2.2.2.2.2.2.2.2 hI (fun b1 b2 b3 b4 b5 b6 b7 b8 b9 b10 b11 h9 hm => hk (b1, b2, b3, b4, b5, b6, b7, b8, b9, b10, b11) h9 hm)) (a1, a2, a3, a4, a5, a6, a7, a8, a9, a10, a11) h
theorem lp12 {A1 A2 A3 A4 A5 A6 A7 A8 A9 A10 A11 A12 : Type} (W : Nat → A1 → A2 → A3 → A4 → A5 → A6 → A7 → A8 → A9 → A10 → A11 → A12 → Prop) (I : A1 → A2 → A3 → A4 → A5 → A6 → A7 → A8 → A9 → A10 → A11 → A12 → Prop) (μ : A1 → A2 → A3 → A4 → A5 → A6 → A7 → A8 → A9 → A10 → A11 → A12 → Nat) (hs : ∀ (n : Nat) (a1 : A1) (a2 : A2) (a3 : A3) (a4 : A4) (a5 : A5) (a6 : A6) (a7 : A7) (a8 : A8) (a9 : A9) (a10 : A10) (a11 : A11) (a12 : A12), I a1 a2 a3 a4 a5 a6 a7 a8 a9 a10 a11 a12 → (∀ (b1 : A1) (b2 : A2) (b3 : A3) (b4 : A4) (b5 : A5) (b6 : A6) (b7 : A7) (b8 : A8) (b9 : A9) (b10 : A10) (b11 : A11) (b12 : A12), I b1 b2 b3 b4 b5 b6 b7 b8 b9 b10 b11 b12 → μ b1 b2 b3 b4 b5 b6 b7 b8 b9 b10 b11 b12 < μ a1 a2 a3 a4 a5 a6 a7 a8 a9 a10 a11 a12 → W n b1 b2 b3 b4 b5 b6 b7 b8 b9 b10 b11 b12) → W (n + 1) a1 a2 a3 a4 a5 a6 a7 a8 a9 a10 a11 a12) (a1 : A1) (a2 : A2) (a3 : A3) (a4 : A4) (a5 : A5) (a6 : A6) (a7 : A7) (a8 : A8) (a9 : A9) (a10 : A10) (a11 : A11) (a12 : A12) (h : I a1 a2 a3 a4 a5 a6 a7 a8 a9 a10 a11 a12) : ∃ n, W n a1 a2 a3 a4 a5 a6 a7 a8 a9 a10 a11 a12 :=
  loop_m (σ := A1 × A2 × A3 × A4 × A5 × A6 × A7 × A8 × A9 × A10 × A11 × A12) (fun n s => W n s.1 s.2.1 s.2.2.1 s.2.2.2.1 s.2.2.2.2.1 s.2.2.2.2.2.1 s.2.2.2.2.2.2.1 s.2.2.2.2.2.2.2.1 s.2.2.2.2.2.2.2.2.1 s.2.2.2.2.2.2.2.2.2.1 s.2.2.2.2.2.2.2.2.2.2.1 s.2.2.2.2.2.2.2.2.2.2.2) (fun s => I s.1 s.2.1 s.2.2.1 s.2.2.2.1 s.2.2.2.2.1 s.2.2.2.2.2.1 s.2.2.2.2.2.2.1 s.2.2.2.2.2.2.2.1 s.2.2.2.2.2.2.2.2.1 s.2.2.2.2.2.2.2.2.2.1 s.2.2.2.2.2.2.2.2.2.2.1 s.2.2.2.2.2.2.2.2.2.2.2) (fun s => μ s.1 s.2.1 s.2.2.1 s.2.2.2.1 s.2.2.2.2.1 s.2.2.2.2.2.1 s.2.2.2.2.2.2.1 s.2.2.2.2.2.2.2.1 s.2.2.2.2.2.2.2.2.1 s.2.2.2.2.2.2.2.2.2.1 s.2.2.2.2.2.2.2.2.2.2.1 s.2.2.2.2.2.2.2.2.2.2.2) (fun n s hI hk => hs n s.1 s.2.1 s.2.2.1 s.2.2.2.1 s.2.2.2.2.1 s.2.2.2.2.2.1 s.2.2.2.2.2.2.1 s.2.2.2.2.2.2.2.1 s.2.2.2.2.2.2.2.2.1 s.2.2.2.2.2.2.2.2.2.1 s.2.2.2.2.2.2.2.2.2.2.1 s.2.2.2.2.2.2.2.2.2.2.2 hI (fun b1 b2 b3 b4 b5 b6 b7 b8 b9 b10 b11 b12 h9 hm => hk (b1, b2, b3, b4, b5, b6, b7, b8, b9, b10, b11, b12) h9 hm)) (a1, a2, a3, a4, a5, a6, a7, a8, a9, a10, a11, a12) h
theorem lp13 {A1 A2 A3 A4 A5 A6 A7 A8 A9 A10 A11 A12 A13 : Type} (W : Nat → A1 → A2 → A3 → A4 → A5 → A6 → A7 → A8 → A9 → A10 → A11 → A12 → A13 → Prop) (I : A1 → A2 → A3 → A4 → A5 → A6 → A7 → A8 → A9 → A10 → A11 → A12 → A13 → Prop) (μ : A1 → A2 → A3 → A4 → A5 → A6 → A7 → A8 → A9 → A10 → A11 → A12 → A13 → Nat) (hs : ∀ (n : Nat) (a1 : A1) (a2 : A2) (a3 : A3) (a4 : A4) (a5 : A5) (a6 : A6) (a7 : A7) (a8 : A8) (a9 : A9) (a10 : A10) (a11 : A11) (a12 : A12) (a13 : A13), I a1 a2 a3 a4 a5 a6 a7 a8 a9 a10 a11 a12 a13 → (∀ (b1 : A1) (b2 : A2) (b3 : A3) (b4 : A4) (b5 : A5) (b6 : A6) (b7 : A7) (b8 : A8) (b9 : A9) (b10 : A10) (b11 : A11) (b12 : A12) (b13 : A13), I b1 b2 b3 b4 b5 b6 b7 b8 b9 b10 b11 b12 b13 → μ b1 b2 b3 b4 b5 b6 b7 b8 b9 b10 b11 b12 b13 < μ a1 a2 a3 a4 a5 a6 a7 a8 a9 a10 a11 a12 a13 → W n b1 b2 b3 b4 b5 b6 b7 b8 b9 b10 b11 b12 b13) → W (n + 1) a1 a2 a3 a4 a5 a6 a7 a8 a9 a10 a11 a12 a13) (a1 : A1) (a2 : A2) (a3 : A3) (a4 : A4) (a5 : A5) (a6 : A6) (a7 : A7) (a8 : A8) (a9 : A9) (a10 : A10) (a11 : A11) (a12 : A12) (a13 : A13) (h : I a1 a2 a3 a4 a5 a6 a7 a8 a9 a10 a11 a12 a13) : ∃ n, W n a1 a2 a3 a4 a5 a6 a7 a8 a9 a10 a11 a12 a13 :=
  loop_m (σ := A1 × A2 × A3 × A4 × A5 × A6 × A7 × A8 × A9 × A10 × A11 × A12 × A13) (fun n s => W n s.1 s.2.1 s.2.2.1 s.2.2.2.1 s.2.2.2.2.1 s.2.2.2.2.2.1 s.2.2.2.2.2.2.1 s.2.2.2.2.2.2.2.1 s.2.2.2.2.2.2.2.2.1 s.2.2.2.2.2.2.2.2.2.1 s.2.2.2.2.2.2.2.2.2.2.1 s.2.2.2.2.2.2.2.2.2.2.2.1 s.2.2.2.2.2.2.2.2.2.2.2.2) (fun s => I s.1 s.2.1 s.2.2.1 s.2.2.2.1 s.2.2.2.2.1 s.2.2.2.2.2.1 s.2.2.2.2.2.2.1 s.2.2.2.2.2.2.2.1 s.2.2.2.2.2.2.2.2.1 s.2.2.2.2.2.2.2.2.2.1 s.2.2.2.2.2.2.2.2.2.2.1 s.2.2.2.2.2.2.2.2.2.2.2.1 s.2.2.2.2.2.2.2.2.2.2.2.2) (fun s => μ s.1 s.2.1 s.2.2.1 s.2.2.2.1 s.2.2.2.2.1 s.2.2.2.2.2.1 s.2.2.2.2.2.2.1 s.2.2.2.2.2.2.2.1 s.2.2.2.2.2.2.2.2.1 s.2.2.2.2.2.2.2.2.2.1 s.2.2.2.2.2.2.2.2.2.2.1 s.2.2.2.2.2.2.2.2.2.2.2.1 s.2.2.2.2.2.2.2.2.2.2.2.2) (fun n s hI hk => hs n s.1 s.2.1 s.2.2.1 s.2.2.2.1 s.2.2.2.2.1 s.2.2.2.2.2.1 s.2.2.2.2.2.2.1 s.2.2.2.2.2.2.2.1 s.2.2.2.2.2.2.2.2.1 s.2.2.2.2.2.2.2.2.2.1 s.2.2.2.2.2.2.2.2.2.2.1 s.2.2.2.2.2.2.2.2.2.2.2.1 s.2.2.2.2.2.2.2.2.2.2.2.2 hI (fun b1 b2 b3 b4 b5 b6 b7 b8 b9 b10 b11 b12 b13 h9 hm => hk (b1, b2, b3, b4, b5, b6, b7, b8, b9, b10, b11, b12, b13) h9 hm)) (a1, a2, a3, a4, a5, a6, a7, a8, a9, a10, a11, a12, a13) h
theorem lp14 {A1 A2 A3 A4 A5 A6 A7 A8 A9 A10 A11 A12 A13 A14 : Type} (W : Nat → A1 → A2 → A3 → A4 → A5 → A6 → A7 → A8 → A9 → A10 → A11 → A12 → A13 → A14 → Prop) (I : A1 → A2 → A3 → A4 → A5 → A6 → A7 → A8 → A9 → A10 → A11 → A12 → A13 → A14 → Prop) (μ : A1 → A2 → A3 → A4 → A5 → A6 → A7 → A8 → A9 → A10 → A11 → A12 → A13 → A14 → Nat) (hs : ∀ (n : Nat) (a1 : A1) (a2 : A2) (a3 : A3) (a4 : A4) (a5 : A5) (a6 : A6) (a7 : A7) (a8 : A8) (a9 : A9) (a10 : A10) (a11 : A11) (a12 : A12) (a13 : A13) (a14 : A14), I a1 a2 a3 a4 a5 a6 a7 a8 a9 a10 a11 a12 a13 a14 → (∀ (b1 : A1) (b2 : A2) (b3 : A3) (b4 : A4) (b5 : A5) (b6 : A6) (b7 : A7) (b8 : A8) (b9 : A9) (b10 : A10) (b11 : A11) (b12 : A12) (b13 : A13) (b14 : A14), I b1 b2 b3 b4 b5 b6 b7 b8 b9 b10 b11 b12 b13 b14 → μ b1 b2 b3 b4 b5 b6 b7 b8 b9 b10 b11 b12 b13 b14 < μ a1 a2 a3 a4 a5 a6 a7 a8 a9 a10 a11 a12 a13 a14 → W n b1 b2 b3 b4 b5 b6 b7 b8 b9 b10 b11 b12 b13 b14) → W (n + 1) a1 a2 a3 a4 a5 a6 a7 a8 a9 a10 a11 a12 a13 a14) (a1 : A1) (a2 : A2) (a3 : A3) (a4 : A4) (a5 : A5) (a6 : A6) (a7 : A7) (a8 : A8) (a9 : A9) (a10 : A10) (a11 : A11) (a12 : A12) (a13 : A13) (a14 : A14) (h : I a1 a2 a3 a4 a5 a6 a7 a8 a9 a10 a11 a12 a13 a14) : ∃ n, W n a1 a2 a3 a4 a5 a6 a7 a8 a9 a10 a11 a12 a13 a14 :=
  loop_m (σ := A1 × A2 × A3 × A4 × A5 × A6 × A7 × A8 × A9 × A10 × A11 × A12 × A13 × A14) (fun n s => W n s.1 s.2.1 s.2.2.1 s.2.2.2.1 s.2.2.2.2.1 s.2.2.2.2.2.1 s.2.2.2.2.2.2.1 s.2.2.2.2.2.2.2.1 s.2.2.2.2.2.2.2.2.1 s.2.2.2.2.2.2.2.2.2.1 s.2.2.2.2.2.2.2.2.2.2.1 s.2.2.2.2.2.2.2.2.2.2.2.1 s.2.2.2.2.2.2.2.2.2.2.2.2.1 s.2.2.2.2.2.2.2.2.2.2.2.2.2) (fun s => I s.1 s.2.1 s.2.2.1 s.2.2.2.1 s.2.2.2.2.1 s.2.2.2.2.2.1 s.2.2.2.2.2.2.1 s.2.2.2.2.2.2.2.1 s.2.2.2.2.2.2.2.2.1 s.2.2.2.2.2.2.2.2.2.1 s.2.2.2.2.2.2.2.2.2.2.1 s.2.2.2.2.2.2.2.2.2.2.2.1 s.2.2.2.2.2.2.2.2.2.2.2.2.1 s.2.2.2.2.2.2.2.2.2.2.2.2.2) (fun s => μ s.1 s.2.1 s.2.2.1 s.2.2.2.1 s.2.2.2.2.1 s.2.2.2.2.2.1 s.2.2.2.2.2.2.1 s.2.2.2.2.2.2.2.1 s.2.2.2.2.2.2.2.2.1 s.2.2.2.2.2.2.2.2.2.1 s.2.2.2.2.2.2.2.2.2.2.1 s.2.2.2.2.2.2.2.2.2.2.2.1 s.2.2.2.2.2.2.2.2.2.2.2.2.1 s.2.2.2.2.2.2.2.2.2.2.2.2.2) (fun n s hI hk => hs n s.1 s.2.1 s.2.2.1 s.2.2.2.1 s.2.2.2.2.1 s.2.2.2.2.2.1 s.2.2.2.2.2.2.1 s.2.2.2.2.2.2.2.1 s.2.2.2.2.2.2.2.2.1 s.2.2.2.2.2.2.2.2.2.1 s.2.2.2.2.2.2.2.2.2.2.1 s.2.2.2.2.2.2.2.2.2.2.2.1 s.2.2.2.2.2.2.2.2.2.2.2.2.1 s.2.2.2.2.2.2.2.2.2.2.2.2.2 hI (fun b1 b2 b3 b4 b5 b6 b7 b8 b9 b10 b11 b12 b13 b14 h9 hm => hk (b1, b2, b3, b4, b5, b6, b7, b8, b9, b10, b11, b12, b13, b14) h9 hm)) (a1, a2, a3, a4, a5, a6, a7, a8, a9, a10, a11, a12, a13, a14) h
theorem lp15 {A1 A2 A3 A4 A5 A6 A7 A8 A9 A10 A11 A12 A13 A14 A15 : Type} (W : Nat → A1 → A2 → A3 → A4 → A5 → A6 → A7 → A8 → A9 → A10 → A11 → A12 → A13 → A14 → A15 → Prop) (I : A1 → A2 → A3 → A4 → A5 → A6 → A7 → A8 → A9 → A10 → A11 → A12 → A13 → A14 → A15 → Prop) (μ : A1 → A2 → A3 → A4 → A5 → A6 → A7 → A8 → A9 → A10 → A11 → A12 → A13 → A14 → A15 → Nat) (hs : ∀ (n : Nat) (a1 : A1) (a2 : A2) (a3 : A3) (a4 : A4) (a5 : A5) (a6 : A6) (a7 : A7) (a8 : A8) (a9 : A9) (a10 : A10) (a11 : A11) (a12 : A12) (a13 : A13) (a14 : A14) (a15 : A15), I a1 a2 a3 a4 a5 a6 a7 a8 a9 a10 a11 a12 a13 a14 a15 → (∀ (b1 : A1) (b2 : A2) (b3 : A3) (b4 : A4) (b5 : A5) (b6 : A6) (b7 : A7) (b8 : A8) (b9 : A9) (b10 : A10) (b11 : A11) (b12 : A12) (b13 : A13) (b14 : A14) (b15 : A15), I b1 b2 b3 b4 b5 b6 b7 b8 b9 b10 b11 b12 b13 b14 b15 → μ b1 b2 b3 b4 b5 b6 b7 b8 b9 b10 b11 b12 b13 b14 b15 < μ a1 a2 a3 a4 a5 a6 a7 a8 a9 a10 a11 a12 a13 a14 a15 → W n b1 b2 b3 b4 b5 b6 b7 b8 b9 b10 b11 b12 b13 b14 b15) → W (n + 1) a1 a2 a3 a4 a5 a6 a7 a8 a9 a10 a11 a12 a13 a14 a15) (a1 : A1) (a2 : A2) (a3 : A3) (a4 : A4) (a5 : A5) (a6 : A6) (a7 : A7) (a8 : A8) (a9 : A9) (a10 : A10) (a11 : A11) (a12 : A12) (a13 : A13) (a14 : A14) (a15 : A15) (h : I a1 a2 a3 a4 a5 a6 a7 a8 a9 a10 a11 a12 a13 a14 a15) : ∃ n, W n a1 a2 a3 a4 a5 a6 a7 a8 a9 a10 a11 a12 a13 a14 a15 :=
  loop_m (σ := A1 × A2 × A3 × A4 × A5 × A6 × A7 × A8 × A9 × A10 × A11 × A12 × A13 × A14 × A15) (fun n s => W n s.1 s.2.1 s.2.2.1 s.2.2.2.1 s.2.2.2.2.1 s.2.2.2.2.2.1 s.2.2.2.2.2.2.1 s.2.2.2.2.2.2.2.1 s.2.2.2.2.2.2.2.2.1 s.2.2.2.2.2.2.2.2.2.1 s.2.2.2.2.2.2.2.2.2.2.1 s.2.2.2.2.2.2.2.2.2.2.2.1 s.2.2.2.2.2.2.2.2.2.2.2.2.1 s.2.2.2.2.2.2.2.2.2.2.2.2.2.1 s.2.2.2.2.2.2.2.2.2.2.2.2.2.2) (fun s => I s.1 s.2.1 s.2.2.1 s.2.2.2.1 s.2.2.2.2.1 s.2.2.2.2.2.1 s.2.2.2.2.2.2.1 s.2.2.2.2.2.2.2.1 s.2.2.2.2.2.2.2.2.1 s.2.2.2.2.2.2.2.2.2.1 s.2.2.2.2.2.2.2.2.2.2.1 s.2.2.2.2.2.2.2.2.2.2.2.1 s.2.2.2.2.2.2.2.2.2.2.2.2.1 s.2.2.2.2.2.2.2.2.2.2.2.2.2.1 s.2.2.2.2.2.2.2.2.2.2.2.2.2.2) (fun s => μ s.1 s.2.1 s.2.2.1 s.2.2.2.1 s.2.2.2.2.1 s.2.2.2.2.2.1 s.2.2.2.2.2.2.1 s.2.2.2.2.2.2.2.1 s.2.2.2.2.2.2.2.2.1 s.2.2.2.2.2.2.2.2.2.1 s.2.2.2.2.2.2.2.2.2.2.1 s.2.2.2.2.2.2.2.2.2.2.2.1 s.2.2.2.2.2.2.2.2.2.2.2.2.1 s.2.2.2.2.2.2.2.2.2.2.2.2.2.1 s.2.2.2.2.2.2.2.2.2.2.2.2.2.2) (fun n s hI hk => hs n s.1 s.2.1 s.2.2.1 s.2.2.2.1 s.2.2.2.2.1 s.2.2.2.2.2.1 s.2.2.2.2.2.2.1 s.2.2.2.2.2.2.2.1 s.2.2.2.2.2.2.2.2.1 s.2.2.2.2.2.2.2.2.2.1 s.2.2.2.2.2.2.2.2.2.2.1 s.2.2.2.2.2.2.2.2.2.2.2.1 s.2.2.2.2.2.2.2.2.2.2.2.2.1 s.2.2.2.2.2.2.2.2.2.2.2.2.2.1 s.2.2.2.2.2.2.2.2.2.2.2.2.2.2 hI (fun b1 b2 b3 b4 b5 b6 b7 b8 b9 b10 b11 b12 b13 b14 b15 h9 hm => hk (b1, b2, b3, b4, b5, b6, b7, b8, b9, b10, b11, b12, b13, b14, b15) h9 hm)) (a1, a2, a3, a4, a5, a6, a7, a8, a9, a10, a11, a12, a13, a14, a15) h
theorem lp16 {A1 A2 A3 A4 A5 A6 A7 A8 A9 A10 A11 A12 A13 A14 A15 A16 : Type} (W : Nat → A1 → A2 → A3 → A4 → A5 → A6 → A7 → A8 → A9 → A10 → A11 → A12 → A13 → A14 → A15 → A16 → Prop) (I : A1 → A2 → A3 → A4 → A5 → A6 → A7 → A8 → A9 → A10 → A11 → A12 → A13 → A14 → A15 → A16 → Prop) (μ : A1 → A2 → A3 → A4 → A5 → A6 → A7 → A8 → A9 → A10 → A11 → A12 → A13 → A14 → A15 → A16 → Nat) (hs : ∀ (n : Nat) (a1 : A1) (a2 : A2) (a3 : A3) (a4 : A4) (a5 : A5) (a6 : A6) (a7 : A7) (a8 : A8) (a9 : A9) (a10 : A10) (a11 : A11) (a12 : A12) (a13 : A13) (a14 : A14) (a15 : A15) (a16 : A16), I a1 a2 a3 a4 a5 a6 a7 a8 a9 a10 a11 a12 a13 a14 a15 a16 → (∀ (b1 : A1) (b2 : A2) (b3 : A3) (b4 : A4) (b5 : A5) (b6 : A6) (b7 : A7) (b8 : A8) (b9 : A9) (b10 : A10) (b11 : A11) (b12 : A12) (b13 : A13) (b14 : A14) (b15 : A15) (b16 : A16), I b1 b2 b3 b4 b5 b6 b7 b8 b9 b10 b11 b12 b13 b14 b15 b16 → μ b1 b2 b3 b4 b5 b6 b7 b8 b9 b10 b11 b12 b13 b14 b15 b16 < μ a1 a2 a3 a4 a5 a6 a7 a8 a9 a10 a11 a12 a13 a14 a15 a16 → W n b1 b2 b3 b4 b5 b6 b7 b8 b9 b10 b11 b12 b13 b14 b15 b16) → W (n + 1) a1 a2 a3 a4 a5 a6 a7 a8 a9 a10 a11 a12 a13 a14 a15 a16) (a1 : A1) (a2 : A2) (a3 : A3) (a4 : A4) (a5 : A5) (a6 : A6) (a7 : A7) (a8 : A8) (a9 : A9) (a10 : A10) (a11 : A11) (a12 : A12) (a13 : A13) (a14 : A14) (a15 : A15) (a16 : A16) (h : I a1 a2 a3 a4 a5 a6 a7 a8 a9 a10 a11 a12 a13 a14 a15 a16) : ∃ n, W n a1 a2 a3 a4 a5 a6 a7 a8 a9 a10 a11 a12 a13 a14 a15 a16 :=
  loop_m (σ := A1 × A2 × A3 × A4 × A5 × A6 × A7 × A8 × A9 × A10 × A11 × A12 × A13 × A14 × A15 × A16) (fun n s => W n s.1 s.2.1 s.2.2.1 s.2.2.2.1 s.2.2.2.2.1 s.2.2.2.2.2.1 s.2.2.2.2.2.2.1 s.2.2.2.2.2.2.2.1 s.2.2.2.2.2.2.2.2.1 s.2.2.2.2.2.2.2.2.2.1 s.2.2.2.2.2.2.2.2.2.2.1 s.2.2.2.2.2.2.2.2.2.2.2.1 s.2.2.2.2.2.2.2.2.2.2.2.2.1 s.2.2.2.2.2.2.2.2.2.2.2.2.2.1 s.2.2.2.2.2.2.2.2.2.2.2.2.2.2.1 s.2.2.2.2.2.2.2.2.2.2.2.2.2.2.2) (fun s => I s.1 s.2.1 s.2.2.1 s.2.2.2.1 s.2.2.2.2.1 s.2.2.2.2.2.1 s.2.2.2.2.2.2.1 s.2.2.2.2.2.2.2.1 s.2.2.2.2.2.2.2.2.1 s.2.2.2.2.2.2.2.2.2.1 s.2.2.2.2.2.2.2.2.2.2.1 s.2.2.2.2.2.2.2.2.2.2.2.1 s.2.2.2.2.2.2.2.2.2.2.2.2.1 s.2.2.2.2.2.2.2.2.2.2.2.2.2.1 s.2.2.2.2.2.2.2.2.2.2.2.2.2.2.1 s.2.2.2.2.2.2.2.2.2.2.2.2.2.2.2) (fun s => μ s.1 s.2.1 s.2.2.1 s.2.2.2.1 s.2.2.2.2.1 s.2.2.2.2.2.1 s.2.2.2.2.2.2.1 s.2.2.2.2.2.2.2.1 s.2.2.2.2.2.2.2.2.1 s.2.2.2.2.2.2.2.2.2.1 s.2.2.2.2.2.2.2.2.2.2.1 s.2.2.2.2.2.2.2.2.2.2.2.1 s.2.2.2.2.2.2.2.2.2.2.2.2.1 s.2.2.2.2.2.2.2.2.2.2.2.2.2.1 s.2.2.2.2.2.2.2.2.2.2.2.2.2.2.1 s.2.2.2.2.2.2.2.2.2.2.2.2.2.2.2) (fun n s hI hk => hs n s.1 s.2.1 s.2.2.1 s.2.2.2.1 s.2.2.2.2.1 s.2.2.2.2.2.1 s.2.2.2.2.2.2.1 s.2.2.2.2.2.2.2.1 s.2.2.2.2.2.2.2.2.1 s.2.2.2.2.2.2.2.2.2.1 s.2.2.2.2.2.2.2.2.2.2.1 s.2.2.2.2.2.2.2.2.2.2.2.1 s.2.2.2.2.2.2.2.2.2.2.2.2.1 s.2.2.2.2.2.2.2.2.2.2.2.2.2.1 s.2.2.2.2.2.2.2.2.2.2.2.2.2.2.1 s.2.2.2.2.2.2.2.2.2.2.2.2.2.2.2 hI (fun b1 b2 b3 b4 b5 b6 b7 b8 b9 b10 b11 b12 b13 b14 b15 b16 h9 hm => hk (b1, b2, b3, b4, b5, b6, b7, b8, b9, b10, b11, b12, b13, b14, b15, b16) h9 hm)) (a1, a2, a3, a4, a5, a6, a7, a8, a9, a10, a11, a12, a13, a14, a15, a16) h
theorem pk_least (P : Nat → Prop) (h : ∃ k, P k) : ∃ k, P k ∧ ∀ j, j < k → ¬ P j := by
  obtain ⟨k, hk⟩ := h
  induction k using Nat.strongRecOn with
  | ind k ih =>
    by_cases e : ∃ j, j < k ∧ P j
    · obtain ⟨j, hj, pj⟩ := e
      exact ih j hj pj
    · exact ⟨k, hk, fun j hj pj => e ⟨j, hj, pj⟩⟩
theorem rp1 {ρ A1 : Type} (W : Nat → (ρ → Prop) → A1 → Prop) (ok : A1 → Prop) (μ : A1 → Nat) (val : A1 → ρ)
    (hs : ∀ (d : Nat) (post : ρ → Prop) (a1 : A1), ok a1 → post (val a1) → (∀ (post' : ρ → Prop) (b1 : A1), ok b1 → μ b1 < μ a1 → post' (val b1) → W d post' b1) → W (d + 1) post a1) :
    ∀ (d : Nat) (post : ρ → Prop) (a1 : A1), ok a1 → μ a1 < d → post (val a1) → W d post a1 := by
  intro d
  induction d with
  | zero => intro post a1 _ h; omega
  | succ d ih =>
    intro post a1 ho hm hp
    exact hs d post a1 ho hp (fun post' b1 ho' hm' hp' => ih post' b1 ho' (by omega) hp')
theorem rp2 {ρ A1 A2 : Type} (W : Nat → (ρ → Prop) → A1 → A2 → Prop) (ok : A1 → A2 → Prop) (μ : A1 → A2 → Nat) (val : A1 → A2 → ρ)
    (hs : ∀ (d : Nat) (post : ρ → Prop) (a1 : A1) (a2 : A2), ok a1 a2 → post (val a1 a2) → (∀ (post' : ρ → Prop) (b1 : A1) (b2 : A2), ok b1 b2 → μ b1 b2 < μ a1 a2 → post' (val b1 b2) → W d post' b1 b2) → W (d + 1) post a1 a2) :
    ∀ (d : Nat) (post : ρ → Prop) (a1 : A1) (a2 : A2), ok a1 a2 → μ a1 a2 < d → post (val a1 a2) → W d post a1 a2 := by
  intro d
  induction d with
  | zero => intro post a1 a2 _ h; omega
  | succ d ih =>
    intro post a1 a2 ho hm hp
    exact hs d post a1 a2 ho hp (fun post' b1 b2 ho' hm' hp' => ih post' b1 b2 ho' (by omega) hp')
theorem rp3 {ρ A1 A2 A3 : Type} (W : Nat → (ρ → Prop) → A1 → A2 → A3 → Prop) (ok : A1 → A2 → A3 → Prop) (μ : A1 → A2 → A3 → Nat) (val : A1 → A2 → A3 → ρ)
    (hs : ∀ (d : Nat) (post : ρ → Prop) (a1 : A1) (a2 : A2) (a3 : A3), ok a1 a2 a3 → post (val a1 a2 a3) → (∀ (post' : ρ → Prop) (b1 : A1) (b2 : A2) (b3 : A3), ok b1 b2 b3 → μ b1 b2 b3 < μ a1 a2 a3 → post' (val b1 b2 b3) → W d post' b1 b2 b3) → W (d + 1) post a1 a2 a3) :
    ∀ (d : Nat) (post : ρ → Prop) (a1 : A1) (a2 : A2) (a3 : A3), ok a1 a2 a3 → μ a1 a2 a3 < d → post (val a1 a2 a3) → W d post a1 a2 a3 := by
  intro d
  induction d with
  | zero => intro post a1 a2 a3 _ h; omega
  | succ d ih =>
    intro post a1 a2 a3 ho hm hp
    exact hs d post a1 a2 a3 ho hp (fun post' b1 b2 b3 ho' hm' hp' => ih post' b1 b2 b3 ho' (by omega) hp')
theorem rp4 {ρ A1 A2 A3 A4 : Type} (W : Nat → (ρ → Prop) → A1 → A2 → A3 → A4 → Prop) (ok : A1 → A2 → A3 → A4 → Prop) (μ : A1 → A2 → A3 → A4 → Nat) (val : A1 → A2 → A3 → A4 → ρ)
    (hs : ∀ (d : Nat) (post : ρ → Prop) (a1 : A1) (a2 : A2) (a3 : A3) (a4 : A4), ok a1 a2 a3 a4 → post (val a1 a2 a3 a4) → (∀ (post' : ρ → Prop) (b1 : A1) (b2 : A2) (b3 : A3) (b4 : A4), ok b1 b2 b3 b4 → μ b1 b2 b3 b4 < μ a1 a2 a3 a4 → post' (val b1 b2 b3 b4) → W d post' b1 b2 b3 b4) → W (d + 1) post a1 a2 a3 a4) :
    ∀ (d : Nat) (post : ρ → Prop) (a1 : A1) (a2 : A2) (a3 : A3) (a4 : A4), ok a1 a2 a3 a4 → μ a1 a2 a3 a4 < d → post (val a1 a2 a3 a4) → W d post a1 a2 a3 a4 := by
  intro d
  induction d with
  | zero => intro post a1 a2 a3 a4 _ h; omega
  | succ d ih =>
    intro post a1 a2 a3 a4 ho hm hp
    exact hs d post a1 a2 a3 a4 ho hp (fun post' b1 b2 b3 b4 ho' hm' hp' => ih post' b1 b2 b3 b4 ho' (by omega) hp')
theorem rp5 {ρ A1 A2 A3 A4 A5 : Type} (W : Nat → (ρ → Prop) → A1 → A2 → A3 → A4 → A5 → Prop) (ok : A1 → A2 → A3 → A4 → A5 → Prop) (μ : A1 → A2 → A3 → A4 → A5 → Nat) (val : A1 → A2 → A3 → A4 → A5 → ρ)
    (hs : ∀ (d : Nat) (post : ρ → Prop) (a1 : A1) (a2 : A2) (a3 : A3) (a4 : A4) (a5 : A5), ok a1 a2 a3 a4 a5 → post (val a1 a2 a3 a4 a5) → (∀ (post' : ρ → Prop) (b1 : A1) (b2 : A2) (b3 : A3) (b4 : A4) (b5 : A5), ok b1 b2 b3 b4 b5 → μ b1 b2 b3 b4 b5 < μ a1 a2 a3 a4 a5 → post' (val b1 b2 b3 b4 b5) → W d post' b1 b2 b3 b4 b5) → W (d + 1) post a1 a2 a3 a4 a5) :
    ∀ (d : Nat) (post : ρ → Prop) (a1 : A1) (a2 : A2) (a3 : A3) (a4 : A4) (a5 : A5), ok a1 a2 a3 a4 a5 → μ a1 a2 a3 a4 a5 < d → post (val a1 a2 a3 a4 a5) → W d post a1 a2 a3 a4 a5 := by
  intro d
  induction d with
  | zero => intro post a1 a2 a3 a4 a5 _ h; omega
  | succ d ih =>
    intro post a1 a2 a3 a4 a5 ho hm hp
    exact hs d post a1 a2 a3 a4 a5 ho hp (fun post' b1 b2 b3 b4 b5 ho' hm' hp' => ih post' b1 b2 b3 b4 b5 ho' (by omega) hp')
theorem rp6 {ρ A1 A2 A3 A4 A5 A6 : Type} (W : Nat → (ρ → Prop) → A1 → A2 → A3 → A4 → A5 → A6 → Prop) (ok : A1 → A2 → A3 → A4 → A5 → A6 → Prop) (μ : A1 → A2 → A3 → A4 → A5 → A6 → Nat) (val : A1 → A2 → A3 → A4 → A5 → A6 → ρ)
    (hs : ∀ (d : Nat) (post : ρ → Prop) (a1 : A1) (a2 : A2) (a3 : A3) (a4 : A4) (a5 : A5) (a6 : A6), ok a1 a2 a3 a4 a5 a6 → post (val a1 a2 a3 a4 a5 a6) → (∀ (post' : ρ → Prop) (b1 : A1) (b2 : A2) (b3 : A3) (b4 : A4) (b5 : A5) (b6 : A6), ok b1 b2 b3 b4 b5 b6 → μ b1 b2 b3 b4 b5 b6 < μ a1 a2 a3 a4 a5 a6 → post' (val b1 b2 b3 b4 b5 b6) → W d post' b1 b2 b3 b4 b5 b6) → W (d + 1) post a1 a2 a3 a4 a5 a6) :
    ∀ (d : Nat) (post : ρ → Prop) (a1 : A1) (a2 : A2) (a3 : A3) (a4 : A4) (a5 : A5) (a6 : A6), ok a1 a2 a3 a4 a5 a6 → μ a1 a2 a3 a4 a5 a6 < d → post (val a1 a2 a3 a4 a5 a6) → W d post a1 a2 a3 a4 a5 a6 := by
  intro d
  induction d with
  | zero => intro post a1 a2 a3 a4 a5 a6 _ h; omega
  | succ d ih =>
    intro post a1 a2 a3 a4 a5 a6 ho hm hp
    exact hs d post a1 a2 a3 a4 a5 a6 ho hp (fun post' b1 b2 b3 b4 b5 b6 ho' hm' hp' => ih post' b1 b2 b3 b4 b5 b6 ho' (by omega) hp')
theorem rec_p {σ ρ : Type} (W : Nat → (ρ → Prop) → σ → Prop) (ok : σ → Prop) (μ : σ → Nat) (val : σ → ρ)
    (hs : ∀ d s post, ok s → post (val s) → (∀ s' post', ok s' → μ s' < μ s → post' (val s') → W d post' s') → W (d + 1) post s) :
    ∀ d s post, ok s → μ s < d → post (val s) → W d post s := by
  intro d
  induction d with
  | zero => intro s post _ h; omega
  | succ d ih =>
    intro s post ho hm hp
    exact hs d s post ho hp (fun s' post' ho' hm' hp' => ih s' post' ho' (by omega) hp')
theorem rec_q {σ ρ : Type} (W : Nat → (ρ → Prop) → σ → Prop) (ok : σ → Prop) (μ : σ → Nat) (Q : σ → ρ → Prop)
    (hs : ∀ d s post, ok s → (∀ r, Q s r → post r) → (∀ s' post', ok s' → μ s' < μ s → (∀ r, Q s' r → post' r) → W d post' s') → W (d + 1) post s) :
    ∀ d s post, ok s → μ s < d → (∀ r, Q s r → post r) → W d post s := by
  intro d
  induction d with
  | zero => intro s post _ h; omega
  | succ d ih =>
    intro s post ho hm hp
    exact hs d s post ho hp (fun s' post' ho' hm' hp' => ih s' post' ho' (by omega) hp')
def bx_sum (f : Nat → Int32) : Nat → Int32
  | 0 => 0
  | n + 1 => bx_sum f n + f n
theorem ek_u {A : Prop} {B : Nat → Prop} {k N : Nat} (hk : k < N) (h : B k) : (some k = none → A) ∧ (∀ y : Nat, some k = some y → (y < N ∧ B y)) :=
  ⟨fun z => absurd z (Option.some_ne_none k), fun _ e => (by cases e; exact ⟨hk, h⟩)⟩
theorem ek_nu {A : Prop} {B : Nat → Prop} (h : A) : ((none : Option Nat) = none → A) ∧ (∀ y : Nat, (none : Option Nat) = some y → B y) :=
  ⟨fun _ => h, fun _ e => (by cases e)⟩
theorem ek_if {c d A B : Prop} (e : c ↔ d) (f : d → A) (g : ¬ d → B) : (c → A) ∧ (¬ c → B) :=
  ⟨fun z => f (e.mp z), fun z => g (fun y => z (e.mpr y))⟩
theorem ek_v {α : Sort _} {P : α → Prop} {a b : α} (e : a = b) (h : P b) : P a := e ▸ h
theorem co_some {x : Option Nat} {A : Prop} {B : Nat → Prop} (i : Nat) (h : B i) (hx : x = some i := by rfl) : (x = none → A) ∧ (∀ y : Nat, x = some y → B y) := by
  subst hx
  exact ⟨fun e => (nomatch e), fun y e => Option.some.inj e ▸ h⟩
theorem co_none {x : Option Nat} {A : Prop} {B : Nat → Prop} (h : A) (hx : x = none := by rfl) : (x = none → A) ∧ (∀ y : Nat, x = some y → B y) := by
  subst hx
  exact ⟨fun _ => h, fun y e => (nomatch e)⟩
theorem co_any {x : Option Nat} {A : Prop} {B : Nat → Prop} (hn : x = none → A) (hs : ∀ i : Nat, x = some i → B i) : (x = none → A) ∧ (∀ y : Nat, x = some y → B y) := ⟨hn, hs⟩
theorem co_2 {P : Nat → Prop} (h0 : P 0) (h1 : P 1) {i : Nat} (hi : i < 2) : P i :=
  match i, hi with
  | 0, _ => h0
  | 1, _ => h1
theorem co_3 {P : Nat → Prop} (h0 : P 0) (h1 : P 1) (h2 : P 2) {i : Nat} (hi : i < 3) : P i :=
  match i, hi with
  | 0, _ => h0
  | 1, _ => h1
  | 2, _ => h2
theorem co_4 {P : Nat → Prop} (h0 : P 0) (h1 : P 1) (h2 : P 2) (h3 : P 3) {i : Nat} (hi : i < 4) : P i :=
  match i, hi with
  | 0, _ => h0
  | 1, _ => h1
  | 2, _ => h2
  | 3, _ => h3
theorem co_dec {N : Nat} {P : Nat → Prop} [DecidablePred P] (h : (List.range N).all (fun i => decide (P i)) = true) {i : Nat} (hi : i < N) : P i := by
  have := List.all_eq_true.mp h i (List.mem_range.mpr hi)
  exact of_decide_eq_true this
theorem co_tab {α : Type} {l : List α} {d : α} {P : α → Prop} (h : ∀ a, a ∈ l → P a) {i : Nat} (hi : i < l.length) : P (l.getD i d) := by
  rw [List.getD_eq_getElem?_getD, List.getElem?_eq_getElem hi]
  exact h _ (List.getElem_mem hi)
theorem pk_mu {x : Int32} {L : Nat} (h0 : ¬ x < 0) (h : ¬ nI L ≤ x) (hL : L < 2 ^ 31) : ∃ j : Nat, j < L ∧ x = nI j ∧ x + 1 = nI (j + 1) ∧ x.toNatClampNeg = j ∧ L - (x + 1).toNatClampNeg < L - x.toNatClampNeg := by
  obtain ⟨j, hj, rfl⟩ := nI_of h0
  have hl : j < L := Nat.not_le.mp fun q => h (nI_le q hj)
  refine ⟨j, hl, rfl, nI_1 j, nI_clamp hj, ?_⟩
  rw [nI_1, nI_clamp (by omega), nI_clamp hj]
  omega
theorem op_s {α : Type} {r : Option α} {A : Prop} {B : α → Prop} {y : α} (h : r = some y) (b : B y) : (r = none → A) ∧ ∀ z, r = some z → B z :=
  ⟨fun e => (by rw [h] at e; cases e), fun z e => (by rw [h] at e; cases e; exact b)⟩
def l_holds {α : Type} (a : Nat → Option Nat) (LP : List Nat) (p : Nat → α) (c : Nat) (b : Nat → α) : Prop :=
  ∀ j, j < c → ∃ y, a j = some y ∧ y ∈ LP ∧ p y = b j
theorem l_holds_0 {α : Type} {a : Nat → Option Nat} {LP : List Nat} {p b : Nat → α} : l_holds a LP p 0 b := fun j h => absurd h (Nat.not_lt_zero j)
theorem l_in_new (LP : List Nat) (q : Nat) : q ∈ LP ++ [q] := List.mem_append.mpr (Or.inr (List.mem_singleton.mpr rfl))
def l_sum (b : Nat → Int32) : Nat → Int32
  | 0 => 0
  | k + 1 => l_sum b k + b k
theorem sb_shr0 (x : Int32) : x >>> ((0 : Int32) &&& 31) = x := by
  rw [show ((0 : Int32) &&& 31) = 0 by decide]
  simp
theorem sb_shl0 (x : Int32) : x <<< ((0 : Int32) &&& 31) = x := by
  rw [show ((0 : Int32) &&& 31) = 0 by decide]
  simp
theorem sb_cl0 : (0 : Int32).toNatClampNeg = 0 := by decide
theorem sb_m1 {p : Nat} (h : 0 < p) : nI p + (-1) = nI (p - 1) := by
  obtain ⟨q, rfl⟩ : ∃ q, p = q + 1 := ⟨p - 1, by omega⟩
  exact pk_m1 q
def sb_b (c : Nat) : Int32 := (nI c).toInt8.toInt32
theorem sb_byte : ∀ c, c < 256 → sb_b c &&& 255 = nI c ∧ ((nI c).toUInt32 % 65536).toInt32 = nI c ∧ nI c ≤ 255 := by decide +kernel
def sb_Fit (a : Nat → Int32) : Prop := ∀ j, fits .byte (.int (a j)) = true
def sb_Lat (t : Nat → Nat) (n : Nat) (a : Nat → Int32) : Prop := ∀ j, j < n → t j < 256 ∧ a j = sb_b (t j)
theorem sb_fitB (c : Nat) : fits .byte (.int (sb_b c)) = true := pk_fb _
theorem sb_fit0 : sb_Fit (fun _ => 0) := fun _ => by
  show fits .byte (.int 0) = true
  decide
theorem sb_fitU {a : Nat → Int32} {k : Nat} {x : Int32} (h : sb_Fit a) (hx : fits .byte (.int x) = true) : sb_Fit (upd a k x) := by
  intro j
  by_cases e : j = k
  · subst e
    rw [pk_us]
    exact hx
  · rw [pk_un e]
    exact h j
def sb_cat (t : Nat → Nat) (n : Nat) (s : Nat → Nat) : Nat → Nat := fun j => if j < n then t j else s (j - n)
theorem sb_cat_lo {t s : Nat → Nat} {n j : Nat} (h : j < n) : sb_cat t n s j = t j := if_pos h
theorem sb_cat_hi {t s : Nat → Nat} {n j : Nat} : sb_cat t n s (n + j) = s j := by
  show (if n + j < n then t (n + j) else s (n + j - n)) = s j
  rw [if_neg (by omega), Nat.add_sub_cancel_left]
theorem sb_latPut {t s : Nat → Nat} {n w : Nat} {a a' : Nat → Int32} (h : sb_Lat t n a) (hk : ∀ j, j < n → a' j = a j) (hs : ∀ i, i < w → s i < 256 ∧ a' (n + i) = sb_b (s i)) : sb_Lat (sb_cat t n s) (n + w) a' := by
  intro j hj
  by_cases e : j < n
  · rw [sb_cat_lo e, hk j e]
    exact h j e
  · obtain ⟨i, rfl⟩ : ∃ i, j = n + i := ⟨j - n, by omega⟩
    rw [sb_cat_hi]
    exact hs i (by omega)
theorem sb_latKeep {t : Nat → Nat} {n : Nat} {a a' : Nat → Int32} (h : sb_Lat t n a) (hk : ∀ j, j < n → a' j = a j) : sb_Lat t n a' := fun j hj => by
  rw [hk j hj]
  exact h j hj
def sb_cap (q m : Nat) : Nat := if q ≤ m then m else if 2 * m + 2 < q then q else 2 * m + 2
def sb_Room (q m mc ms : Nat) : Prop := q ≤ m ∨ (1 ≤ mc ∧ sb_cap q m ≤ ms ∧ sb_cap q m ≤ 65536)
theorem sb_cap_ge (q m : Nat) : q ≤ sb_cap q m := by
  unfold sb_cap
  split
  · omega
  · split <;> omega
theorem sb_cap_gem (q m : Nat) : m ≤ sb_cap q m := by
  unfold sb_cap
  split
  · omega
  · split <;> omega
theorem sb_cap_le {q m mc ms : Nat} (hm : m ≤ 65536) (hr : sb_Room q m mc ms) : sb_cap q m ≤ 65536 := by
  rcases hr with h | h
  · rw [sb_cap, if_pos h]
    exact hm
  · exact h.2.2
theorem sb_at {P : Int32 → Prop} {x y : Int32} (e : x = y) (h : P y) : P x := e ▸ h
def sb_dg (w : Nat) : Nat := if w < 10 then 1 else if w < 100 then 2 else if w < 1000 then 3 else if w < 10000 then 4 else if w < 100000 then 5 else if w < 1000000 then 6 else if w < 10000000 then 7 else if w < 100000000 then 8 else if w < 1000000000 then 9 else 10
def sb_dec (v : Nat) : Nat → Nat := fun i => 48 + v / 10 ^ (sb_dg v - 1 - i) % 10
theorem sb_dg_in (w : Nat) : 1 ≤ sb_dg w ∧ sb_dg w ≤ 10 := by
  unfold sb_dg
  constructor <;> (repeat' split) <;> omega
theorem sb_dg100 {w : Nat} (h : 100 ≤ w) (hw : w < 2 ^ 31) : sb_dg w = sb_dg (w / 100) + 2 := by
  rw [sb_dg, sb_dg, if_neg (show ¬ w < 10 by omega), if_neg (show ¬ w < 100 by omega)]
  by_cases h3 : w < 1000
  · rw [if_pos h3, if_pos (show w / 100 < 10 by omega)]
  rw [if_neg h3, if_neg (show ¬ w / 100 < 10 by omega)]
  by_cases h4 : w < 10000
  · rw [if_pos h4, if_pos (show w / 100 < 100 by omega)]
  rw [if_neg h4, if_neg (show ¬ w / 100 < 100 by omega)]
  by_cases h5 : w < 100000
  · rw [if_pos h5, if_pos (show w / 100 < 1000 by omega)]
  rw [if_neg h5, if_neg (show ¬ w / 100 < 1000 by omega)]
  by_cases h6 : w < 1000000
  · rw [if_pos h6, if_pos (show w / 100 < 10000 by omega)]
  rw [if_neg h6, if_neg (show ¬ w / 100 < 10000 by omega)]
  by_cases h7 : w < 10000000
  · rw [if_pos h7, if_pos (show w / 100 < 100000 by omega)]
  rw [if_neg h7, if_neg (show ¬ w / 100 < 100000 by omega)]
  by_cases h8 : w < 100000000
  · rw [if_pos h8, if_pos (show w / 100 < 1000000 by omega)]
  rw [if_neg h8, if_neg (show ¬ w / 100 < 1000000 by omega)]
  by_cases h9 : w < 1000000000
  · rw [if_pos h9, if_pos (show w / 100 < 10000000 by omega)]
  rw [if_neg h9, if_neg (show ¬ w / 100 < 10000000 by omega)]
  rw [if_pos (show w / 100 < 100000000 by omega)]
theorem sb_negT {w : Nat} (h : w < 2 ^ 31) : (-nI w).toInt = -(w : Int) := by
  rw [Int32.toInt_neg, nI_toInt h]
  exact Int.bmod_eq_of_le (by omega) (by omega)
theorem sb_nle {a b : Nat} (ha : a < 2 ^ 31) (hb : b < 2 ^ 31) : -nI a ≤ -nI b ↔ b ≤ a := by
  rw [Int32.le_iff_toInt_le, sb_negT ha, sb_negT hb]
  omega
theorem sb_nlt {a b : Nat} (ha : a < 2 ^ 31) (hb : b < 2 ^ 31) : -nI a < -nI b ↔ b < a := by
  rw [Int32.lt_iff_toInt_lt, sb_negT ha, sb_negT hb]
  omega
theorem sb_cmp {A B : Prop} {x : Int32} (v c : Nat) (f : c ≤ v → A) (g : v < c → B) (hv : v < 2 ^ 31) (hx : x = -nI c := by rfl) (hc : c < 2 ^ 31 := by omega) : (-nI v ≤ x → A) ∧ (¬ -nI v ≤ x → B) := by
  subst hx
  rw [sb_nle hv hc]
  exact ⟨f, fun z => g (by omega)⟩
theorem sb_ndiv {w : Nat} (hw : w < 2 ^ 31) : (-nI w) / 100 = -nI (w / 100) := by
  apply Int32.toInt_inj.mp
  have h100 : (100 : Int32).toInt = 100 := by decide
  rw [Int32.toInt_div, sb_negT hw, h100, sb_negT (by omega), Int.neg_tdiv, Int.tdiv_eq_ediv_of_nonneg (by omega), Int.bmod_eq_of_le (by omega) (by omega)]
  omega
theorem sb_nrem {w : Nat} (hw : w < 2 ^ 31) : (-nI (w / 100)) * 100 - (-nI w) = nI (w % 100) := by
  have h := pk_rem (a := w) (d := 100) hw (by decide) (by decide)
  rw [pk_div hw (by decide) (by decide)] at h
  rw [← h]
  show (-nI (w / 100)) * nI 100 - (-nI w) = nI w - nI (w / 100) * nI 100
  rw [Int32.neg_mul, Int32.sub_neg, Int32.add_comm, ← Int32.sub_eq_add_neg]
end
section
/-! expressions: the value of a flat chain, the shunting-yard, the valued grammar over token lists -/
/-- binding strength of an operator (0: none) -/
def ex_lv (c : Nat) : Nat := if c = 61 ∨ c = 60 then 1 else if c = 43 ∨ c = 45 ∨ c = 94 then 2 else if c = 42 ∨ c = 38 then 3 else 0
def ex_ap (c : Nat) (x y : Int32) : Int32 := if c = 43 then x + y else if c = 45 then x - y else if c = 94 then x ^^^ y else if c = 42 then x * y else if c = 38 then x &&& y else if c = 61 then (if x = y then 1 else 0) else (if y ≤ x then 0 else 1)
theorem ex_lv_le (c : Nat) : ex_lv c = 0 ∨ ex_lv c = 1 ∨ ex_lv c = 2 ∨ ex_lv c = 3 := by
  unfold ex_lv; split
  · exact Or.inr (Or.inl rfl)
  · split
    · exact Or.inr (Or.inr (Or.inl rfl))
    · split
      · exact Or.inr (Or.inr (Or.inr rfl))
      · exact Or.inl rfl
/-- one pass over the operators of level m -/
def ex_ps (m : Nat) : Int32 → List (Nat × Int32) → Int32 × List (Nat × Int32)
  | v, [] => (v, [])
  | v, (o, w) :: l => if ex_lv o = m then ex_ps m (ex_ap o v w) l else (v, (o, (ex_ps m w l).1) :: (ex_ps m w l).2)
def ex_fl (v : Int32) (l : List (Nat × Int32)) : Int32 :=
  (ex_ps 1 (ex_ps 2 (ex_ps 3 v l).1 (ex_ps 3 v l).2).1 (ex_ps 2 (ex_ps 3 v l).1 (ex_ps 3 v l).2).2).1
def ex_fn (C : Option (Int32 × Nat)) (v : Int32) : Int32 := match C with
  | none => v
  | some (u, o) => ex_ap o u v
def ex_po (C : Option (Int32 × Nat)) : List Nat := match C with
  | none => []
  | some (_, o) => [o]
def ex_pv (C : Option (Int32 × Nat)) : List Int32 := match C with
  | none => []
  | some (u, _) => [u]
def ex_sy : Option (Int32 × Nat) → Option (Int32 × Nat) → Option (Int32 × Nat) → Int32 → List (Nat × Int32) → Int32
  | A, B, C, v, [] => ex_fn A (ex_fn B (ex_fn C v))
  | A, B, C, v, (o, w) :: l => if ex_lv o = 3 then ex_sy A B (some (ex_fn C v, o)) w l
      else if ex_lv o = 2 then ex_sy A (some (ex_fn B (ex_fn C v), o)) none w l
      else ex_sy (some (ex_fn A (ex_fn B (ex_fn C v)), o)) none none w l
theorem ex_sy3 (l : List (Nat × Int32)) : ∀ A B C v, ex_sy A B C v l = ex_sy A B none (ex_ps 3 (ex_fn C v) l).1 (ex_ps 3 (ex_fn C v) l).2 := by
  induction l with
  | nil => intro A B C v; rfl
  | cons q l ih =>
    obtain ⟨o, w⟩ := q
    intro A B C v
    by_cases h3 : ex_lv o = 3
    · have e1 : ex_sy A B C v ((o, w) :: l) = ex_sy A B (some (ex_fn C v, o)) w l := by simp only [ex_sy, if_pos h3]
      have e2 : ex_ps 3 (ex_fn C v) ((o, w) :: l) = ex_ps 3 (ex_ap o (ex_fn C v) w) l := by simp only [ex_ps, if_pos h3]
      rw [e1, e2, ih]; rfl
    · have e2 : ex_ps 3 (ex_fn C v) ((o, w) :: l) = (ex_fn C v, (o, (ex_ps 3 w l).1) :: (ex_ps 3 w l).2) := by simp only [ex_ps, if_neg h3]
      rw [e2]
      by_cases h2 : ex_lv o = 2
      · have e1 : ex_sy A B C v ((o, w) :: l) = ex_sy A (some (ex_fn B (ex_fn C v), o)) none w l := by simp only [ex_sy, if_neg h3, if_pos h2]
        rw [e1, ih]
        simp only [ex_sy, if_neg h3, if_pos h2]; rfl
      · have e1 : ex_sy A B C v ((o, w) :: l) = ex_sy (some (ex_fn A (ex_fn B (ex_fn C v)), o)) none none w l := by simp only [ex_sy, if_neg h3, if_neg h2]
        rw [e1, ih]
        simp only [ex_sy, if_neg h3, if_neg h2]; rfl
theorem ex_sy2 (l : List (Nat × Int32)) : ∀ A B v, (∀ q ∈ l, ex_lv q.1 ≠ 3) → ex_sy A B none v l = ex_sy A none none (ex_ps 2 (ex_fn B v) l).1 (ex_ps 2 (ex_fn B v) l).2 := by
  induction l with
  | nil => intro A B v _; rfl
  | cons q l ih =>
    obtain ⟨o, w⟩ := q
    intro A B v hq
    have h3 : ¬ ex_lv o = 3 := hq (o, w) (List.mem_cons_self ..)
    have hl : ∀ q ∈ l, ex_lv q.1 ≠ 3 := fun q hm => hq q (List.mem_cons_of_mem _ hm)
    by_cases h2 : ex_lv o = 2
    · have e1 : ex_sy A B none v ((o, w) :: l) = ex_sy A (some (ex_fn B v, o)) none w l := by simp only [ex_sy, if_neg h3, if_pos h2]; rfl
      have e2 : ex_ps 2 (ex_fn B v) ((o, w) :: l) = ex_ps 2 (ex_ap o (ex_fn B v) w) l := by simp only [ex_ps, if_pos h2]
      rw [e1, e2, ih _ _ _ hl]; rfl
    · have e2 : ex_ps 2 (ex_fn B v) ((o, w) :: l) = (ex_fn B v, (o, (ex_ps 2 w l).1) :: (ex_ps 2 w l).2) := by simp only [ex_ps, if_neg h2]
      have e1 : ex_sy A B none v ((o, w) :: l) = ex_sy (some (ex_fn A (ex_fn B v), o)) none none w l := by simp only [ex_sy, if_neg h3, if_neg h2]; rfl
      rw [e2, e1, ih _ _ _ hl]
      simp only [ex_sy, if_neg h3, if_neg h2]; rfl
theorem ex_sy1 (l : List (Nat × Int32)) : ∀ A v, (∀ q ∈ l, ex_lv q.1 = 1) → ex_sy A none none v l = (ex_ps 1 (ex_fn A v) l).1 := by
  induction l with
  | nil => intro A v _; rfl
  | cons q l ih =>
    obtain ⟨o, w⟩ := q
    intro A v hq
    have h1 : ex_lv o = 1 := hq (o, w) (List.mem_cons_self ..)
    have hl : ∀ q ∈ l, ex_lv q.1 = 1 := fun q hm => hq q (List.mem_cons_of_mem _ hm)
    have h3 : ¬ ex_lv o = 3 := by omega
    have h2 : ¬ ex_lv o = 2 := by omega
    have e1 : ex_sy A none none v ((o, w) :: l) = ex_sy (some (ex_fn A v, o)) none none w l := by simp only [ex_sy, if_neg h3, if_neg h2]; rfl
    have e2 : ex_ps 1 (ex_fn A v) ((o, w) :: l) = ex_ps 1 (ex_ap o (ex_fn A v) w) l := by simp only [ex_ps, if_pos h1]
    rw [e1, e2, ih _ _ hl]; rfl
/-- what a pass leaves: operators of other levels, and no others than before -/
theorem ex_ps_mem (m : Nat) (P : Nat → Prop) (l : List (Nat × Int32)) : ∀ v, (∀ q ∈ l, P q.1) → ∀ q ∈ (ex_ps m v l).2, P q.1 ∧ ex_lv q.1 ≠ m := by
  induction l with
  | nil => intro v _ q hq; exact absurd hq (List.not_mem_nil)
  | cons a l ih =>
    obtain ⟨o, w⟩ := a
    intro v hP
    have hl : ∀ q ∈ l, P q.1 := fun q hm => hP q (List.mem_cons_of_mem _ hm)
    by_cases h : ex_lv o = m
    · have e : ex_ps m v ((o, w) :: l) = ex_ps m (ex_ap o v w) l := by simp only [ex_ps, if_pos h]
      rw [e]; exact ih _ hl
    · have e : ex_ps m v ((o, w) :: l) = (v, (o, (ex_ps m w l).1) :: (ex_ps m w l).2) := by simp only [ex_ps, if_neg h]
      rw [e]
      intro q hq
      cases List.mem_cons.mp hq with
      | inl h1 => rw [h1]; exact ⟨hP (o, w) (List.mem_cons_self ..), h⟩
      | inr h1 => exact ih w hl q h1
theorem ex_sy_fl (v : Int32) (l : List (Nat × Int32)) (h : ∀ q ∈ l, 0 < ex_lv q.1) : ex_sy none none none v l = ex_fl v l := by
  have a3 := ex_ps_mem 3 (fun c => 0 < ex_lv c) l v h
  have a2 := ex_ps_mem 2 (fun c => 0 < ex_lv c ∧ ex_lv c ≠ 3) (ex_ps 3 v l).2 (ex_ps 3 v l).1 a3
  rw [ex_sy3]
  show ex_sy none none none (ex_ps 3 v l).1 (ex_ps 3 v l).2 = _
  rw [ex_sy2 _ _ _ _ (fun q hq => (a3 q hq).2)]
  show ex_sy none none none (ex_ps 2 (ex_ps 3 v l).1 (ex_ps 3 v l).2).1 (ex_ps 2 (ex_ps 3 v l).1 (ex_ps 3 v l).2).2 = _
  rw [ex_sy1 _ _ _ (fun q hq => by
    have := a2 q hq
    have := ex_lv_le q.1
    omega)]
  rfl
/-- X's reduction: operators of at least level m -/
def ex_rd (m : Nat) : List Nat → List Int32 → List Nat × List Int32
  | [], vs => ([], vs)
  | o :: os, vs => match vs with
    | r :: l :: vs' => if ex_lv o < m then (o :: os, vs) else ex_rd m os (ex_ap o l r :: vs')
    | _ => (o :: os, vs)
theorem ex_rd_s {m o : Nat} {os : List Nat} {r l : Int32} {vs : List Int32} (h : ¬ ex_lv o < m) : ex_rd m (o :: os) (r :: l :: vs) = ex_rd m os (ex_ap o l r :: vs) := by
  simp only [ex_rd, if_neg h]
theorem ex_rd_h {m o : Nat} {os : List Nat} {vs : List Int32} (h : ex_lv o < m) : ex_rd m (o :: os) vs = (o :: os, vs) := by
  match vs with
  | [] => rfl
  | [_] => rfl
  | _ :: _ :: _ => simp only [ex_rd, if_pos h]
def ex_bs (O : List Nat) : Prop := O = [] ∨ ∃ o os, O = o :: os ∧ ex_lv o = 0
def ex_ok (m : Nat) (C : Option (Int32 × Nat)) : Prop := ∀ u o, C = some (u, o) → ex_lv o = m
theorem ex_ok0 (m : Nat) : ex_ok m none := fun _ _ h => nomatch h
theorem ex_ok1 {m : Nat} {u : Int32} {o : Nat} (h : ex_lv o = m) : ex_ok m (some (u, o)) := fun _ _ e => by cases e; exact h
theorem ex_rd_bs {m : Nat} {O : List Nat} {vs : List Int32} (hO : ex_bs O) (hm : 0 < m) : ex_rd m O vs = (O, vs) := by
  rcases hO with rfl | ⟨o, os, rfl, h⟩
  · rfl
  · exact ex_rd_h (by omega)
theorem ex_rd_c {m k : Nat} {C : Option (Int32 × Nat)} {os : List Nat} {v : Int32} {vs : List Int32} (hC : ex_ok k C) (hk : m ≤ k) : ex_rd m (ex_po C ++ os) (v :: (ex_pv C ++ vs)) = ex_rd m os (ex_fn C v :: vs) := by
  match C with
  | none => rfl
  | some (u, o) =>
    have : ex_lv o = k := hC u o rfl
    exact ex_rd_s (by omega)
theorem ex_rd_d {m k : Nat} {C : Option (Int32 × Nat)} {os : List Nat} {vs : List Int32} (hC : ex_ok k C) (hk : k < m) (h : ∀ vs, ex_rd m os vs = (os, vs)) : ex_rd m (ex_po C ++ os) vs = (ex_po C ++ os, vs) := by
  match C with
  | none => exact h vs
  | some (u, o) =>
    have : ex_lv o = k := hC u o rfl
    exact ex_rd_h (by omega)
/-- the chain's operators and values fed one by one -/
def ex_gs : List (Nat × Int32) → List Nat → List Int32 → List Nat × List Int32
  | [], os, vs => (os, vs)
  | (o, w) :: l, os, vs => ex_gs l (o :: (ex_rd (ex_lv o) os vs).1) (w :: (ex_rd (ex_lv o) os vs).2)
theorem ex_gs_sy {O : List Nat} {V : List Int32} (hO : ex_bs O) (l : List (Nat × Int32)) : ∀ A B C v, ex_ok 1 A → ex_ok 2 B → ex_ok 3 C → (∀ q ∈ l, 0 < ex_lv q.1) →
    ex_rd 1 (ex_gs l (ex_po C ++ (ex_po B ++ (ex_po A ++ O))) (v :: (ex_pv C ++ (ex_pv B ++ (ex_pv A ++ V))))).1 (ex_gs l (ex_po C ++ (ex_po B ++ (ex_po A ++ O))) (v :: (ex_pv C ++ (ex_pv B ++ (ex_pv A ++ V))))).2 = (O, ex_sy A B C v l :: V) := by
  induction l with
  | nil =>
    intro A B C v hA hB hC _
    show ex_rd 1 (ex_po C ++ (ex_po B ++ (ex_po A ++ O))) (v :: (ex_pv C ++ (ex_pv B ++ (ex_pv A ++ V)))) = _
    rw [ex_rd_c hC (by omega), ex_rd_c hB (by omega), ex_rd_c hA (by omega), ex_rd_bs hO (by omega)]; rfl
  | cons q l ih =>
    obtain ⟨o, w⟩ := q
    intro A B C v hA hB hC hq
    have h0 : 0 < ex_lv o := hq (o, w) (List.mem_cons_self ..)
    have hl : ∀ q ∈ l, 0 < ex_lv q.1 := fun q hm => hq q (List.mem_cons_of_mem _ hm)
    have hb1 : ∀ vs, ex_rd 2 (ex_po A ++ O) vs = (ex_po A ++ O, vs) := fun vs => ex_rd_d hA (by omega) (fun vs => ex_rd_bs hO (by omega))
    have hb2 : ∀ vs, ex_rd 3 (ex_po A ++ O) vs = (ex_po A ++ O, vs) := fun vs => ex_rd_d hA (by omega) (fun vs => ex_rd_bs hO (by omega))
    have hb3 : ∀ vs, ex_rd 3 (ex_po B ++ (ex_po A ++ O)) vs = (ex_po B ++ (ex_po A ++ O), vs) := fun vs => ex_rd_d hB (by omega) hb2
    by_cases h3 : ex_lv o = 3
    · have e : ex_rd 3 (ex_po C ++ (ex_po B ++ (ex_po A ++ O))) (v :: (ex_pv C ++ (ex_pv B ++ (ex_pv A ++ V)))) = (ex_po B ++ (ex_po A ++ O), ex_fn C v :: (ex_pv B ++ (ex_pv A ++ V))) := by
        rw [ex_rd_c hC (by omega), hb3]
      have e1 : ex_sy A B C v ((o, w) :: l) = ex_sy A B (some (ex_fn C v, o)) w l := by simp only [ex_sy, if_pos h3]
      have e2 : ∀ os vs, ex_gs ((o, w) :: l) os vs = ex_gs l (o :: (ex_rd 3 os vs).1) (w :: (ex_rd 3 os vs).2) := fun os vs => by simp only [ex_gs, h3]
      rw [e1, e2, e]
      exact ih A B (some (ex_fn C v, o)) w hA hB (ex_ok1 h3) hl
    · by_cases h2 : ex_lv o = 2
      · have e : ex_rd 2 (ex_po C ++ (ex_po B ++ (ex_po A ++ O))) (v :: (ex_pv C ++ (ex_pv B ++ (ex_pv A ++ V)))) = (ex_po A ++ O, ex_fn B (ex_fn C v) :: (ex_pv A ++ V)) := by
          rw [ex_rd_c hC (by omega), ex_rd_c hB (by omega), hb1]
        have e1 : ex_sy A B C v ((o, w) :: l) = ex_sy A (some (ex_fn B (ex_fn C v), o)) none w l := by simp only [ex_sy, if_neg h3, if_pos h2]
        have e2 : ∀ os vs, ex_gs ((o, w) :: l) os vs = ex_gs l (o :: (ex_rd 2 os vs).1) (w :: (ex_rd 2 os vs).2) := fun os vs => by simp only [ex_gs, h2]
        rw [e1, e2, e]
        exact ih A (some (ex_fn B (ex_fn C v), o)) none w hA (ex_ok1 h2) (ex_ok0 _) hl
      · have h1 : ex_lv o = 1 := by have := ex_lv_le o; omega
        have e : ex_rd 1 (ex_po C ++ (ex_po B ++ (ex_po A ++ O))) (v :: (ex_pv C ++ (ex_pv B ++ (ex_pv A ++ V)))) = (O, ex_fn A (ex_fn B (ex_fn C v)) :: V) := by
          rw [ex_rd_c hC (by omega), ex_rd_c hB (by omega), ex_rd_c hA (by omega), ex_rd_bs hO (by omega)]
        have e1 : ex_sy A B C v ((o, w) :: l) = ex_sy (some (ex_fn A (ex_fn B (ex_fn C v)), o)) none none w l := by simp only [ex_sy, if_neg h3, if_neg h2]
        have e2 : ∀ os vs, ex_gs ((o, w) :: l) os vs = ex_gs l (o :: (ex_rd 1 os vs).1) (w :: (ex_rd 1 os vs).2) := fun os vs => by simp only [ex_gs, h1]
        rw [e1, e2, e]
        exact ih (some (ex_fn A (ex_fn B (ex_fn C v)), o)) none none w (ex_ok1 h1) (ex_ok0 _) (ex_ok0 _) hl
theorem ex_gs_fl {O : List Nat} {V : List Int32} (hO : ex_bs O) (l : List (Nat × Int32)) (v : Int32) (hl : ∀ q ∈ l, 0 < ex_lv q.1) : ex_rd 1 (ex_gs l O (v :: V)).1 (ex_gs l O (v :: V)).2 = (O, ex_fl v l :: V) := by
  rw [← ex_sy_fl v l hl]
  exact ex_gs_sy hO l none none none v (ex_ok0 _) (ex_ok0 _) (ex_ok0 _) hl
/-! tokens -/
def ex_at (k : Nat) : Prop := (48 ≤ k ∧ k ≤ 57) ∨ (97 ≤ k ∧ k ≤ 104)
def ex_ix (cl : Nat → Int32) (x : Int32) : Int32 := cl (8 + (x &&& 7)).toNatClampNeg
/-- X's operator stack and value stack once a closing bracket is read -/
def ex_cl (cl : Nat → Int32) (s : List Nat × List Int32) : Option (List Nat × List Int32) := match s with
  | (o :: os, v :: vs) => some (os, (if o = 91 then ex_ix cl v else v) :: vs)
  | _ => none
/-- one token fed; none: not within an expression -/
def ex_fd (cl : Nat → Int32) (q : Nat × Int32) (os : List Nat) (vs : List Int32) : Option (List Nat × List Int32) :=
  if (48 ≤ q.1 ∧ q.1 ≤ 57) ∨ (97 ≤ q.1 ∧ q.1 ≤ 104) then some (os, q.2 :: vs)
  else if q.1 = 40 ∨ q.1 = 91 then some (q.1 :: os, vs)
  else if q.1 = 41 ∨ q.1 = 93 then ex_cl cl (ex_rd 1 os vs)
  else if ex_lv q.1 = 0 then none
  else some (q.1 :: (ex_rd (ex_lv q.1) os vs).1, (ex_rd (ex_lv q.1) os vs).2)
def ex_fa (cl : Nat → Int32) : List (Nat × Int32) → List Nat → List Int32 → Option (List Nat × List Int32)
  | [], os, vs => some (os, vs)
  | q :: w, os, vs => (ex_fd cl q os vs).bind (fun s => ex_fa cl w s.1 s.2)
theorem ex_fa_app (cl : Nat → Int32) (w1 w2 : List (Nat × Int32)) : ∀ os vs, ex_fa cl (w1 ++ w2) os vs = (ex_fa cl w1 os vs).bind (fun s => ex_fa cl w2 s.1 s.2) := by
  induction w1 with
  | nil => intro os vs; rfl
  | cons q w ih =>
    intro os vs
    show (ex_fd cl q os vs).bind (fun s => ex_fa cl (w ++ w2) s.1 s.2) = ((ex_fd cl q os vs).bind (fun s => ex_fa cl w s.1 s.2)).bind _
    cases ex_fd cl q os vs with
    | none => rfl
    | some s => exact ih s.1 s.2
/-- the valued grammar: primary (true; l = []) or chain (false) of the tokens w, with first value v and the rest l -/
def ex_X (cl : Nat → Int32) : Nat → Bool → List (Nat × Int32) → Int32 → List (Nat × Int32) → Prop
  | 0, _, _, _, _ => False
  | f + 1, true, w, v, l => l = [] ∧ ((∃ k, w = [(k, v)] ∧ ex_at k) ∨ ∃ u v0 l0 b1 b2, ex_X cl f false u v0 l0 ∧
      ((w = (40, b1) :: (u ++ [(41, b2)]) ∧ v = ex_fl v0 l0) ∨ (w = (91, b1) :: (u ++ [(93, b2)]) ∧ v = ex_ix cl (ex_fl v0 l0))))
  | f + 1, false, w, v, l => (l = [] ∧ ex_X cl f true w v []) ∨ ∃ p o b u v1 l1, w = p ++ (o, b) :: u ∧ ex_X cl f true p v [] ∧ 0 < ex_lv o ∧ ex_X cl f false u v1 l1 ∧ l = (o, v1) :: l1
theorem ex_lv_at {k : Nat} (h : 0 < ex_lv k) : k = 61 ∨ k = 60 ∨ k = 43 ∨ k = 45 ∨ k = 94 ∨ k = 42 ∨ k = 38 := by
  unfold ex_lv at h
  by_cases h1 : k = 61 ∨ k = 60
  · omega
  · rw [if_neg h1] at h
    by_cases h2 : k = 43 ∨ k = 45 ∨ k = 94
    · omega
    · rw [if_neg h2] at h
      by_cases h3 : k = 42 ∨ k = 38
      · omega
      · rw [if_neg h3] at h; omega
theorem ex_X_fa (cl : Nat → Int32) : ∀ f, (∀ w v l os vs, ex_X cl f true w v l → ex_fa cl w os vs = some (os, v :: vs)) ∧
    (∀ w v l os vs, ex_X cl f false w v l → ex_fa cl w os vs = some (ex_gs l os (v :: vs)) ∧ ∀ q ∈ l, 0 < ex_lv q.1) := by
  intro f
  induction f with
  | zero => exact ⟨fun _ _ _ _ _ h => h.elim, fun _ _ _ _ _ h => h.elim⟩
  | succ f ih =>
    obtain ⟨ihP, ihE⟩ := ih
    constructor
    · intro w v l os vs h
      obtain ⟨_, h⟩ := h
      rcases h with ⟨k, rfl, hk⟩ | ⟨u, v0, l0, b1, b2, hE, h⟩
      · show (ex_fd cl (k, v) os vs).bind _ = _
        have e : ex_fd cl (k, v) os vs = some (os, v :: vs) := if_pos hk
        rw [e]; rfl
      · rcases h with ⟨rfl, rfl⟩ | ⟨rfl, rfl⟩
        · obtain ⟨hu, hl⟩ := ihE u v0 l0 (40 :: os) vs hE
          show (ex_fd cl (40, b1) os vs).bind (fun s => ex_fa cl (u ++ [(41, b2)]) s.1 s.2) = _
          have e : ex_fd cl (40, b1) os vs = some (40 :: os, vs) := by simp [ex_fd]
          rw [e]
          show ex_fa cl (u ++ [(41, b2)]) (40 :: os) vs = _
          rw [ex_fa_app, hu]
          show (ex_fd cl (41, b2) _ _).bind _ = _
          have e2 : ∀ os vs, ex_fd cl (41, b2) os vs = ex_cl cl (ex_rd 1 os vs) := fun os vs => by simp [ex_fd]
          rw [e2, ex_gs_fl (Or.inr ⟨40, os, rfl, by decide⟩) l0 v0 hl]
          rfl
        · obtain ⟨hu, hl⟩ := ihE u v0 l0 (91 :: os) vs hE
          show (ex_fd cl (91, b1) os vs).bind (fun s => ex_fa cl (u ++ [(93, b2)]) s.1 s.2) = _
          have e : ex_fd cl (91, b1) os vs = some (91 :: os, vs) := by simp [ex_fd]
          rw [e]
          show ex_fa cl (u ++ [(93, b2)]) (91 :: os) vs = _
          rw [ex_fa_app, hu]
          show (ex_fd cl (93, b2) _ _).bind _ = _
          have e2 : ∀ os vs, ex_fd cl (93, b2) os vs = ex_cl cl (ex_rd 1 os vs) := fun os vs => by simp [ex_fd]
          rw [e2, ex_gs_fl (Or.inr ⟨91, os, rfl, by decide⟩) l0 v0 hl]
          rfl
    · intro w v l os vs h
      rcases h with ⟨rfl, h⟩ | ⟨p, o, b, u, v1, l1, rfl, hp, ho, hu, rfl⟩
      · exact ⟨ihP w v [] os vs h, fun q hq => absurd hq List.not_mem_nil⟩
      · have hP := ihP p v [] os vs hp
        obtain ⟨hE, hl⟩ := ihE u v1 l1 (o :: (ex_rd (ex_lv o) os (v :: vs)).1) (ex_rd (ex_lv o) os (v :: vs)).2 hu
        refine ⟨?_, fun q hq => ?_⟩
        · rw [ex_fa_app, hP]
          show (ex_fd cl (o, b) os (v :: vs)).bind (fun s => ex_fa cl u s.1 s.2) = _
          have ho' := ex_lv_at ho
          have e : ex_fd cl (o, b) os (v :: vs) = some (o :: (ex_rd (ex_lv o) os (v :: vs)).1, (ex_rd (ex_lv o) os (v :: vs)).2) := by
            rw [ex_fd, if_neg (by dsimp only; omega), if_neg (by dsimp only; omega), if_neg (by dsimp only; omega), if_neg (by dsimp only; omega)]
          rw [e]
          exact hE
        · cases List.mem_cons.mp hq with
          | inl h1 => rw [h1]; exact ho
          | inr h1 => exact hl q h1
end
section
/-! the first closed bracket of a primary, replaced by its value, leaves a primary of the same value -/
theorem ex_X_up (cl : Nat → Int32) : ∀ f b w v l, ex_X cl f b w v l → ex_X cl (f + 1) b w v l := by
  intro f
  induction f with
  | zero => intro b w v l h; exact h.elim
  | succ f ih =>
    intro b w v l h
    cases b with
    | true =>
      obtain ⟨hl, h⟩ := h
      refine ⟨hl, ?_⟩
      rcases h with h | ⟨u, v0, l0, b1, b2, hE, h⟩
      · exact Or.inl h
      · exact Or.inr ⟨u, v0, l0, b1, b2, ih _ _ _ _ hE, h⟩
    | false =>
      rcases h with ⟨hl, h⟩ | ⟨p, o, b, u, v1, l1, hw, hp, ho, hu, hl⟩
      · exact Or.inl ⟨hl, ih _ _ _ _ h⟩
      · exact Or.inr ⟨p, o, b, u, v1, l1, hw, ih _ _ _ _ hp, ho, ih _ _ _ _ hu, hl⟩
theorem ex_X_mono (cl : Nat → Int32) {f g : Nat} {b : Bool} {w : List (Nat × Int32)} {v : Int32} {l : List (Nat × Int32)} (h : f ≤ g) (hX : ex_X cl f b w v l) : ex_X cl g b w v l := by
  induction h with
  | refl => exact hX
  | step _ ih => exact ex_X_up cl _ _ _ _ _ ih
/-- a chain of atoms -/
def ex_F : List (Nat × Int32) → Int32 → List (Nat × Int32) → Prop
  | w, v, [] => ∃ k, w = [(k, v)] ∧ ex_at k
  | w, v, (o, v1) :: l => ∃ k b w', w = (k, v) :: (o, b) :: w' ∧ ex_at k ∧ 0 < ex_lv o ∧ ex_F w' v1 l
def ex_nc (c : Nat) : Prop := c ≠ 41 ∧ c ≠ 93
def ex_nb (c : Nat) : Prop := c ≠ 40 ∧ c ≠ 91 ∧ c ≠ 41 ∧ c ≠ 93
theorem ex_F_len : ∀ l w v, ex_F w v l → w.length = 2 * l.length + 1 := by
  intro l
  induction l with
  | nil => rintro w v ⟨k, rfl, _⟩; rfl
  | cons q l ih =>
    obtain ⟨o, v1⟩ := q
    rintro w v ⟨k, b, w', rfl, _, _, h⟩
    have := ih w' v1 h
    simp only [List.length_cons]; omega
theorem ex_nb_at {k : Nat} (h : ex_at k) : ex_nb k := by
  unfold ex_at at h; unfold ex_nb; omega
theorem ex_nb_lv {k : Nat} (h : 0 < ex_lv k) : ex_nb k := by
  have := ex_lv_at h; unfold ex_nb; omega
theorem ex_F_nb : ∀ l w v, ex_F w v l → ∀ q ∈ w, ex_nb q.1 := by
  intro l
  induction l with
  | nil =>
    rintro w v ⟨k, rfl, h⟩ q hq
    rw [List.mem_singleton.mp hq]; exact ex_nb_at h
  | cons a l ih =>
    obtain ⟨o, v1⟩ := a
    rintro w v ⟨k, b, w', rfl, hk, ho, h⟩ q hq
    rcases List.mem_cons.mp hq with rfl | hq
    · exact ex_nb_at hk
    · rcases List.mem_cons.mp hq with rfl | hq
      · exact ex_nb_lv ho
      · exact ih w' v1 h q hq
/-- w holds a redex: pre, an open bracket k, a flat u, its closing bracket, suf; x its value -/
def ex_R (cl : Nat → Int32) (w : List (Nat × Int32)) (Q : List (Nat × Int32) → Prop) : Prop :=
  ∃ pre k b1 u v0 l0 k2 b2 suf x, w = pre ++ (k, b1) :: (u ++ (k2, b2) :: suf) ∧ ex_F u v0 l0 ∧ (∀ q ∈ pre, ex_nc q.1) ∧
    ((k = 40 ∧ k2 = 41 ∧ x = ex_fl v0 l0) ∨ (k = 91 ∧ k2 = 93 ∧ x = ex_ix cl (ex_fl v0 l0))) ∧ Q (pre ++ (48, x) :: suf)
theorem ex_redex (cl : Nat → Int32) : ∀ f, (∀ w v l, ex_X cl f true w v l → (∃ k, w = [(k, v)] ∧ ex_at k) ∨ ex_R cl w (fun w' => ∃ g, ex_X cl g true w' v [])) ∧
    (∀ w v l, ex_X cl f false w v l → ex_F w v l ∨ ex_R cl w (fun w' => ∃ g, ex_X cl g false w' v l)) := by
  intro f
  induction f with
  | zero => exact ⟨fun _ _ _ h => h.elim, fun _ _ _ h => h.elim⟩
  | succ f ih =>
    obtain ⟨ihP, ihE⟩ := ih
    constructor
    · intro w v l h
      obtain ⟨_, h⟩ := h
      rcases h with h | ⟨u, v0, l0, b1, b2, hE, h⟩
      · exact Or.inl h
      · refine Or.inr ?_
        rcases ihE u v0 l0 hE with hF | ⟨pre, k, c1, u', v0', l0', k2, c2, suf, x, rfl, hF, hpre, hx, g, hg⟩
        · rcases h with ⟨rfl, rfl⟩ | ⟨rfl, rfl⟩
          · exact ⟨[], 40, b1, u, v0, l0, 41, b2, [], _, rfl, hF, fun q hq => absurd hq List.not_mem_nil, Or.inl ⟨rfl, rfl, rfl⟩, 1, rfl, Or.inl ⟨48, rfl, Or.inl (by omega)⟩⟩
          · exact ⟨[], 91, b1, u, v0, l0, 93, b2, [], _, rfl, hF, fun q hq => absurd hq List.not_mem_nil, Or.inr ⟨rfl, rfl, rfl⟩, 1, rfl, Or.inl ⟨48, rfl, Or.inl (by omega)⟩⟩
        · rcases h with ⟨rfl, rfl⟩ | ⟨rfl, rfl⟩
          · refine ⟨(40, b1) :: pre, k, c1, u', v0', l0', k2, c2, suf ++ [(41, b2)], x, by simp [List.append_assoc], hF, ?_, hx, g + 1, rfl, Or.inr ⟨_, v0, l0, b1, b2, hg, Or.inl ⟨by simp [List.append_assoc], rfl⟩⟩⟩
            intro q hq
            rcases List.mem_cons.mp hq with rfl | hq
            · exact ⟨(by decide : (40 : Nat) ≠ 41), (by decide : (40 : Nat) ≠ 93)⟩
            · exact hpre q hq
          · refine ⟨(91, b1) :: pre, k, c1, u', v0', l0', k2, c2, suf ++ [(93, b2)], x, by simp [List.append_assoc], hF, ?_, hx, g + 1, rfl, Or.inr ⟨_, v0, l0, b1, b2, hg, Or.inr ⟨by simp [List.append_assoc], rfl⟩⟩⟩
            intro q hq
            rcases List.mem_cons.mp hq with rfl | hq
            · exact ⟨(by decide : (91 : Nat) ≠ 41), (by decide : (91 : Nat) ≠ 93)⟩
            · exact hpre q hq
    · intro w v l h
      rcases h with ⟨rfl, h⟩ | ⟨p, o, b, u, v1, l1, rfl, hp, ho, hu, rfl⟩
      · rcases ihP w v [] h with h | ⟨pre, k, c1, u', v0', l0', k2, c2, suf, x, rfl, hF, hpre, hx, g, hg⟩
        · exact Or.inl h
        · exact Or.inr ⟨pre, k, c1, u', v0', l0', k2, c2, suf, x, rfl, hF, hpre, hx, g + 1, Or.inl ⟨rfl, hg⟩⟩
      · rcases ihP p v [] hp with ⟨k0, rfl, hk0⟩ | ⟨pre, k, c1, u', v0', l0', k2, c2, suf, x, rfl, hF, hpre, hx, g, hg⟩
        · rcases ihE u v1 l1 hu with hF | ⟨pre, k, c1, u', v0', l0', k2, c2, suf, x, rfl, hF, hpre, hx, g, hg⟩
          · exact Or.inl ⟨k0, b, u, rfl, hk0, ho, hF⟩
          · refine Or.inr ⟨(k0, v) :: (o, b) :: pre, k, c1, u', v0', l0', k2, c2, suf, x, by simp [List.append_assoc], hF, ?_, hx, max (f + 1) (g + 1) + 1, Or.inr ⟨[(k0, v)], o, b, _, v1, l1, by simp [List.append_assoc], ?_, ho, ex_X_mono cl (by omega) hg, rfl⟩⟩
            · intro q hq
              rcases List.mem_cons.mp hq with rfl | hq
              · have := ex_nb_at hk0; exact ⟨this.2.2.1, this.2.2.2⟩
              · rcases List.mem_cons.mp hq with rfl | hq
                · have := ex_nb_lv ho; exact ⟨this.2.2.1, this.2.2.2⟩
                · exact hpre q hq
            · exact ex_X_mono cl (f := f) (by omega) hp
        · refine Or.inr ⟨pre, k, c1, u', v0', l0', k2, c2, suf ++ (o, b) :: u, x, by simp [List.append_assoc], hF, hpre, hx, max (f + 1) (g + 1) + 1, Or.inr ⟨_, o, b, u, v1, l1, by simp [List.append_assoc], ex_X_mono cl (by omega) hg, ho, ex_X_mono cl (f := f) (by omega) hu, rfl⟩⟩
/-! the grammar of expressions over characters, and that it always has a value -/
def gr_X : Nat → Bool → List Nat → Prop
  | 0, _, _ => False
  | f + 1, true, w => (∃ k, w = [k] ∧ ex_at k) ∨ ∃ u, gr_X f false u ∧ (w = 40 :: (u ++ [41]) ∨ w = 91 :: (u ++ [93]))
  | f + 1, false, w => gr_X f true w ∨ ∃ p o u, w = p ++ o :: u ∧ gr_X f true p ∧ 0 < ex_lv o ∧ gr_X f false u
/-- the token of a character -/
def ex_tk (cl : Nat → Int32) (c : Nat) : Nat × Int32 := (c, if 97 ≤ c ∧ c ≤ 104 then cl (c - 97) else nI c - 48)
theorem gr_X_val (cl : Nat → Int32) : ∀ f, (∀ w, gr_X f true w → ∃ v, ex_X cl f true (w.map (ex_tk cl)) v []) ∧ (∀ w, gr_X f false w → ∃ v l, ex_X cl f false (w.map (ex_tk cl)) v l) := by
  intro f
  induction f with
  | zero => exact ⟨fun _ h => h.elim, fun _ h => h.elim⟩
  | succ f ih =>
    obtain ⟨ihP, ihE⟩ := ih
    constructor
    · rintro w (⟨k, rfl, hk⟩ | ⟨u, hu, rfl | rfl⟩)
      · exact ⟨_, rfl, Or.inl ⟨k, rfl, hk⟩⟩
      · obtain ⟨v, l, h⟩ := ihE u hu
        exact ⟨_, rfl, Or.inr ⟨_, v, l, (ex_tk cl 40).2, (ex_tk cl 41).2, h, Or.inl ⟨by rw [List.map_cons, List.map_append]; rfl, rfl⟩⟩⟩
      · obtain ⟨v, l, h⟩ := ihE u hu
        exact ⟨_, rfl, Or.inr ⟨_, v, l, (ex_tk cl 91).2, (ex_tk cl 93).2, h, Or.inr ⟨by rw [List.map_cons, List.map_append]; rfl, rfl⟩⟩⟩
    · rintro w (h | ⟨p, o, u, rfl, hp, ho, hu⟩)
      · obtain ⟨v, h⟩ := ihP w h
        exact ⟨v, [], Or.inl ⟨rfl, h⟩⟩
      · obtain ⟨v, h⟩ := ihP p hp
        obtain ⟨v1, l1, h1⟩ := ihE u hu
        exact ⟨v, _, Or.inr ⟨_, o, _, _, v1, l1, by simp [ex_tk]; rfl, h, ho, h1, rfl⟩⟩
theorem gr_X_up : ∀ f b w, gr_X f b w → gr_X (f + 1) b w := by
  intro f
  induction f with
  | zero => intro b w h; exact h.elim
  | succ f ih =>
    intro b w h
    cases b with
    | true =>
      rcases h with h | ⟨u, hu, h⟩
      · exact Or.inl h
      · exact Or.inr ⟨u, ih _ _ hu, h⟩
    | false =>
      rcases h with h | ⟨p, o, u, hw, hp, ho, hu⟩
      · exact Or.inl (ih _ _ h)
      · exact Or.inr ⟨p, o, u, hw, ih _ _ hp, ho, ih _ _ hu⟩
theorem gr_X_mono {f g : Nat} {b : Bool} {w : List Nat} (h : f ≤ g) (hX : gr_X f b w) : gr_X g b w := by
  induction h with
  | refl => exact hX
  | step _ ih => exact gr_X_up _ _ _ ih
end
section
/-! segments of a text, the grammar by positions -/
def gr_sg (t : Nat → Nat) (x y : Nat) : List Nat := (List.range' x (y - x)).map t
theorem gr_sg_nil (t : Nat → Nat) (x : Nat) : gr_sg t x x = [] := by simp [gr_sg]
theorem gr_sg_cons (t : Nat → Nat) {x y : Nat} (h : x < y) : gr_sg t x y = t x :: gr_sg t (x + 1) y := by
  obtain ⟨d, rfl⟩ : ∃ d, y = x + 1 + d := ⟨y - (x + 1), by omega⟩
  have e1 : x + 1 + d - x = d + 1 := by omega
  have e2 : x + 1 + d - (x + 1) = d := by omega
  unfold gr_sg
  rw [e1, e2]; rfl
theorem gr_sg_one (t : Nat → Nat) (x : Nat) : gr_sg t x (x + 1) = [t x] := by
  rw [gr_sg_cons t (Nat.lt_succ_self x), gr_sg_nil]
theorem gr_sg_app (t : Nat → Nat) {x y z : Nat} (h1 : x ≤ y) (h2 : y ≤ z) : gr_sg t x z = gr_sg t x y ++ gr_sg t y z := by
  obtain ⟨d, rfl⟩ : ∃ d, y = x + d := ⟨y - x, by omega⟩
  clear h1
  induction d generalizing x with
  | zero => rw [Nat.add_zero, gr_sg_nil]; rfl
  | succ d ih =>
    rw [gr_sg_cons t (x := x) (y := z) (by omega), gr_sg_cons t (x := x) (y := x + (d + 1)) (by omega)]
    have e : x + (d + 1) = x + 1 + d := by omega
    rw [e] at h2 ⊢
    rw [ih h2]; rfl
theorem gr_sg_len (t : Nat → Nat) (x y : Nat) : (gr_sg t x y).length = y - x := by simp [gr_sg]
theorem gr_sg_mem {t : Nat → Nat} {x y c : Nat} : c ∈ gr_sg t x y ↔ ∃ i, x ≤ i ∧ i < y ∧ t i = c := by
  unfold gr_sg
  rw [List.mem_map]
  constructor
  · rintro ⟨i, hi, e⟩
    rw [List.mem_range'_1] at hi
    exact ⟨i, hi.1, by omega, e⟩
  · rintro ⟨i, h1, h2, e⟩
    exact ⟨i, by rw [List.mem_range'_1]; omega, e⟩
theorem gr_sg_split {t : Nat → Nat} {x y : Nat} (hxy : x ≤ y) {p u : List Nat} (h : gr_sg t x y = p ++ u) : x + p.length ≤ y ∧ p = gr_sg t x (x + p.length) ∧ u = gr_sg t (x + p.length) y := by
  have hl : y - x = p.length + u.length := by rw [← gr_sg_len t x y, h, List.length_append]
  have h1 : x + p.length ≤ y := by omega
  have h2 := gr_sg_app t (x := x) (y := x + p.length) (z := y) (by omega) h1
  rw [h] at h2
  have hl2 : p.length = (gr_sg t x (x + p.length)).length := by rw [gr_sg_len]; omega
  have := List.append_inj h2 hl2
  exact ⟨h1, this.1, this.2⟩
theorem gr_sg_congr {t t' : Nat → Nat} {x y : Nat} (h : ∀ i, x ≤ i → i < y → t i = t' i) : gr_sg t x y = gr_sg t' x y := by
  unfold gr_sg
  apply List.map_congr_left
  intro i hi
  rw [List.mem_range'_1] at hi
  exact h i hi.1 (by omega)
/-- a segment of one text that stands, shifted, in another -/
theorem gr_sg_shift {t t' : Nat → Nat} (d : Nat) : ∀ {x x' : Nat}, (∀ j, j < d → t' (x' + j) = t (x + j)) → gr_sg t' x' (x' + d) = gr_sg t x (x + d) := by
  induction d with
  | zero => intro x x' _; rw [Nat.add_zero, Nat.add_zero, gr_sg_nil, gr_sg_nil]
  | succ d ih =>
    intro x x' h
    rw [gr_sg_cons t' (x := x') (by omega), gr_sg_cons t (x := x) (by omega)]
    have h0 := h 0 (by omega)
    have e1 : x' + (d + 1) = (x' + 1) + d := by omega
    have e2 : x + (d + 1) = (x + 1) + d := by omega
    rw [e1, e2, ih (x := x + 1) (x' := x' + 1) (fun j hj => by
      have := h (j + 1) (by omega)
      have a1 : x' + 1 + j = x' + (j + 1) := by omega
      have a2 : x + 1 + j = x + (j + 1) := by omega
      rw [a1, a2]; exact this)]
    rw [Nat.add_zero, Nat.add_zero] at h0
    rw [h0]
def gr_nm (c : Nat) : Prop := 65 ≤ c ∧ c ≤ 68
def gr_vr (c : Nat) : Prop := 97 ≤ c ∧ c ≤ 104
def gr_E (t : Nat → Nat) (x y : Nat) : Prop := x ≤ y ∧ ∃ f, gr_X f false (gr_sg t x y)
def gr_P (t : Nat → Nat) (x y : Nat) : Prop := x ≤ y ∧ ∃ f, gr_X f true (gr_sg t x y)
/-- a target -/
def gr_T (t : Nat → Nat) (x y : Nat) : Prop := (y = x + 1 ∧ gr_vr (t x)) ∨ ∃ y', y = y' + 1 ∧ t x = 91 ∧ t y' = 93 ∧ gr_E t (x + 1) y'
theorem gr_P_atom {t : Nat → Nat} {x : Nat} (h : ex_at (t x)) : gr_P t x (x + 1) := ⟨by omega, 1, Or.inl ⟨t x, gr_sg_one t x, h⟩⟩
theorem gr_P_br {t : Nat → Nat} {x y : Nat} (h : (t x = 40 ∧ t y = 41) ∨ (t x = 91 ∧ t y = 93)) (hE : gr_E t (x + 1) y) : gr_P t x (y + 1) := by
  obtain ⟨h1, f, hf⟩ := hE
  have e : gr_sg t x (y + 1) = t x :: (gr_sg t (x + 1) y ++ [t y]) := by
    rw [gr_sg_cons t (x := x) (by omega), gr_sg_app t (y := y) h1 (by omega), gr_sg_one]
  refine ⟨by omega, f + 1, Or.inr ⟨_, hf, ?_⟩⟩
  rw [e]
  rcases h with ⟨a, b⟩ | ⟨a, b⟩
  · exact Or.inl (by rw [a, b])
  · exact Or.inr (by rw [a, b])
theorem gr_E_1 {t : Nat → Nat} {x y : Nat} (h : gr_P t x y) : gr_E t x y := by
  obtain ⟨h1, f, hf⟩ := h
  exact ⟨h1, f + 1, Or.inl hf⟩
theorem gr_E_2 {t : Nat → Nat} {x z y : Nat} (h : gr_P t x z) (ho : 0 < ex_lv (t z)) (hE : gr_E t (z + 1) y) : gr_E t x y := by
  obtain ⟨h1, f, hf⟩ := h
  obtain ⟨h2, g, hg⟩ := hE
  have e : gr_sg t x y = gr_sg t x z ++ t z :: gr_sg t (z + 1) y := by
    rw [gr_sg_app t (y := z) h1 (by omega), gr_sg_cons t (x := z) (by omega)]
  exact ⟨by omega, max f g + 1, Or.inr ⟨_, _, _, e, gr_X_mono (by omega) hf, ho, gr_X_mono (by omega) hg⟩⟩
/-- a statement whose semicolon is at q; L: what its blocks are -/
def gr_U (t : Nat → Nat) (x o q : Nat) : Prop := gr_T t x o ∧ t q = 59 ∧ ((ex_lv (t o) = 2 ∧ gr_E t (o + 1) q) ∨ (t o = 36 ∧ gr_T t (o + 1) q))
def gr_K (t : Nat → Nat) (x q : Nat) : Prop := (t x = 62 ∨ t x = 60) ∧ gr_T t (x + 1) q ∧ t q = 59
def gr_C (t : Nat → Nat) (x q : Nat) : Prop := (t x = 33 ∨ t x = 126) ∧ gr_nm (t (x + 1)) ∧ q = x + 2 ∧ t q = 59
/-- IF or LOOP at x: e1 up to the brace at a, block A from a + 1 to ea, block B from ea + 2 to eb, e2 up to q -/
def gr_B (t : Nat → Nat) (L : Nat → Nat → Prop) (x a ea eb q : Nat) : Prop := (t x = 63 ∨ t x = 64) ∧ gr_E t (x + 1) a ∧ t a = 123 ∧ a + 1 ≤ ea ∧ L (a + 1) ea ∧ t ea = 125 ∧ t (ea + 1) = 123 ∧
  ea + 2 ≤ eb ∧ L (ea + 2) eb ∧ t eb = 125 ∧ gr_E t (eb + 1) q ∧ t q = 59
def gr_S (t : Nat → Nat) (L : Nat → Nat → Prop) (x q : Nat) : Prop := (∃ o, gr_U t x o q) ∨ gr_K t x q ∨ gr_C t x q ∨ ∃ a ea eb, gr_B t L x a ea eb q
def gr_L (t : Nat → Nat) : Nat → Nat → Nat → Prop
  | 0, x, y => x = y
  | f + 1, x, y => x = y ∨ ∃ q, gr_S t (gr_L t f) x q ∧ gr_L t f (q + 1) y
def gr_l (t : Nat → Nat) (x y : Nat) : Prop := ∃ f, gr_L t f x y
def gr_s (t : Nat → Nat) (x q : Nat) : Prop := gr_S t (gr_l t) x q
def gr_b (t : Nat → Nat) (x a ea eb q : Nat) : Prop := gr_B t (gr_l t) x a ea eb q
theorem gr_E_ne {t : Nat → Nat} {x y : Nat} (h : gr_E t x y) : x < y := by
  obtain ⟨h1, f, hf⟩ := h
  have hne : ∀ f b w, gr_X f b w → w ≠ [] := by
    intro f
    induction f with
    | zero => intro b w h; exact h.elim
    | succ f ih =>
      intro b w h
      cases b with
      | true =>
        rcases h with ⟨k, rfl, _⟩ | ⟨u, _, rfl | rfl⟩
        · exact List.cons_ne_nil _ _
        · exact List.cons_ne_nil _ _
        · exact List.cons_ne_nil _ _
      | false =>
        rcases h with h | ⟨p, o, u, rfl, _, _, _⟩
        · exact ih _ _ h
        · simp
  rcases Nat.lt_or_ge x y with h2 | h2
  · exact h2
  · have : x = y := by omega
    subst this
    exact absurd (gr_sg_nil t x) (hne _ _ _ hf)
theorem gr_T_lt {t : Nat → Nat} {x y : Nat} (h : gr_T t x y) : x < y := by
  rcases h with ⟨rfl, _⟩ | ⟨y', rfl, _, _, hE⟩
  · omega
  · have := gr_E_ne hE; omega
theorem gr_S_lt {t : Nat → Nat} {L : Nat → Nat → Prop} {x q : Nat} (h : gr_S t L x q) : x < q := by
  rcases h with ⟨o, hT, _, h⟩ | ⟨_, hT, _⟩ | ⟨_, _, rfl, _⟩ | ⟨a, ea, eb, _, hE, _, h1, _, _, _, h2, _, _, hE2, _⟩
  · have h1 := gr_T_lt hT
    rcases h with ⟨_, hE⟩ | ⟨_, hT2⟩
    · have := gr_E_ne hE; omega
    · have := gr_T_lt hT2; omega
  · have := gr_T_lt hT; omega
  · omega
  · have := gr_E_ne hE; have := gr_E_ne hE2; omega
theorem gr_B_mono {t : Nat → Nat} {L L' : Nat → Nat → Prop} (h : ∀ x y, L x y → L' x y) {x a ea eb q : Nat} (hB : gr_B t L x a ea eb q) : gr_B t L' x a ea eb q := by
  obtain ⟨h1, h2, h3, h4, h5, h6, h7, h8, h9, h10, h11, h12⟩ := hB
  exact ⟨h1, h2, h3, h4, h _ _ h5, h6, h7, h8, h _ _ h9, h10, h11, h12⟩
theorem gr_S_mono {t : Nat → Nat} {L L' : Nat → Nat → Prop} (h : ∀ x y, L x y → L' x y) {x q : Nat} (hS : gr_S t L x q) : gr_S t L' x q := by
  rcases hS with h1 | h1 | h1 | ⟨a, ea, eb, hB⟩
  · exact Or.inl h1
  · exact Or.inr (Or.inl h1)
  · exact Or.inr (Or.inr (Or.inl h1))
  · exact Or.inr (Or.inr (Or.inr ⟨a, ea, eb, gr_B_mono h hB⟩))
theorem gr_L_up (t : Nat → Nat) : ∀ f x y, gr_L t f x y → gr_L t (f + 1) x y := by
  intro f
  induction f with
  | zero => intro x y h; exact Or.inl h
  | succ f ih =>
    rintro x y (h | ⟨q, hS, hL⟩)
    · exact Or.inl h
    · exact Or.inr ⟨q, gr_S_mono ih hS, ih _ _ hL⟩
theorem gr_L_mono {t : Nat → Nat} {f g x y : Nat} (h : f ≤ g) (hL : gr_L t f x y) : gr_L t g x y := by
  induction h with
  | refl => exact hL
  | step _ ih => exact gr_L_up t _ _ _ ih
theorem gr_L_le {t : Nat → Nat} : ∀ f x y, gr_L t f x y → x ≤ y := by
  intro f
  induction f with
  | zero => intro x y h; exact Nat.le_of_eq h
  | succ f ih =>
    rintro x y (h | ⟨q, hS, hL⟩)
    · omega
    · have := gr_S_lt hS; have := ih _ _ hL; omega
theorem gr_l_le {t : Nat → Nat} {x y : Nat} (h : gr_l t x y) : x ≤ y := by
  obtain ⟨f, h⟩ := h; exact gr_L_le f x y h
theorem gr_l_nil {t : Nat → Nat} {x : Nat} : gr_l t x x := ⟨0, rfl⟩
/-- the blocks of a statement have a common fuel -/
theorem gr_s_fuel {t : Nat → Nat} {x q : Nat} (h : gr_s t x q) : ∃ f, gr_S t (gr_L t f) x q := by
  rcases h with h1 | h1 | h1 | ⟨a, ea, eb, h1, h2, h3, h4, ⟨f, h5⟩, h6, h7, h8, ⟨g, h9⟩, h10, h11, h12⟩
  · exact ⟨0, Or.inl h1⟩
  · exact ⟨0, Or.inr (Or.inl h1)⟩
  · exact ⟨0, Or.inr (Or.inr (Or.inl h1))⟩
  · exact ⟨max f g, Or.inr (Or.inr (Or.inr ⟨a, ea, eb, h1, h2, h3, h4, gr_L_mono (by omega) h5, h6, h7, h8, gr_L_mono (by omega) h9, h10, h11, h12⟩))⟩
theorem gr_l_cons {t : Nat → Nat} {x q y : Nat} (hs : gr_s t x q) (hl : gr_l t (q + 1) y) : gr_l t x y := by
  obtain ⟨f, hf⟩ := gr_s_fuel hs
  obtain ⟨g, hg⟩ := hl
  exact ⟨max f g + 1, Or.inr ⟨q, gr_S_mono (fun _ _ h => gr_L_mono (by omega) h) hf, gr_L_mono (by omega) hg⟩⟩
theorem gr_S_s {t : Nat → Nat} {f x q : Nat} (h : gr_S t (gr_L t f) x q) : gr_s t x q := gr_S_mono (fun _ _ h => ⟨f, h⟩) h
theorem gr_l_app {t : Nat → Nat} {x y z : Nat} (h1 : gr_l t x y) (h2 : gr_l t y z) : gr_l t x z := by
  obtain ⟨f, h1⟩ := h1
  induction f generalizing x with
  | zero => cases h1; exact h2
  | succ f ih =>
    rcases h1 with rfl | ⟨q, hS, hL⟩
    · exact h2
    · exact gr_l_cons (gr_S_s hS) (ih hL)
theorem gr_l_inv {t : Nat → Nat} {x y : Nat} (h : gr_l t x y) : x = y ∨ ∃ q, gr_s t x q ∧ gr_l t (q + 1) y := by
  obtain ⟨f, h⟩ := h
  cases f with
  | zero => exact Or.inl h
  | succ f =>
    rcases h with rfl | ⟨q, hS, hL⟩
    · exact Or.inl rfl
    · exact Or.inr ⟨q, gr_S_s hS, f, hL⟩
/-- the procedures from p on -/
def gr_Q (t : Nat → Nat) (n : Nat) : Nat → Nat → Prop
  | 0, p => p = n
  | f + 1, p => p = n ∨ (p + 2 ≤ n ∧ t p = 58 ∧ gr_nm (t (p + 1)) ∧ ∃ e, e ≤ n ∧ gr_l t (p + 2) e ∧ gr_Q t n f e)
def gr_q (t : Nat → Nat) (n p : Nat) : Prop := ∃ f, gr_Q t n f p
/-- a text of right syntax -/
def gr_G (t : Nat → Nat) (n : Nat) : Prop := ∃ e, e ≤ n ∧ gr_l t 0 e ∧ gr_q t n e
end
section
/-! the predictive parser as a pure machine, and that it accepts texts of right syntax alone -/
/-- what symbol s does with the next character c (0: none): the symbols pushed, top first, and the step -/
def gr_st (s c : Nat) : Option (List Nat × Nat) :=
  if s = 76 then (if (97 ≤ c ∧ c ≤ 104) ∨ c = 91 then some ([84, 85, 76], 0)
     else if c = 62 ∨ c = 60 then some ([84, 59, 76], 1)
     else if c = 33 ∨ c = 126 then some ([78, 59, 76], 1)
     else if c = 63 ∨ c = 64 then some ([69, 123, 76, 125, 123, 76, 125, 69, 59, 76], 1)
     else some ([], 0))
  else if s = 69 then (if (48 ≤ c ∧ c ≤ 57) ∨ (97 ≤ c ∧ c ≤ 104) then some ([79], 1)
     else if c = 91 then some ([69, 93, 79], 1)
     else if c = 40 then some ([69, 41, 79], 1) else none)
  else if s = 79 then (if 0 < ex_lv c then some ([69], 1) else some ([], 0))
  else if s = 84 then (if 97 ≤ c ∧ c ≤ 104 then some ([], 1) else if c = 91 then some ([69, 93], 1) else none)
  else if s = 85 then (if ex_lv c = 2 then some ([69, 59], 1) else if c = 36 then some ([84, 59], 1) else none)
  else if s = 78 then (if 65 ≤ c ∧ c ≤ 68 then some ([], 1) else none)
  else if s = 68 then (if 65 ≤ c ∧ c ≤ 68 then some ([], 1) else none)
  else if s = 80 then (if c = 58 then some ([68, 76, 80], 1) else if c = 0 then some ([], 0) else none)
  else (if c = s ∧ c ≠ 0 then some ([], 1) else none)
def gr_ch (t : Nat → Nat) (n p : Nat) : Nat := if p < n then t p else 0
/-- what a symbol derives -/
def gr_D (t : Nat → Nat) (n s p q : Nat) : Prop :=
  if s = 76 then gr_l t p q
  else if s = 69 then gr_E t p q
  else if s = 79 then p = q ∨ (0 < ex_lv (t p) ∧ gr_E t (p + 1) q)
  else if s = 84 then gr_T t p q
  else if s = 85 then ∃ q', q = q' + 1 ∧ t q' = 59 ∧ ((ex_lv (t p) = 2 ∧ gr_E t (p + 1) q') ∨ (t p = 36 ∧ gr_T t (p + 1) q'))
  else if s = 78 then gr_nm (t p) ∧ q = p + 1
  else if s = 68 then gr_nm (t p) ∧ q = p + 1
  else if s = 80 then gr_q t n p ∧ q = n
  else t p = s ∧ q = p + 1
def gr_Ds (t : Nat → Nat) (n : Nat) : List Nat → Nat → Prop
  | [], p => p = n
  | s :: st, p => ∃ q, p ≤ q ∧ q ≤ n ∧ gr_D t n s p q ∧ gr_Ds t n st q
/-- the machine stops with an error at k within m steps -/
def gr_er (t : Nat → Nat) (n : Nat) : Nat → List Nat → Nat → Nat → Prop
  | 0, _, _, _ => False
  | _ + 1, [], _, _ => False
  | m + 1, s :: st, p, k => (gr_st s (gr_ch t n p) = none ∧ k = p) ∨ ∃ ps d, gr_st s (gr_ch t n p) = some (ps, d) ∧ gr_er t n m (ps ++ st) (p + d) k
/-- b, but 0 if a target is on top -/
def gr_bn (b : Nat) (st : List Nat) : Nat := match st with
  | [] => b
  | s :: _ => if s = 84 then 0 else b
theorem gr_bn_le (b : Nat) (st : List Nat) : gr_bn b st ≤ b := by
  match st with
  | [] => exact Nat.le_refl _
  | s :: _ =>
    show (if s = 84 then 0 else b) ≤ b
    split <;> omega
theorem gr_bn_84 (b : Nat) (st : List Nat) : gr_bn b (84 :: st) = 0 := rfl
theorem gr_bn_76 (b : Nat) (st : List Nat) : gr_bn b (76 :: st) = b := rfl
theorem gr_bn_69 (b : Nat) (st : List Nat) : gr_bn b (69 :: st) = b := rfl
theorem gr_bn_79 (b : Nat) (st : List Nat) : gr_bn b (79 :: st) = b := rfl
theorem gr_bn_85 (b : Nat) (st : List Nat) : gr_bn b (85 :: st) = b := rfl
theorem gr_bn_78 (b : Nat) (st : List Nat) : gr_bn b (78 :: st) = b := rfl
theorem gr_bn_68 (b : Nat) (st : List Nat) : gr_bn b (68 :: st) = b := rfl
theorem gr_bn_80 (b : Nat) (st : List Nat) : gr_bn b (80 :: st) = b := rfl
def gr_fi (w b n : Nat) (st : List Nat) (p : Nat) : Nat := st.length + w * (n - p) + gr_bn b st
/-- all that a step can be -/
theorem gr_st_all {P : Nat → Nat → List Nat → Nat → Prop}
    (L1 : ∀ c, gr_vr c ∨ c = 91 → P 76 c [84, 85, 76] 0)
    (L2 : ∀ c, c = 62 ∨ c = 60 → P 76 c [84, 59, 76] 1)
    (L3 : ∀ c, c = 33 ∨ c = 126 → P 76 c [78, 59, 76] 1)
    (L4 : ∀ c, c = 63 ∨ c = 64 → P 76 c [69, 123, 76, 125, 123, 76, 125, 69, 59, 76] 1)
    (L5 : ∀ c, ¬ gr_vr c → c ≠ 91 → c ≠ 62 → c ≠ 60 → c ≠ 33 → c ≠ 126 → c ≠ 63 → c ≠ 64 → P 76 c [] 0)
    (E1 : ∀ c, ex_at c → P 69 c [79] 1)
    (E2 : P 69 91 [69, 93, 79] 1)
    (E3 : P 69 40 [69, 41, 79] 1)
    (O1 : ∀ c, 0 < ex_lv c → P 79 c [69] 1)
    (O2 : ∀ c, ex_lv c = 0 → P 79 c [] 0)
    (T1 : ∀ c, gr_vr c → P 84 c [] 1)
    (T2 : P 84 91 [69, 93] 1)
    (U1 : ∀ c, ex_lv c = 2 → P 85 c [69, 59] 1)
    (U2 : P 85 36 [84, 59] 1)
    (N1 : ∀ c, gr_nm c → P 78 c [] 1)
    (D1 : ∀ c, gr_nm c → P 68 c [] 1)
    (P1 : P 80 58 [68, 76, 80] 1)
    (P2 : P 80 0 [] 0)
    (Z : ∀ s, s ≠ 76 → s ≠ 69 → s ≠ 79 → s ≠ 84 → s ≠ 85 → s ≠ 78 → s ≠ 68 → s ≠ 80 → s ≠ 0 → P s s [] 1)
    {s c : Nat} {ps : List Nat} {d : Nat} (h : gr_st s c = some (ps, d)) : P s c ps d := by
  unfold gr_st at h
  by_cases h76 : s = 76
  · subst h76
    rw [if_pos rfl] at h
    by_cases c1 : (97 ≤ c ∧ c ≤ 104) ∨ c = 91
    · rw [if_pos c1] at h; cases h; exact L1 c c1
    · rw [if_neg c1] at h
      by_cases c2 : c = 62 ∨ c = 60
      · rw [if_pos c2] at h; cases h; exact L2 c c2
      · rw [if_neg c2] at h
        by_cases c3 : c = 33 ∨ c = 126
        · rw [if_pos c3] at h; cases h; exact L3 c c3
        · rw [if_neg c3] at h
          by_cases c4 : c = 63 ∨ c = 64
          · rw [if_pos c4] at h; cases h; exact L4 c c4
          · rw [if_neg c4] at h; cases h
            exact L5 c (fun hv => c1 (Or.inl hv)) (by omega) (by omega) (by omega) (by omega) (by omega) (by omega) (by omega)
  · rw [if_neg h76] at h
    by_cases h69 : s = 69
    · subst h69
      rw [if_pos rfl] at h
      by_cases c1 : (48 ≤ c ∧ c ≤ 57) ∨ (97 ≤ c ∧ c ≤ 104)
      · rw [if_pos c1] at h; cases h; exact E1 c c1
      · rw [if_neg c1] at h
        by_cases c2 : c = 91
        · subst c2; rw [if_pos rfl] at h; cases h; exact E2
        · rw [if_neg c2] at h
          by_cases c3 : c = 40
          · subst c3; rw [if_pos rfl] at h; cases h; exact E3
          · rw [if_neg c3] at h; cases h
    · rw [if_neg h69] at h
      by_cases h79 : s = 79
      · subst h79
        rw [if_pos rfl] at h
        by_cases c1 : 0 < ex_lv c
        · rw [if_pos c1] at h; cases h; exact O1 c c1
        · rw [if_neg c1] at h; cases h; exact O2 c (by omega)
      · rw [if_neg h79] at h
        by_cases h84 : s = 84
        · subst h84
          rw [if_pos rfl] at h
          by_cases c1 : 97 ≤ c ∧ c ≤ 104
          · rw [if_pos c1] at h; cases h; exact T1 c c1
          · rw [if_neg c1] at h
            by_cases c2 : c = 91
            · subst c2; rw [if_pos rfl] at h; cases h; exact T2
            · rw [if_neg c2] at h; cases h
        · rw [if_neg h84] at h
          by_cases h85 : s = 85
          · subst h85
            rw [if_pos rfl] at h
            by_cases c1 : ex_lv c = 2
            · rw [if_pos c1] at h; cases h; exact U1 c c1
            · rw [if_neg c1] at h
              by_cases c2 : c = 36
              · subst c2; rw [if_pos rfl] at h; cases h; exact U2
              · rw [if_neg c2] at h; cases h
          · rw [if_neg h85] at h
            by_cases h78 : s = 78
            · subst h78
              rw [if_pos rfl] at h
              by_cases c1 : 65 ≤ c ∧ c ≤ 68
              · rw [if_pos c1] at h; cases h; exact N1 c c1
              · rw [if_neg c1] at h; cases h
            · rw [if_neg h78] at h
              by_cases h68 : s = 68
              · subst h68
                rw [if_pos rfl] at h
                by_cases c1 : 65 ≤ c ∧ c ≤ 68
                · rw [if_pos c1] at h; cases h; exact D1 c c1
                · rw [if_neg c1] at h; cases h
              · rw [if_neg h68] at h
                by_cases h80 : s = 80
                · subst h80
                  rw [if_pos rfl] at h
                  by_cases c1 : c = 58
                  · subst c1; rw [if_pos rfl] at h; cases h; exact P1
                  · rw [if_neg c1] at h
                    by_cases c2 : c = 0
                    · subst c2; rw [if_pos rfl] at h; cases h; exact P2
                    · rw [if_neg c2] at h; cases h
                · rw [if_neg h80] at h
                  by_cases c1 : c = s ∧ c ≠ 0
                  · rw [if_pos c1] at h; cases h
                    obtain ⟨rfl, h0⟩ := c1
                    exact Z c h76 h69 h79 h84 h85 h78 h68 h80 h0
                  · rw [if_neg c1] at h; cases h
theorem gr_ch_in {t : Nat → Nat} {n p c : Nat} (h : gr_ch t n p = c) (hc : c ≠ 0) : p < n ∧ t p = c := by
  unfold gr_ch at h
  by_cases hp : p < n
  · rw [if_pos hp] at h; exact ⟨hp, h⟩
  · rw [if_neg hp] at h; exact absurd h.symm hc
theorem gr_ch_0 {t : Nat → Nat} {n p : Nat} (h : gr_ch t n p = 0) (ht : ∀ i, i < n → 33 ≤ t i) : n ≤ p := by
  unfold gr_ch at h
  by_cases hp : p < n
  · rw [if_pos hp] at h; have := ht p hp; omega
  · omega
/-- a step goes forward by at most one, and only over a character -/
theorem gr_st_d {s c : Nat} {ps : List Nat} {d : Nat} (h : gr_st s c = some (ps, d)) : d = 0 ∨ (d = 1 ∧ c ≠ 0) := by
  refine gr_st_all (P := fun _ c _ d => d = 0 ∨ (d = 1 ∧ c ≠ 0)) ?_ ?_ ?_ ?_ ?_ ?_ ?_ ?_ ?_ ?_ ?_ ?_ ?_ ?_ ?_ ?_ ?_ ?_ ?_ h
  · exact fun _ _ => Or.inl rfl
  · exact fun c hc => Or.inr ⟨rfl, by omega⟩
  · exact fun c hc => Or.inr ⟨rfl, by omega⟩
  · exact fun c hc => Or.inr ⟨rfl, by omega⟩
  · exact fun _ _ _ _ _ _ _ _ _ => Or.inl rfl
  · exact fun c hc => Or.inr ⟨rfl, by unfold ex_at at hc; omega⟩
  · exact Or.inr ⟨rfl, by decide⟩
  · exact Or.inr ⟨rfl, by decide⟩
  · exact fun c hc => Or.inr ⟨rfl, by have := ex_lv_at hc; omega⟩
  · exact fun _ _ => Or.inl rfl
  · exact fun c hc => Or.inr ⟨rfl, by unfold gr_vr at hc; omega⟩
  · exact Or.inr ⟨rfl, by decide⟩
  · exact fun c hc => Or.inr ⟨rfl, by have := ex_lv_at (k := c) (by omega); omega⟩
  · exact Or.inr ⟨rfl, by decide⟩
  · exact fun c hc => Or.inr ⟨rfl, by unfold gr_nm at hc; omega⟩
  · exact fun c hc => Or.inr ⟨rfl, by unfold gr_nm at hc; omega⟩
  · exact Or.inr ⟨rfl, by decide⟩
  · exact Or.inl rfl
  · exact fun s _ _ _ _ _ _ _ _ h0 => Or.inr ⟨rfl, h0⟩
/-- the change of the potential's stack part: without a step it falls, with one it grows by less than w -/
theorem gr_st_fi (b : Nat) (hb : 3 ≤ b) (hb2 : b ≤ 5) {s c : Nat} {ps : List Nat} {d : Nat} (h : gr_st s c = some (ps, d)) (st : List Nat) :
    (d = 0 → (ps ++ st).length + gr_bn b (ps ++ st) + 1 ≤ (s :: st).length + gr_bn b (s :: st)) ∧ (d = 1 → (ps ++ st).length + gr_bn b (ps ++ st) ≤ (s :: st).length + gr_bn b (s :: st) + 9) := by
  have hle := gr_bn_le b st
  refine gr_st_all (P := fun s c ps d => (d = 0 → (ps ++ st).length + gr_bn b (ps ++ st) + 1 ≤ (s :: st).length + gr_bn b (s :: st)) ∧ (d = 1 → (ps ++ st).length + gr_bn b (ps ++ st) ≤ (s :: st).length + gr_bn b (s :: st) + 9)) ?_ ?_ ?_ ?_ ?_ ?_ ?_ ?_ ?_ ?_ ?_ ?_ ?_ ?_ ?_ ?_ ?_ ?_ ?_ h
  case refine_19 =>
    intro s h1 h2 h3 h4 _ _ _ _ _
    have e : gr_bn b (s :: st) = b := if_neg h4
    rw [e, List.nil_append, List.length_cons]
    exact ⟨fun h => by omega, fun _ => by omega⟩
  all_goals (intros; simp only [List.nil_append, List.cons_append, List.length_cons, gr_bn_84, gr_bn_76, gr_bn_69, gr_bn_79, gr_bn_85, gr_bn_78, gr_bn_68, gr_bn_80])
  all_goals (constructor <;> intro hd <;> omega)
theorem gr_sound {t : Nat → Nat} {n : Nat} (ht : ∀ i, i < n → 33 ≤ t i) {s p : Nat} {ps : List Nat} {d : Nat} (st : List Nat) (hp : p ≤ n)
    (h : gr_st s (gr_ch t n p) = some (ps, d)) (hq : gr_Ds t n (ps ++ st) (p + d)) : gr_Ds t n (s :: st) p := by
  refine gr_st_all (P := fun s c ps d => gr_ch t n p = c → gr_Ds t n (ps ++ st) (p + d) → gr_Ds t n (s :: st) p) ?_ ?_ ?_ ?_ ?_ ?_ ?_ ?_ ?_ ?_ ?_ ?_ ?_ ?_ ?_ ?_ ?_ ?_ ?_ h rfl hq
  · rintro c hc ec ⟨q1, a1, a2, hT, q2, a3, a4, ⟨q', rfl, h59, hU⟩, q3, a5, a6, hL, hst⟩
    exact ⟨q3, by omega, a6, gr_l_cons (Or.inl ⟨q1, hT, h59, hU⟩) hL, hst⟩
  · rintro c hc ec ⟨q1, a1, a2, hT, q2, a3, a4, ⟨h59, rfl⟩, q3, a5, a6, hL, hst⟩
    obtain ⟨_, e⟩ := gr_ch_in ec (by omega)
    exact ⟨q3, by omega, a6, gr_l_cons (Or.inr (Or.inl ⟨by omega, hT, h59⟩)) hL, hst⟩
  · rintro c hc ec ⟨q1, a1, a2, ⟨hN, rfl⟩, q2, a3, a4, ⟨h59, rfl⟩, q3, a5, a6, hL, hst⟩
    obtain ⟨_, e⟩ := gr_ch_in ec (by omega)
    exact ⟨q3, by omega, a6, gr_l_cons (Or.inr (Or.inr (Or.inl ⟨by omega, hN, rfl, h59⟩))) hL, hst⟩
  · rintro c hc ec ⟨a, a1, a2, hE, _, a3, a4, ⟨h123, rfl⟩, ea, a5, a6, hA, _, a7, a8, ⟨h125, rfl⟩, _, a9, a10, ⟨h123', rfl⟩, eb, a11, a12, hB, _, a13, a14, ⟨h125', rfl⟩, q, a15, a16, hE2, _, a17, a18, ⟨h59, rfl⟩, y, a19, a20, hL, hst⟩
    obtain ⟨_, e⟩ := gr_ch_in ec (by omega)
    exact ⟨y, by omega, a20, gr_l_cons (Or.inr (Or.inr (Or.inr ⟨a, ea, eb, by omega, hE, h123, a5, hA, h125, h123', a11, hB, h125', hE2, h59⟩))) hL, hst⟩
  · intro c _ _ _ _ _ _ _ _ _ hq
    exact ⟨p, Nat.le_refl _, hp, gr_l_nil, hq⟩
  · rintro c hc ec ⟨q1, a1, a2, hO, hst⟩
    obtain ⟨_, e⟩ := gr_ch_in ec (by unfold ex_at at hc; omega)
    rw [← e] at hc
    refine ⟨q1, by omega, a2, ?_, hst⟩
    rcases hO with rfl | ⟨ho, hE⟩
    · exact gr_E_1 (gr_P_atom hc)
    · exact gr_E_2 (gr_P_atom hc) ho hE
  · rintro ec ⟨q1, a1, a2, hE, _, a3, a4, ⟨h93, rfl⟩, q3, a5, a6, hO, hst⟩
    obtain ⟨_, e⟩ := gr_ch_in ec (by decide)
    refine ⟨q3, by omega, a6, ?_, hst⟩
    rcases hO with rfl | ⟨ho, hE2⟩
    · exact gr_E_1 (gr_P_br (Or.inr ⟨e, h93⟩) hE)
    · exact gr_E_2 (gr_P_br (Or.inr ⟨e, h93⟩) hE) ho hE2
  · rintro ec ⟨q1, a1, a2, hE, _, a3, a4, ⟨h93, rfl⟩, q3, a5, a6, hO, hst⟩
    obtain ⟨_, e⟩ := gr_ch_in ec (by decide)
    refine ⟨q3, by omega, a6, ?_, hst⟩
    rcases hO with rfl | ⟨ho, hE2⟩
    · exact gr_E_1 (gr_P_br (Or.inl ⟨e, h93⟩) hE)
    · exact gr_E_2 (gr_P_br (Or.inl ⟨e, h93⟩) hE) ho hE2
  · rintro c hc ec ⟨q1, a1, a2, hE, hst⟩
    obtain ⟨_, e⟩ := gr_ch_in ec (by have := ex_lv_at hc; omega)
    exact ⟨q1, by omega, a2, Or.inr ⟨by rw [e]; exact hc, hE⟩, hst⟩
  · intro c _ _ hq
    exact ⟨p, Nat.le_refl _, hp, Or.inl rfl, hq⟩
  · intro c hc ec hst
    obtain ⟨h1, e⟩ := gr_ch_in ec (by unfold gr_vr at hc; omega)
    exact ⟨p + 1, by omega, by omega, Or.inl ⟨rfl, by rw [e]; exact hc⟩, hst⟩
  · rintro ec ⟨q1, a1, a2, hE, _, a3, a4, ⟨h93, rfl⟩, hst⟩
    obtain ⟨_, e⟩ := gr_ch_in ec (by decide)
    exact ⟨q1 + 1, by omega, a4, Or.inr ⟨q1, rfl, e, h93, hE⟩, hst⟩
  · rintro c hc ec ⟨q1, a1, a2, hE, _, a3, a4, ⟨h59, rfl⟩, hst⟩
    obtain ⟨_, e⟩ := gr_ch_in ec (by have := ex_lv_at (k := c) (by omega); omega)
    exact ⟨q1 + 1, by omega, a4, ⟨q1, rfl, h59, Or.inl ⟨by rw [e]; exact hc, hE⟩⟩, hst⟩
  · rintro ec ⟨q1, a1, a2, hT, _, a3, a4, ⟨h59, rfl⟩, hst⟩
    obtain ⟨_, e⟩ := gr_ch_in ec (by decide)
    exact ⟨q1 + 1, by omega, a4, ⟨q1, rfl, h59, Or.inr ⟨e, hT⟩⟩, hst⟩
  · intro c hc ec hst
    obtain ⟨h1, e⟩ := gr_ch_in ec (by unfold gr_nm at hc; omega)
    exact ⟨p + 1, by omega, by omega, ⟨by rw [e]; exact hc, rfl⟩, hst⟩
  · intro c hc ec hst
    obtain ⟨h1, e⟩ := gr_ch_in ec (by unfold gr_nm at hc; omega)
    exact ⟨p + 1, by omega, by omega, ⟨by rw [e]; exact hc, rfl⟩, hst⟩
  · rintro ec ⟨_, a1, a2, ⟨hN, rfl⟩, e', a3, a4, hL, _, a5, a6, ⟨⟨f, hQ⟩, e3⟩, hst⟩
    obtain ⟨_, e⟩ := gr_ch_in ec (by decide)
    exact ⟨n, hp, Nat.le_refl _, ⟨⟨f + 1, Or.inr ⟨a2, e, hN, e', a4, hL, hQ⟩⟩, rfl⟩, e3 ▸ hst⟩
  · intro ec hst
    have := gr_ch_0 ec ht
    have e : p = n := by omega
    subst e
    exact ⟨p, Nat.le_refl _, Nat.le_refl _, ⟨⟨0, rfl⟩, rfl⟩, hst⟩
  · intro s h1 h2 h3 h4 h5 h6 h7 h8 h0 ec hst
    obtain ⟨h9, e⟩ := gr_ch_in ec h0
    refine ⟨p + 1, by omega, by omega, ?_, hst⟩
    unfold gr_D
    rw [if_neg h1, if_neg h2, if_neg h3, if_neg h4, if_neg h5, if_neg h6, if_neg h7, if_neg h8]
    exact ⟨e, rfl⟩
/-- P lies at the bottom alone -/
def gr_lp (n : Nat) (st : List Nat) (p : Nat) : Prop := (st = [] ∧ p = n) ∨ ∃ st', st = st' ++ [80] ∧ ∀ s ∈ st', s ≠ 80
theorem gr_lp_st {t : Nat → Nat} {n : Nat} (ht : ∀ i, i < n → 33 ≤ t i) {s p : Nat} {ps : List Nat} {d : Nat} {st : List Nat} (hp : p ≤ n)
    (h : gr_st s (gr_ch t n p) = some (ps, d)) (hl : gr_lp n (s :: st) p) : gr_lp n (ps ++ st) (p + d) ∧ (s = 80 → st = []) := by
  rcases hl with ⟨h1, _⟩ | ⟨st', h1, h2⟩
  · cases h1
  cases st' with
  | nil =>
    obtain ⟨rfl, rfl⟩ : s = 80 ∧ st = [] := by
      have := List.cons.inj (h1 : s :: st = 80 :: []); exact this
    refine ⟨?_, fun _ => rfl⟩
    rw [List.append_nil]
    refine gr_st_all (P := fun s c ps d => s = 80 → gr_ch t n p = c → gr_lp n ps (p + d)) ?_ ?_ ?_ ?_ ?_ ?_ ?_ ?_ ?_ ?_ ?_ ?_ ?_ ?_ ?_ ?_ ?_ ?_ ?_ h rfl rfl
    case refine_17 =>
      intro _ _
      refine Or.inr ⟨[68, 76], rfl, ?_⟩
      intro s hs
      rcases List.mem_cons.mp hs with rfl | hs
      · decide
      · rw [List.mem_singleton.mp hs]; decide
    case refine_18 =>
      intro _ ec
      have := gr_ch_0 ec ht
      exact Or.inl ⟨rfl, by omega⟩
    case refine_19 => intro s _ _ _ _ _ _ _ h8 _ e; exact absurd e h8
    all_goals (intros; contradiction)
  | cons a st'' =>
    rw [List.cons_append] at h1
    obtain ⟨rfl, rfl⟩ : s = a ∧ st = st'' ++ [80] := List.cons.inj h1
    have hs : s ≠ 80 := h2 s (List.mem_cons_self ..)
    refine ⟨Or.inr ⟨ps ++ st'', by rw [List.append_assoc], ?_⟩, fun e => absurd e hs⟩
    have hps : ∀ x ∈ ps, x ≠ 80 := by
      refine gr_st_all (P := fun s c ps d => s ≠ 80 → ∀ x ∈ ps, x ≠ 80) ?_ ?_ ?_ ?_ ?_ ?_ ?_ ?_ ?_ ?_ ?_ ?_ ?_ ?_ ?_ ?_ ?_ ?_ ?_ h hs
      all_goals (intros; simp_all)
      all_goals omega
    intro x hx
    rcases List.mem_append.mp hx with hx | hx
    · exact hps x hx
    · exact h2 x (List.mem_cons_of_mem _ hx)
theorem gr_main {t : Nat → Nat} {n : Nat} (ht : ∀ i, i < n → 33 ≤ t i) : ∀ m st p, p ≤ n → gr_fi 10 3 n st p < m → gr_lp n st p → (∃ k, gr_er t n m st p k) ∨ gr_Ds t n st p := by
  intro m
  induction m with
  | zero => intro st p _ h; omega
  | succ m ih =>
    intro st p hp hm hl
    match st with
    | [] =>
      rcases hl with ⟨_, h⟩ | ⟨st', h, _⟩
      · exact Or.inr h
      · cases st' <;> cases h
    | s :: st =>
      cases h : gr_st s (gr_ch t n p) with
      | none => exact Or.inl ⟨p, Or.inl ⟨h, rfl⟩⟩
      | some r =>
        obtain ⟨ps, d⟩ := r
        have hd := gr_st_d h
        have hf := gr_st_fi 3 (by omega) (by omega) h st
        have hp' : p + d ≤ n := by
          rcases hd with rfl | ⟨rfl, hc⟩
          · exact hp
          · have := (gr_ch_in rfl hc).1; omega
        have hm' : gr_fi 10 3 n (ps ++ st) (p + d) < m := by
          unfold gr_fi at hm ⊢
          rcases hd with rfl | ⟨rfl, hc⟩
          · have := hf.1 rfl
            rw [Nat.add_zero]; omega
          · have := hf.2 rfl
            have := (gr_ch_in rfl hc).1
            omega
        obtain ⟨hl1, _⟩ := gr_lp_st ht hp h hl
        rcases ih (ps ++ st) (p + d) hp' hm' hl1 with ⟨k, hk⟩ | hD
        · exact Or.inl ⟨k, Or.inr ⟨ps, d, h, hk⟩⟩
        · exact Or.inr (gr_sound ht st hp h hD)
/-- a text is of right syntax, or the machine stops at some place -/
theorem gr_dich {t : Nat → Nat} {n : Nat} (ht : ∀ i, i < n → 33 ≤ t i) (hn : n ≤ 200) : (∃ k, gr_er t n 2006 [76, 80] 0 k) ∨ gr_G t n := by
  rcases gr_main ht 2006 [76, 80] 0 (Nat.zero_le _) (by simp only [gr_fi, gr_bn, List.length_cons, List.length_nil]; rw [if_neg (by decide)]; omega)
    (Or.inr ⟨[76], rfl, by intro s hs; rw [List.mem_singleton.mp hs]; decide⟩) with h | ⟨e, _, h1, hL, q, _, _, ⟨hQ, _⟩, _⟩
  · exact Or.inl h
  · exact Or.inr ⟨e, h1, hL, hQ⟩
end
section
/-! the characters of a structured text; brace depth; points -/
def gr_xc (c : Nat) : Prop := (48 ≤ c ∧ c ≤ 57) ∨ (97 ≤ c ∧ c ≤ 104) ∨ c = 40 ∨ c = 41 ∨ c = 91 ∨ c = 93 ∨ c = 42 ∨ c = 38 ∨ c = 43 ∨ c = 45 ∨ c = 94 ∨ c = 61 ∨ c = 60
/-- neither : ; { } ? @ -/
def gr_pl (c : Nat) : Prop := c ≠ 58 ∧ c ≠ 59 ∧ c ≠ 123 ∧ c ≠ 125 ∧ c ≠ 63 ∧ c ≠ 64
theorem gr_xc_pl {c : Nat} (h : gr_xc c) : gr_pl c := by unfold gr_xc at h; unfold gr_pl; omega
theorem gr_X_xc : ∀ f b w, gr_X f b w → ∀ c ∈ w, gr_xc c := by
  intro f
  induction f with
  | zero => intro b w h; exact h.elim
  | succ f ih =>
    intro b w h
    cases b with
    | true =>
      rcases h with ⟨k, rfl, hk⟩ | ⟨u, hu, rfl | rfl⟩
      · intro c hc
        rw [List.mem_singleton.mp hc]; unfold ex_at at hk; unfold gr_xc; omega
      · intro c hc
        rcases List.mem_cons.mp hc with rfl | hc
        · unfold gr_xc; omega
        · rcases List.mem_append.mp hc with hc | hc
          · exact ih _ _ hu c hc
          · rw [List.mem_singleton.mp hc]; unfold gr_xc; omega
      · intro c hc
        rcases List.mem_cons.mp hc with rfl | hc
        · unfold gr_xc; omega
        · rcases List.mem_append.mp hc with hc | hc
          · exact ih _ _ hu c hc
          · rw [List.mem_singleton.mp hc]; unfold gr_xc; omega
    | false =>
      rcases h with h | ⟨p, o, u, rfl, hp, ho, hu⟩
      · exact ih _ _ h
      · intro c hc
        rcases List.mem_append.mp hc with hc | hc
        · exact ih _ _ hp c hc
        · rcases List.mem_cons.mp hc with rfl | hc
          · have := ex_lv_at ho; unfold gr_xc; omega
          · exact ih _ _ hu c hc
theorem gr_E_xc {t : Nat → Nat} {x y i : Nat} (h : gr_E t x y) (h1 : x ≤ i) (h2 : i < y) : gr_xc (t i) := by
  obtain ⟨_, f, hf⟩ := h
  exact gr_X_xc _ _ _ hf _ (gr_sg_mem.mpr ⟨i, h1, h2, rfl⟩)
theorem gr_T_xc {t : Nat → Nat} {x y i : Nat} (h : gr_T t x y) (h1 : x ≤ i) (h2 : i < y) : gr_xc (t i) := by
  rcases h with ⟨rfl, hv⟩ | ⟨y', rfl, hx, hy, hE⟩
  · have : i = x := by omega
    subst this; unfold gr_vr at hv; unfold gr_xc; omega
  · rcases Nat.lt_or_ge i y' with h3 | h3
    · rcases Nat.lt_or_ge x i with h4 | h4
      · exact gr_E_xc hE h4 h3
      · have : i = x := by omega
        subst this; unfold gr_xc; omega
    · have : i = y' := by omega
      subst this; unfold gr_xc; omega
theorem gr_U_pl {t : Nat → Nat} {x o q i : Nat} (h : gr_U t x o q) (h1 : x ≤ i) (h2 : i < q) : gr_pl (t i) := by
  obtain ⟨hT, _, h⟩ := h
  rcases Nat.lt_or_ge i o with h3 | h3
  · exact gr_xc_pl (gr_T_xc hT h1 h3)
  · rcases Nat.lt_or_ge o i with h4 | h4
    · rcases h with ⟨_, hE⟩ | ⟨_, hT2⟩
      · exact gr_xc_pl (gr_E_xc hE h4 h2)
      · exact gr_xc_pl (gr_T_xc hT2 h4 h2)
    · have : i = o := by omega
      subst this
      rcases h with ⟨ho, _⟩ | ⟨ho, _⟩
      · have := ex_lv_at (k := t i) (by omega); unfold gr_pl; omega
      · unfold gr_pl; omega
theorem gr_K_pl {t : Nat → Nat} {x q i : Nat} (h : gr_K t x q) (h1 : x ≤ i) (h2 : i < q) : gr_pl (t i) := by
  obtain ⟨hx, hT, _⟩ := h
  rcases Nat.lt_or_ge x i with h3 | h3
  · exact gr_xc_pl (gr_T_xc hT h3 h2)
  · have : i = x := by omega
    subst this; unfold gr_pl; omega
theorem gr_C_pl {t : Nat → Nat} {x q i : Nat} (h : gr_C t x q) (h1 : x ≤ i) (h2 : i < q) : gr_pl (t i) := by
  obtain ⟨hx, hn, rfl, _⟩ := h
  rcases Nat.lt_or_ge x i with h3 | h3
  · have : i = x + 1 := by omega
    subst this; unfold gr_nm at hn; unfold gr_pl; omega
  · have : i = x := by omega
    subst this; unfold gr_pl; omega
/-- brace depth -/
def sc_D (t : Nat → Nat) : Nat → Int
  | 0 => 0
  | i + 1 => sc_D t i + (if t i = 123 then 1 else if t i = 125 then -1 else 0)
theorem sc_D_n {t : Nat → Nat} {i : Nat} (h1 : t i ≠ 123) (h2 : t i ≠ 125) : sc_D t (i + 1) = sc_D t i := by
  simp only [sc_D, if_neg h1, if_neg h2]; omega
theorem sc_D_o {t : Nat → Nat} {i : Nat} (h1 : t i = 123) : sc_D t (i + 1) = sc_D t i + 1 := by
  simp only [sc_D, if_pos h1]
theorem sc_D_c {t : Nat → Nat} {i : Nat} (h1 : t i = 125) : sc_D t (i + 1) = sc_D t i - 1 := by
  have h2 : ¬ t i = 123 := by omega
  simp only [sc_D, if_neg h2, if_pos h1]; omega
theorem sc_D_seg {t : Nat → Nat} {x y : Nat} (h : ∀ i, x ≤ i → i < y → t i ≠ 123 ∧ t i ≠ 125) : ∀ i, x ≤ i → i ≤ y → sc_D t i = sc_D t x := by
  intro i h1 h2
  obtain ⟨d, rfl⟩ : ∃ d, i = x + d := ⟨i - x, by omega⟩
  induction d with
  | zero => rfl
  | succ d ih =>
    have e := h (x + d) (by omega) (by omega)
    have e2 : x + (d + 1) = (x + d) + 1 := by omega
    rw [e2, sc_D_n e.1 e.2]
    exact ih (by omega) (by omega)
/-- what a list, or a statement with its semicolon, is as to braces and colons -/
def sc_ok (t : Nat → Nat) (x y : Nat) : Prop := sc_D t y = sc_D t x ∧ (∀ i, x ≤ i → i ≤ y → sc_D t x ≤ sc_D t i) ∧ (∀ i, x ≤ i → i < y → t i ≠ 58)
theorem sc_ok_nil {t : Nat → Nat} {x : Nat} : sc_ok t x x := ⟨rfl, fun i h1 h2 => by have : i = x := by omega
                                                                                     subst this; omega, fun i h1 h2 => by omega⟩
theorem sc_ok_app {t : Nat → Nat} {x y z : Nat} (h1 : sc_ok t x y) (h2 : sc_ok t y z) : sc_ok t x z := by
  obtain ⟨a1, a2, a3⟩ := h1
  obtain ⟨b1, b2, b3⟩ := h2
  refine ⟨by omega, fun i h1 h2 => ?_, fun i h1 h2 => ?_⟩
  · rcases Nat.lt_or_ge i y with h | h
    · exact a2 i h1 (by omega)
    · have := b2 i h h2; omega
  · rcases Nat.lt_or_ge i y with h | h
    · exact a3 i h1 h
    · exact b3 i h h2
theorem sc_ok_seg {t : Nat → Nat} {x y : Nat} (hxy : x ≤ y) (h : ∀ i, x ≤ i → i < y → t i ≠ 58 ∧ t i ≠ 123 ∧ t i ≠ 125) : sc_ok t x y := by
  have hs := sc_D_seg (t := t) (x := x) (y := y) (fun i a b => (h i a b).2)
  exact ⟨hs y hxy (Nat.le_refl _), fun i a b => by rw [hs i a b]; omega, fun i a b => (h i a b).1⟩
theorem sc_ok_pl {t : Nat → Nat} {x q : Nat} (hxq : x ≤ q) (h : ∀ i, x ≤ i → i < q → gr_pl (t i)) (hq : t q = 59) : sc_ok t x (q + 1) := by
  refine sc_ok_seg (by omega) (fun i h1 h2 => ?_)
  rcases Nat.lt_or_ge i q with h3 | h3
  · have := h i h1 h3; unfold gr_pl at this; omega
  · have : i = q := by omega
    subst this; omega
/-- { list } -/
theorem sc_ok_br {t : Nat → Nat} {a e : Nat} (ha : t a = 123) (hL : sc_ok t (a + 1) e) (hae : a + 1 ≤ e) (he : t e = 125) : sc_ok t a (e + 1) := by
  obtain ⟨b1, b2, b3⟩ := hL
  have d1 := sc_D_o ha
  have d2 := sc_D_c he
  refine ⟨by omega, fun i h1 h2 => ?_, fun i h1 h2 => ?_⟩
  · rcases Nat.lt_or_ge a i with h | h
    · rcases Nat.lt_or_ge e i with h' | h'
      · have : i = e + 1 := by omega
        subst this; omega
      · have := b2 i h h'; omega
    · have : i = a := by omega
      subst this; omega
  · rcases Nat.lt_or_ge a i with h | h
    · rcases Nat.lt_or_ge i e with h' | h'
      · exact b3 i h h'
      · have : i = e := by omega
        subst this; omega
    · have : i = a := by omega
      subst this; omega
theorem sc_S {t : Nat → Nat} {L : Nat → Nat → Prop} (ih : ∀ x y, L x y → sc_ok t x y) {x q : Nat} (h : gr_S t L x q) : sc_ok t x (q + 1) := by
  have hxq := gr_S_lt h
  rcases h with ⟨o, h⟩ | h | h | ⟨a, ea, eb, h1, h2, h3, h4, h5, h6, h7, h8, h9, h10, h11, h12⟩
  · exact sc_ok_pl (by omega) (fun i a b => gr_U_pl h a b) h.2.1
  · exact sc_ok_pl (by omega) (fun i a b => gr_K_pl h a b) h.2.2
  · exact sc_ok_pl (by omega) (fun i a b => gr_C_pl h a b) h.2.2.2
  · have l1 := gr_E_ne h2
    have l2 := gr_E_ne h11
    have s1 : sc_ok t x a := sc_ok_seg (by omega) (fun i a b => by
      rcases Nat.lt_or_ge x i with h | h
      · have := gr_xc_pl (gr_E_xc h2 h b); unfold gr_pl at this; omega
      · have : i = x := by omega
        subst this; omega)
    have s2 := sc_ok_br h3 (ih _ _ h5) h4 h6
    have s3 := sc_ok_br h7 (ih _ _ h9) h8 h10
    have s4 : sc_ok t (eb + 1) (q + 1) := sc_ok_pl (by omega) (fun i a b => gr_xc_pl (gr_E_xc h11 a b)) h12
    exact sc_ok_app s1 (sc_ok_app s2 (sc_ok_app s3 s4))
theorem sc_L {t : Nat → Nat} : ∀ f x y, gr_L t f x y → sc_ok t x y := by
  intro f
  induction f with
  | zero => intro x y h; cases h; exact sc_ok_nil
  | succ f ih =>
    rintro x y (rfl | ⟨q, hS, hL⟩)
    · exact sc_ok_nil
    · exact sc_ok_app (sc_S ih hS) (ih _ _ hL)
theorem sc_l {t : Nat → Nat} {x y : Nat} (h : gr_l t x y) : sc_ok t x y := by
  obtain ⟨f, h⟩ := h; exact sc_L f x y h
theorem sc_s {t : Nat → Nat} {x q : Nat} (h : gr_s t x q) : sc_ok t x (q + 1) := sc_S (fun _ _ h => sc_l h) h
/-- where a statement begins or a list ends at once -/
def sc_bg (t : Nat → Nat) (p : Nat) : Prop := p = 0 ∨ (1 ≤ p ∧ (t (p - 1) = 59 ∨ t (p - 1) = 123)) ∨ (2 ≤ p ∧ t (p - 2) = 58)
theorem sc_bg_1 {t : Nat → Nat} {p : Nat} (h : t p = 59 ∨ t p = 123) : sc_bg t (p + 1) := Or.inr (Or.inl ⟨by omega, h⟩)
theorem sc_bg_2 {t : Nat → Nat} {p : Nat} (h : t p = 58) : sc_bg t (p + 2) := Or.inr (Or.inr ⟨by omega, h⟩)
theorem sc_nbg {t : Nat → Nat} {p : Nat} (h0 : 0 < p) (h1 : t (p - 1) ≠ 59) (h2 : t (p - 1) ≠ 123) (h3 : 2 ≤ p → t (p - 2) ≠ 58) : ¬ sc_bg t p := by
  rintro (h | ⟨_, h⟩ | ⟨a, h⟩)
  · omega
  · omega
  · exact h3 a h
/-- a list of the text: MAIN or a procedure; or a block -/
def sc_tp (t : Nat → Nat) (n l e : Nat) : Prop := (l = 0 ∨ (2 ≤ l ∧ t (l - 2) = 58 ∧ gr_nm (t (l - 1)))) ∧ (e = n ∨ t e = 58)
def sc_bl (t : Nat → Nat) (n l e : Nat) : Prop := ∃ s a ea eb q, sc_bg t s ∧ q < n ∧ gr_b t s a ea eb q ∧ ((l = a + 1 ∧ e = ea) ∨ (l = ea + 2 ∧ e = eb))
def sc_cx (t : Nat → Nat) (n l e : Nat) : Prop := sc_tp t n l e ∨ sc_bl t n l e
def sc_pt (t : Nat → Nat) (n p l e : Nat) : Prop := l ≤ p ∧ p ≤ e ∧ e ≤ n ∧ sc_cx t n l e ∧ gr_l t l p ∧ gr_l t p e
theorem sc_cx_e {t : Nat → Nat} {n l e : Nat} (h : sc_cx t n l e) : e = n ∨ t e = 58 ∨ t e = 125 := by
  rcases h with ⟨_, h | h⟩ | ⟨s, a, ea, eb, q, _, _, ⟨_, _, _, _, _, h6, _, _, _, h10, _, _⟩, ⟨_, rfl⟩ | ⟨_, rfl⟩⟩
  · exact Or.inl h
  · exact Or.inr (Or.inl h)
  · exact Or.inr (Or.inr h6)
  · exact Or.inr (Or.inr h10)
theorem sc_cx_l {t : Nat → Nat} {n l e : Nat} (h : sc_cx t n l e) : l = 0 ∨ (2 ≤ l ∧ t (l - 2) = 58 ∧ gr_nm (t (l - 1))) ∨ (1 ≤ l ∧ t (l - 1) = 123) := by
  rcases h with ⟨h | h, _⟩ | ⟨s, a, ea, eb, q, _, _, ⟨_, _, h3, _, _, h6, h7, _, _, h10, _, _⟩, ⟨rfl, _⟩ | ⟨rfl, _⟩⟩
  · exact Or.inl h
  · exact Or.inr (Or.inl h)
  · exact Or.inr (Or.inr ⟨by omega, h3⟩)
  · exact Or.inr (Or.inr ⟨by omega, h7⟩)
theorem sc_ne58 {t : Nat → Nat} {n l e x : Nat} (h : sc_cx t n l e) (hL : gr_l t l x) (h1 : 1 ≤ x) : t (x - 1) ≠ 58 := by
  have hle := gr_l_le hL
  rcases Nat.lt_or_ge l x with h2 | h2
  · exact (sc_l hL).2.2 (x - 1) (by omega) (by omega)
  · have : x = l := by omega
    subst this
    rcases sc_cx_l h with h | ⟨_, _, h⟩ | ⟨_, h⟩
    · omega
    · unfold gr_nm at h; omega
    · omega
theorem sc_A {t : Nat → Nat} {n : Nat} : ∀ f x e l, gr_L t f x e → sc_cx t n l e → e ≤ n → gr_l t l x → sc_bg t x → ∀ p, x ≤ p → p ≤ e → sc_bg t p → ∃ l e, sc_pt t n p l e := by
  intro f
  induction f with
  | zero =>
    intro x e l h hc he hl _ p h1 h2 hb
    cases h
    have : p = x := by omega
    subst this
    exact ⟨l, p, gr_l_le hl, Nat.le_refl _, he, hc, hl, gr_l_nil⟩
  | succ f ih =>
    intro x e l h hc he hl hx p h1 h2 hb
    have hwhole : gr_l t x e := ⟨f + 1, h⟩
    rcases Nat.lt_or_ge x p with hxp | hxp
    case inr =>
      have : p = x := by omega
      subst this
      exact ⟨l, e, gr_l_le hl, h2, he, hc, hl, hwhole⟩
    rcases h with rfl | ⟨q, hS, hL⟩
    · omega
    have hs : gr_s t x q := gr_S_s hS
    have hqe := gr_L_le _ _ _ hL
    have hxq := gr_S_lt hS
    rcases Nat.lt_or_ge q p with hqp | hqp
    · have h59 : t q = 59 := by
        rcases hS with ⟨o, h⟩ | h | h | ⟨a, ea, eb, h⟩
        · exact h.2.1
        · exact h.2.2
        · exact h.2.2.2
        · exact h.2.2.2.2.2.2.2.2.2.2.2
      exact ih (q + 1) e l hL hc he (gr_l_app hl (gr_l_cons hs gr_l_nil)) (sc_bg_1 (Or.inl h59)) p hqp h2 hb
    · have h58 : 1 ≤ x → t (x - 1) ≠ 58 := sc_ne58 hc hl
      have hpl : (∀ i, x ≤ i → i < q → gr_pl (t i)) → False := by
        intro hpl
        have a1 := hpl (p - 1) (by omega) (by omega)
        refine sc_nbg (by omega) a1.2.1 a1.2.2.1 (fun h => ?_) hb
        rcases Nat.lt_or_ge (p - 2) x with h3 | h3
        · have e : p - 2 = x - 1 := by omega
          rw [e]; exact h58 (by omega)
        · exact (hpl (p - 2) h3 (by omega)).1
      rcases hS with ⟨o, h⟩ | h | h | ⟨a, ea, eb, hB⟩
      · exact (hpl (fun i a b => gr_U_pl h a b)).elim
      · exact (hpl (fun i a b => gr_K_pl h a b)).elim
      · exact (hpl (fun i a b => gr_C_pl h a b)).elim
      · have hb' : gr_b t x a ea eb q := gr_B_mono (fun _ _ h => ⟨f, h⟩) hB
        obtain ⟨h1, h2, h3, h4, h5, h6, h7, h8, h9, h10, h11, h12⟩ := hB
        have l1 := gr_E_ne h2
        have l2 := gr_E_ne h11
        have x1 : ∀ i, x ≤ i → i < a → t i ≠ 58 ∧ t i ≠ 59 ∧ t i ≠ 123 := fun i a b => by
          rcases Nat.lt_or_ge x i with h | h
          · have := gr_xc_pl (gr_E_xc h2 h b); unfold gr_pl at this; omega
          · have : i = x := by omega
            subst this; omega
        have x2 : ∀ i, eb ≤ i → i < q → t i ≠ 58 ∧ t i ≠ 59 ∧ t i ≠ 123 := fun i a b => by
          rcases Nat.lt_or_ge eb i with h | h
          · have := gr_xc_pl (gr_E_xc h11 h b); unfold gr_pl at this; omega
          · have : i = eb := by omega
            subst this; omega
        rcases Nat.lt_or_ge a p with hap | hap
        · rcases Nat.lt_or_ge ea p with hep | hep
          · rcases Nat.lt_or_ge (ea + 1) p with hep2 | hep2
            · rcases Nat.lt_or_ge eb p with hbp | hbp
              · exfalso
                have a1 := x2 (p - 1) (by omega) (by omega)
                refine sc_nbg (by omega) a1.2.1 a1.2.2 (fun h => ?_) hb
                rcases Nat.lt_or_ge (p - 2) eb with h3' | h3'
                · rcases Nat.lt_or_ge (ea + 1) (p - 2) with h4' | h4'
                  · exact (sc_L _ _ _ h9).2.2 (p - 2) (by omega) (by omega)
                  · have e : p - 2 = ea + 1 := by omega
                    rw [e]; omega
                · exact (x2 (p - 2) h3' (by omega)).1
              · exact ih (ea + 2) eb (ea + 2) h9 (Or.inr ⟨x, a, ea, eb, q, hx, by omega, hb', Or.inr ⟨rfl, rfl⟩⟩) (by omega) gr_l_nil (sc_bg_1 (p := ea + 1) (Or.inr h7)) p hep2 hbp hb
            · exfalso
              have e1 : p - 1 = ea := by omega
              refine sc_nbg (by omega) (by rw [e1]; omega) (by rw [e1]; omega) (fun h => ?_) hb
              rcases Nat.lt_or_ge a (p - 2) with h4' | h4'
              · exact (sc_L _ _ _ h5).2.2 (p - 2) (by omega) (by omega)
              · have e : p - 2 = a := by omega
                rw [e]; omega
          · exact ih (a + 1) ea (a + 1) h5 (Or.inr ⟨x, a, ea, eb, q, hx, by omega, hb', Or.inl ⟨rfl, rfl⟩⟩) (by omega) gr_l_nil (sc_bg_1 (Or.inr h3)) p hap hep hb
        · exfalso
          have a1 := x1 (p - 1) (by omega) (by omega)
          refine sc_nbg (by omega) a1.2.1 a1.2.2 (fun h => ?_) hb
          rcases Nat.lt_or_ge (p - 2) x with h3' | h3'
          · have e : p - 2 = x - 1 := by omega
            rw [e]; exact h58 (by omega)
          · exact (x1 (p - 2) h3' (by omega)).1
/-- every point lies in a list -/
theorem sc_pts {t : Nat → Nat} {n : Nat} (hG : gr_G t n) : ∀ p, p ≤ n → sc_bg t p → ∃ l e, sc_pt t n p l e := by
  obtain ⟨e0, he0, hl0, f, hQ⟩ := hG
  have hq : ∀ f p0, gr_Q t n f p0 → p0 ≤ n → (1 ≤ p0 → t (p0 - 1) ≠ 58) → ∀ p, p0 < p → p ≤ n → sc_bg t p → ∃ l e, sc_pt t n p l e := by
    intro f
    induction f with
    | zero => intro p0 h _ _ p h1 h2; have : p0 = n := h; omega
    | succ f ih =>
      intro p0 h hp0 h58 p h1 h2 hb
      rcases h with h | ⟨h3, h4, h5, e, he, hl, hQ⟩
      · omega
      have hQe : e = n ∨ t e = 58 := by
        cases f with
        | zero => exact Or.inl hQ
        | succ f =>
          rcases hQ with h | ⟨_, h, _⟩
          · exact Or.inl h
          · exact Or.inr h
      have hcx : sc_cx t n (p0 + 2) e := Or.inl ⟨Or.inr ⟨by omega, h4, h5⟩, hQe⟩
      rcases Nat.lt_or_ge (p0 + 1) p with h6 | h6
      · rcases Nat.lt_or_ge e p with h7 | h7
        · exact ih e hQ he (sc_ne58 hcx hl) p h7 h2 hb
        · obtain ⟨g, hg⟩ := hl
          exact sc_A g (p0 + 2) e (p0 + 2) hg hcx he gr_l_nil (sc_bg_2 h4) p h6 h7 hb
      · have e1 : p - 1 = p0 := by omega
        refine (sc_nbg (by omega) (by rw [e1]; omega) (by rw [e1]; omega) (fun h => ?_) hb).elim
        have e2 : p - 2 = p0 - 1 := by omega
        rw [e2]; exact h58 (by omega)
  have hQe : e0 = n ∨ t e0 = 58 := by
    cases f with
    | zero => exact Or.inl hQ
    | succ f =>
      rcases hQ with h | ⟨_, h, _⟩
      · exact Or.inl h
      · exact Or.inr h
  have hcx : sc_cx t n 0 e0 := Or.inl ⟨Or.inl rfl, hQe⟩
  intro p hp hb
  rcases Nat.lt_or_ge e0 p with h7 | h7
  · exact hq f e0 hQ he0 (sc_ne58 hcx hl0) p h7 hp hb
  · obtain ⟨g, hg⟩ := hl0
    exact sc_A g 0 e0 0 hg hcx he0 gr_l_nil (Or.inl rfl) p (Nat.zero_le _) h7 hb
end
section
/-! the reference's scans as pure functions, and their values in a structured text -/
def sc_en (t : Nat → Nat) (n : Nat) : Nat → Nat → Nat → Nat
  | 0, _, _ => n
  | d + 1, k, i => if t i = 58 then i else if t i = 125 ∧ k = 0 then i else sc_en t n d (if t i = 123 then k + 1 else if t i = 125 then k - 1 else k) (i + 1)
def sc_End (t : Nat → Nat) (n p : Nat) : Nat := sc_en t n (n - p) 0 p
theorem sc_en_val {t : Nat → Nat} {n p e : Nat} (hpe : p ≤ e) (he : e ≤ n) (hok : sc_ok t p e) (hE : e = n ∨ t e = 58 ∨ t e = 125) : sc_End t n p = e := by
  obtain ⟨h1, h2, h3⟩ := hok
  have main : ∀ d i k : Nat, i + d = e → p ≤ i → (k : Int) = sc_D t i - sc_D t p → sc_en t n (n - i) k i = e := by
    intro d
    induction d with
    | zero =>
      intro i k hi hpi hk
      have hie : i = e := by omega
      subst hie
      have hk0 : k = 0 := by omega
      rcases Nat.lt_or_ge i n with h | h
      · obtain ⟨m, hm⟩ : ∃ m, n - i = m + 1 := ⟨n - i - 1, by omega⟩
        rw [hm, sc_en]
        by_cases h58 : t i = 58
        · rw [if_pos h58]
        · rw [if_neg h58, if_pos ⟨by omega, hk0⟩]
      · have : n - i = 0 := by omega
        rw [this, sc_en]; omega
    | succ d ih =>
      intro i k hi hpi hk
      obtain ⟨m, hm⟩ : ∃ m, n - i = m + 1 := ⟨n - i - 1, by omega⟩
      have hm2 : m = n - (i + 1) := by omega
      have a1 := h3 i hpi (by omega)
      have a2 := h2 (i + 1) (by omega) (by omega)
      rw [hm, sc_en, if_neg a1]
      by_cases h125 : t i = 125
      · have hd := sc_D_c h125
        have h123 : ¬ t i = 123 := by omega
        rw [if_neg (by omega), if_neg h123, if_pos h125, hm2]
        exact ih (i + 1) (k - 1) (by omega) (by omega) (by omega)
      · rw [if_neg (fun h => h125 h.1)]
        by_cases h123 : t i = 123
        · have hd := sc_D_o h123
          rw [if_pos h123, hm2]
          exact ih (i + 1) (k + 1) (by omega) (by omega) (by omega)
        · have hd := sc_D_n h123 h125
          rw [if_neg h123, if_neg h125, hm2]
          exact ih (i + 1) k (by omega) (by omega) (by omega)
  exact main (e - p) p 0 (by omega) (Nat.le_refl _) (by omega)
def sc_fo (t : Nat → Nat) : Nat → Nat → Nat
  | 0, _ => 0
  | i + 1, k => if t i = 58 then i + 2 else if t i = 123 ∧ k = 0 then i + 1 else sc_fo t i (if t i = 125 then k + 1 else if t i = 123 then k - 1 else k)
def sc_Fst (t : Nat → Nat) (p : Nat) : Nat := sc_fo t p 0
theorem sc_fo_val {t : Nat → Nat} {l p : Nat} (hlp : l ≤ p) (hok : sc_ok t l p) (hl : l = 0 ∨ (2 ≤ l ∧ t (l - 2) = 58 ∧ gr_nm (t (l - 1))) ∨ (1 ≤ l ∧ t (l - 1) = 123)) : sc_Fst t p = l := by
  obtain ⟨h1, h2, h3⟩ := hok
  have main : ∀ d i k : Nat, i = l + d → i ≤ p → (k : Int) = sc_D t i - sc_D t p → sc_fo t i k = l := by
    intro d
    induction d with
    | zero =>
      intro i k hi hip hk
      have hil : i = l := by omega
      subst hil
      have hk0 : k = 0 := by omega
      rcases hl with h | ⟨h4, h5, h6⟩ | ⟨h4, h5⟩
      · subst h; rfl
      · obtain ⟨j, rfl⟩ : ∃ j, i = j + 2 := ⟨i - 2, by omega⟩
        have e1 : j + 2 - 2 = j := by omega
        have e2 : j + 2 - 1 = j + 1 := by omega
        rw [e1] at h5
        rw [e2] at h6
        unfold gr_nm at h6
        rw [sc_fo, if_neg (by omega), if_neg (by omega), if_neg (by omega), if_neg (by omega), sc_fo, if_pos h5]
      · obtain ⟨j, rfl⟩ : ∃ j, i = j + 1 := ⟨i - 1, by omega⟩
        have e1 : j + 1 - 1 = j := by omega
        rw [e1] at h5
        rw [sc_fo, if_neg (by omega), if_pos ⟨h5, hk0⟩]
    | succ d ih =>
      intro i k hi hip hk
      have hi2 : i = (l + d) + 1 := by omega
      subst hi2
      have a1 := h3 (l + d) (by omega) (by omega)
      have a2 := h2 (l + d) (by omega) (by omega)
      rw [sc_fo, if_neg a1]
      by_cases h123 : t (l + d) = 123
      · have hd := sc_D_o h123
        have h125 : ¬ t (l + d) = 125 := by omega
        rw [if_neg (by omega), if_neg h125, if_pos h123]
        exact ih (l + d) (k - 1) rfl (by omega) (by omega)
      · rw [if_neg (fun h => h123 h.1)]
        by_cases h125 : t (l + d) = 125
        · have hd := sc_D_c h125
          rw [if_pos h125]
          exact ih (l + d) (k + 1) rfl (by omega) (by omega)
        · have hd := sc_D_n h123 h125
          rw [if_neg h125, if_neg h123]
          exact ih (l + d) k rfl (by omega) (by omega)
  exact main (p - l) p 0 (by omega) (Nat.le_refl _) (by omega)
def sc_fd (t : Nat → Nat) (n c : Nat) : Nat → Nat → Nat
  | 0, _ => n
  | d + 1, i => if t i = c then i else sc_fd t n c d (i + 1)
def sc_Find (t : Nat → Nat) (n c x : Nat) : Nat := sc_fd t n c (n - x) x
theorem sc_fd_val {t : Nat → Nat} {n c x q : Nat} (hxq : x ≤ q) (hq : q < n) (h : ∀ i, x ≤ i → i < q → t i ≠ c) (hc : t q = c) : sc_Find t n c x = q := by
  have main : ∀ d i, i + d = q → x ≤ i → sc_fd t n c (n - i) i = q := by
    intro d
    induction d with
    | zero =>
      intro i hi hx
      have : i = q := by omega
      subst this
      obtain ⟨m, hm⟩ : ∃ m, n - i = m + 1 := ⟨n - i - 1, by omega⟩
      rw [hm, sc_fd, if_pos hc]
    | succ d ih =>
      intro i hi hx
      obtain ⟨m, hm⟩ : ∃ m, n - i = m + 1 := ⟨n - i - 1, by omega⟩
      have hm2 : m = n - (i + 1) := by omega
      rw [hm, sc_fd, if_neg (h i hx (by omega)), hm2]
      exact ih (i + 1) (by omega) (by omega)
  exact main (q - x) x (by omega) (Nat.le_refl _)
/-- depth of square brackets -/
def sc_W (t : Nat → Nat) : Nat → Int
  | 0 => 0
  | i + 1 => sc_W t i + (if t i = 91 then 1 else if t i = 93 then -1 else 0)
theorem sc_W_n {t : Nat → Nat} {i : Nat} (h1 : t i ≠ 91) (h2 : t i ≠ 93) : sc_W t (i + 1) = sc_W t i := by
  simp only [sc_W, if_neg h1, if_neg h2]; omega
theorem sc_W_o {t : Nat → Nat} {i : Nat} (h1 : t i = 91) : sc_W t (i + 1) = sc_W t i + 1 := by
  simp only [sc_W, if_pos h1]
theorem sc_W_c {t : Nat → Nat} {i : Nat} (h1 : t i = 93) : sc_W t (i + 1) = sc_W t i - 1 := by
  have h2 : ¬ t i = 91 := by omega
  simp only [sc_W, if_neg h2, if_pos h1]; omega
theorem gr_P_inv {t : Nat → Nat} {f x y : Nat} (hxy : x ≤ y) (h : gr_X (f + 1) true (gr_sg t x y)) : (y = x + 1 ∧ ex_at (t x)) ∨ ∃ y', y = y' + 1 ∧ x + 1 ≤ y' ∧ gr_X f false (gr_sg t (x + 1) y') ∧ ((t x = 40 ∧ t y' = 41) ∨ (t x = 91 ∧ t y' = 93)) := by
  have hb : ∀ c1 c2 u, gr_sg t x y = c1 :: (u ++ [c2]) → ∃ y', y = y' + 1 ∧ x + 1 ≤ y' ∧ u = gr_sg t (x + 1) y' ∧ t x = c1 ∧ t y' = c2 := by
    intro c1 c2 u e
    have hlt : x < y := by
      rcases Nat.lt_or_ge x y with h | h
      · exact h
      · have : x = y := by omega
        subst this; rw [gr_sg_nil] at e; cases e
    rw [gr_sg_cons t hlt] at e
    have e2 := List.cons.inj e
    obtain ⟨a1, a2, a3⟩ := gr_sg_split (t := t) (x := x + 1) (y := y) (by omega) e2.2
    have hlen : (gr_sg t (x + 1) y).length = u.length + 1 := by rw [e2.2]; simp
    rw [gr_sg_len] at hlen
    refine ⟨x + 1 + u.length, by omega, by omega, a2, e2.1, ?_⟩
    rw [gr_sg_cons t (by omega)] at a3
    exact (List.cons.inj a3).1.symm
  rcases h with ⟨k, e, hk⟩ | ⟨u, hu, e | e⟩
  · left
    have hlen : (gr_sg t x y).length = 1 := by rw [e]; rfl
    rw [gr_sg_len] at hlen
    have : y = x + 1 := by omega
    subst this
    rw [gr_sg_one] at e
    rw [(List.cons.inj e).1]
    exact ⟨rfl, hk⟩
  · right
    obtain ⟨y', a1, a2, rfl, a4, a5⟩ := hb _ _ _ e
    exact ⟨y', a1, a2, hu, Or.inl ⟨a4, a5⟩⟩
  · right
    obtain ⟨y', a1, a2, rfl, a4, a5⟩ := hb _ _ _ e
    exact ⟨y', a1, a2, hu, Or.inr ⟨a4, a5⟩⟩
theorem gr_E_inv {t : Nat → Nat} {f x y : Nat} (hxy : x ≤ y) (h : gr_X (f + 1) false (gr_sg t x y)) : gr_X f true (gr_sg t x y) ∨ ∃ z, x ≤ z ∧ z < y ∧ gr_X f true (gr_sg t x z) ∧ 0 < ex_lv (t z) ∧ gr_X f false (gr_sg t (z + 1) y) := by
  rcases h with h | ⟨p, o, u, e, hp, ho, hu⟩
  · exact Or.inl h
  · right
    obtain ⟨a1, a2, a3⟩ := gr_sg_split hxy e
    have hlen : (o :: u).length = y - (x + p.length) := by rw [a3, gr_sg_len]
    rw [List.length_cons] at hlen
    rw [gr_sg_cons t (x := x + p.length) (by omega)] at a3
    have a4 := List.cons.inj a3
    exact ⟨x + p.length, by omega, by omega, by rw [← a2]; exact hp, by rw [← a4.1]; exact ho, by rw [← a4.2]; exact hu⟩
theorem sc_W_X {t : Nat → Nat} : ∀ f b x y, x ≤ y → gr_X f b (gr_sg t x y) → sc_W t y = sc_W t x ∧ ∀ i, x ≤ i → i ≤ y → sc_W t x ≤ sc_W t i := by
  intro f
  induction f with
  | zero => intro b x y _ h; exact h.elim
  | succ f ih =>
    intro b x y hxy h
    cases b with
    | true =>
      rcases gr_P_inv hxy h with ⟨rfl, ha⟩ | ⟨y', rfl, hy', hu, hc⟩
      · unfold ex_at at ha
        have hw := sc_W_n (t := t) (i := x) (by omega) (by omega)
        refine ⟨hw, fun i h1 h2 => ?_⟩
        rcases Nat.lt_or_ge x i with h3 | h3
        · have : i = x + 1 := by omega
          subst this; omega
        · have : i = x := by omega
          subst this; omega
      · obtain ⟨a1, a2⟩ := ih _ _ _ hy' hu
        have hw1 : sc_W t (x + 1) = sc_W t x ∧ sc_W t (y' + 1) = sc_W t y' ∨ sc_W t (x + 1) = sc_W t x + 1 ∧ sc_W t (y' + 1) = sc_W t y' - 1 := by
          rcases hc with ⟨b1, b2⟩ | ⟨b1, b2⟩
          · exact Or.inl ⟨sc_W_n (by omega) (by omega), sc_W_n (by omega) (by omega)⟩
          · exact Or.inr ⟨sc_W_o b1, sc_W_c b2⟩
        refine ⟨by omega, fun i h1 h2 => ?_⟩
        rcases Nat.lt_or_ge x i with h3 | h3
        · rcases Nat.lt_or_ge y' i with h4 | h4
          · have : i = y' + 1 := by omega
            subst this; omega
          · have := a2 i h3 h4; omega
        · have : i = x := by omega
          subst this; omega
    | false =>
      rcases gr_E_inv hxy h with h | ⟨z, h1, h2, h3, h4, h5⟩
      · exact ih _ _ _ hxy h
      · obtain ⟨a1, a2⟩ := ih _ _ _ h1 h3
        obtain ⟨b1, b2⟩ := ih _ _ _ (by omega) h5
        have hz := ex_lv_at h4
        have hw := sc_W_n (t := t) (i := z) (by omega) (by omega)
        refine ⟨by omega, fun i h6 h7 => ?_⟩
        rcases Nat.lt_or_ge z i with h8 | h8
        · have := b2 i h8 h7; omega
        · exact a2 i h6 h8
def sc_te (t : Nat → Nat) (n : Nat) : Nat → Nat → Nat → Nat
  | 0, _, _ => n
  | d + 1, k, i => if (if t i = 91 then k + 1 else if t i = 93 then k - 1 else k) = 0 then i + 1 else sc_te t n d (if t i = 91 then k + 1 else if t i = 93 then k - 1 else k) (i + 1)
def sc_Te (t : Nat → Nat) (n x : Nat) : Nat := sc_te t n (n - x) 0 x
theorem sc_Te_1 {t : Nat → Nat} {n x : Nat} (hx : x < n) (h1 : t x ≠ 91) (h2 : t x ≠ 93) : sc_Te t n x = x + 1 := by
  unfold sc_Te
  obtain ⟨m, hm⟩ : ∃ m, n - x = m + 1 := ⟨n - x - 1, by omega⟩
  rw [hm, sc_te, if_neg h1, if_neg h2, if_pos rfl]
theorem sc_Te_val {t : Nat → Nat} {n x o : Nat} (h : gr_T t x o) (ho : o ≤ n) : sc_Te t n x = o := by
  rcases h with ⟨rfl, hv⟩ | ⟨y', rfl, hx, hy, hxy, f, hf⟩
  · unfold gr_vr at hv
    exact sc_Te_1 (by omega) (by omega) (by omega)
  · obtain ⟨a1, a2⟩ := sc_W_X _ _ _ _ hxy hf
    have w1 := sc_W_o hx
    have w2 := sc_W_c hy
    have main : ∀ d i k : Nat, i + d = y' → x + 1 ≤ i → (k : Int) = sc_W t i - sc_W t x → sc_te t n (n - i) k i = y' + 1 := by
      intro d
      induction d with
      | zero =>
        intro i k hi hxi hk
        have : i = y' := by omega
        subst this
        obtain ⟨m, hm⟩ : ∃ m, n - i = m + 1 := ⟨n - i - 1, by omega⟩
        rw [hm, sc_te, if_neg (by omega : ¬ t i = 91), if_pos hy, if_pos (by omega)]
      | succ d ih =>
        intro i k hi hxi hk
        obtain ⟨m, hm⟩ : ∃ m, n - i = m + 1 := ⟨n - i - 1, by omega⟩
        have hm2 : m = n - (i + 1) := by omega
        have b1 := a2 (i + 1) (by omega) (by omega)
        rw [hm, sc_te]
        by_cases h91 : t i = 91
        · have := sc_W_o h91
          rw [if_pos h91, if_neg (by omega), hm2]
          exact ih (i + 1) (k + 1) (by omega) (by omega) (by omega)
        · rw [if_neg h91]
          by_cases h93 : t i = 93
          · have := sc_W_c h93
            rw [if_pos h93, if_neg (by omega), hm2]
            exact ih (i + 1) (k - 1) (by omega) (by omega) (by omega)
          · have := sc_W_n h91 h93
            have := a2 i (by omega) (by omega)
            rw [if_neg h93, if_neg (by omega), hm2]
            exact ih (i + 1) k (by omega) (by omega) (by omega)
    unfold sc_Te
    obtain ⟨m, hm⟩ : ∃ m, n - x = m + 1 := ⟨n - x - 1, by omega⟩
    have hm2 : m = n - (x + 1) := by omega
    rw [hm, sc_te, if_pos hx, if_neg (by omega), hm2]
    exact main (y' - (x + 1)) (x + 1) 1 (by omega) (Nat.le_refl _) (by omega)
def sc_bo (t : Nat → Nat) (c : Nat) : Nat → Nat → Option Nat
  | 0, _ => none
  | d + 1, k => if t k = 58 ∧ t (k + 1) = c then some (k + 2) else sc_bo t c d (k + 1)
/-- FIRST of the procedure named c among the characters before lim -/
def sc_Body (t : Nat → Nat) (c lim : Nat) : Option Nat := sc_bo t c (lim - 1) 0
def sc_Fa (t : Nat → Nat) (n s : Nat) : Nat := sc_Find t n 123 s + 1
def sc_Fb (t : Nat → Nat) (n s : Nat) : Nat := sc_End t n (sc_Fa t n s) + 2
def sc_Tl (t : Nat → Nat) (n s : Nat) : Nat := sc_End t n (sc_Fb t n s) + 1
def sc_Af (t : Nat → Nat) (n s : Nat) : Nat := sc_Find t n 59 (if t s = 63 ∨ t s = 64 then sc_Tl t n s else s) + 1
theorem sc_b_val {t : Nat → Nat} {n s a ea eb q : Nat} (h : gr_b t s a ea eb q) (hq : q < n) : sc_Fa t n s = a + 1 ∧ sc_Fb t n s = ea + 2 ∧ sc_Tl t n s = eb + 1 ∧ sc_End t n (a + 1) = ea ∧ sc_End t n (ea + 2) = eb ∧ s + 1 < a ∧ a < ea ∧ ea + 1 < eb ∧ eb + 1 < q := by
  obtain ⟨h1, h2, h3, h4, h5, h6, h7, h8, h9, h10, h11, h12⟩ := h
  have l1 := gr_E_ne h2
  have l2 := gr_E_ne h11
  have e1 : sc_Fa t n s = a + 1 := by
    unfold sc_Fa
    rw [sc_fd_val (q := a) (by omega) (by omega) (fun i b1 b2 => ?_) h3]
    rcases Nat.lt_or_ge s i with h | h
    · have := gr_xc_pl (gr_E_xc h2 h b2); unfold gr_pl at this; omega
    · have : i = s := by omega
      subst this; omega
  have e2 : sc_End t n (a + 1) = ea := sc_en_val h4 (by omega) (sc_l h5) (Or.inr (Or.inr h6))
  have e3 : sc_End t n (ea + 2) = eb := sc_en_val h8 (by omega) (sc_l h9) (Or.inr (Or.inr h10))
  have e4 : sc_Fb t n s = ea + 2 := by unfold sc_Fb; rw [e1, e2]
  have e5 : sc_Tl t n s = eb + 1 := by unfold sc_Tl; rw [e4, e3]
  exact ⟨e1, e4, e5, e2, e3, by omega, by omega, by omega, by omega⟩
theorem sc_Af_val {t : Nat → Nat} {n s q : Nat} (h : gr_s t s q) (hq : q < n) : sc_Af t n s = q + 1 := by
  have hlt := gr_S_lt h
  unfold sc_Af
  rcases h with ⟨o, h⟩ | h | h | ⟨a, ea, eb, h⟩
  · have h0 := gr_U_pl h (Nat.le_refl _) hlt
    rw [if_neg (by unfold gr_pl at h0; omega), sc_fd_val (q := q) (by omega) hq (fun i a b => (gr_U_pl h a b).2.1) h.2.1]
  · have h0 := gr_K_pl h (Nat.le_refl _) hlt
    rw [if_neg (by unfold gr_pl at h0; omega), sc_fd_val (q := q) (by omega) hq (fun i a b => (gr_K_pl h a b).2.1) h.2.2]
  · have h0 := gr_C_pl h (Nat.le_refl _) hlt
    rw [if_neg (by unfold gr_pl at h0; omega), sc_fd_val (q := q) (by omega) hq (fun i a b => (gr_C_pl h a b).2.1) h.2.2.2]
  · obtain ⟨_, _, e, _, _, b1, b2, b3, b4⟩ := sc_b_val h hq
    obtain ⟨h1, h2, h3, h4, h5, h6, h7, h8, h9, h10, h11, h12⟩ := h
    rw [if_pos h1, e, sc_fd_val (q := q) (by omega) hq (fun i a b => (gr_xc_pl (gr_E_xc h11 a b)).2.1) h12]
theorem sc_pt_fst {t : Nat → Nat} {n p l e : Nat} (h : sc_pt t n p l e) : sc_Fst t p = l :=
  sc_fo_val h.1 (sc_l h.2.2.2.2.1) (sc_cx_l h.2.2.2.1)
theorem sc_pt_end {t : Nat → Nat} {n p l e : Nat} (h : sc_pt t n p l e) : sc_End t n p = e :=
  sc_en_val h.2.1 h.2.2.1 (sc_l h.2.2.2.2.2) (sc_cx_e h.2.2.2.1)
/-- a statement begins at p -/
def sc_sr (c : Nat) : Prop := gr_vr c ∨ c = 91 ∨ c = 62 ∨ c = 60 ∨ c = 33 ∨ c = 126 ∨ c = 63 ∨ c = 64
def sc_ss (t : Nat → Nat) (n p : Nat) : Prop := p < n ∧ sc_sr (t p)
theorem gr_T_sr {t : Nat → Nat} {x o : Nat} (h : gr_T t x o) : gr_vr (t x) ∨ t x = 91 := by
  rcases h with ⟨_, h⟩ | ⟨_, _, h, _⟩
  · exact Or.inl h
  · exact Or.inr h
theorem gr_S_sr {t : Nat → Nat} {L : Nat → Nat → Prop} {x q : Nat} (h : gr_S t L x q) : sc_sr (t x) := by
  unfold sc_sr
  rcases h with ⟨o, h⟩ | h | h | ⟨a, ea, eb, h⟩
  · rcases gr_T_sr h.1 with h | h
    · exact Or.inl h
    · exact Or.inr (Or.inl h)
  · have := h.1; omega
  · have := h.1; omega
  · have := h.1; omega
theorem sc_pt_cases {t : Nat → Nat} {n p l e : Nat} (h : sc_pt t n p l e) : (p = e ∧ ¬ sc_ss t n p) ∨ (∃ q, gr_s t p q ∧ q < e ∧ sc_ss t n p ∧ sc_pt t n (q + 1) l e) := by
  obtain ⟨h1, h2, h3, h4, h5, h6⟩ := h
  rcases gr_l_inv h6 with rfl | ⟨q, hs, hl⟩
  · left
    refine ⟨rfl, fun ⟨h7, h8⟩ => ?_⟩
    have := sc_cx_e h4
    unfold sc_sr gr_vr at h8
    omega
  · right
    have := gr_S_lt hs
    have := gr_l_le hl
    exact ⟨q, hs, by omega, ⟨by omega, gr_S_sr hs⟩, by omega, by omega, h3, h4, gr_l_app h5 (gr_l_cons hs gr_l_nil), hl⟩
theorem gr_l_snoc {t : Nat → Nat} {x y : Nat} (h : gr_l t x y) (hxy : x < y) : ∃ s q, gr_l t x s ∧ gr_s t s q ∧ y = q + 1 := by
  obtain ⟨f, h⟩ := h
  induction f generalizing x with
  | zero => have : x = y := h; omega
  | succ f ih =>
    rcases h with rfl | ⟨q, hS, hL⟩
    · omega
    · have hle := gr_L_le _ _ _ hL
      rcases Nat.lt_or_ge (q + 1) y with h1 | h1
      · obtain ⟨s, q', a1, a2, a3⟩ := ih h1 hL
        exact ⟨s, q', gr_l_cons (gr_S_s hS) a1, a2, a3⟩
      · exact ⟨x, q, gr_l_nil, gr_S_s hS, by omega⟩
def sc_sb (t : Nat → Nat) (n p : Nat) : Nat → Nat → Nat → Nat
  | 0, s, _ => s
  | m + 1, s, z => if z < p then sc_sb t n p m z (sc_Af t n z) else s
/-- the statement that ends just before p -/
def sc_Sb (t : Nat → Nat) (n p : Nat) : Nat := sc_sb t n p n (sc_Fst t p) (sc_Af t n (sc_Fst t p))
theorem sc_Sb_val {t : Nat → Nat} {n l s q : Nat} (hl : gr_l t l s) (hs : gr_s t s q) (hq : q < n) (hF : sc_Fst t (q + 1) = l) : sc_Sb t n (q + 1) = s := by
  unfold sc_Sb
  rw [hF]
  obtain ⟨f, hl⟩ := hl
  have hsq := gr_S_lt hs
  have main : ∀ f x m, gr_L t f x s → s ≤ x + m → sc_sb t n (q + 1) m x (sc_Af t n x) = s := by
    intro f
    induction f with
    | zero =>
      intro x m h hm
      have : x = s := h
      subst this
      cases m with
      | zero => rfl
      | succ m => rw [sc_sb, sc_Af_val hs hq, if_neg (by omega)]
    | succ f ih =>
      intro x m h hm
      rcases h with rfl | ⟨q0, hS, hL⟩
      · cases m with
        | zero => rfl
        | succ m => rw [sc_sb, sc_Af_val hs hq, if_neg (by omega)]
      · have h1 := gr_L_le _ _ _ hL
        have h2 := gr_S_lt hS
        cases m with
        | zero => omega
        | succ m =>
          rw [sc_sb, sc_Af_val (gr_S_s hS) (by omega), if_pos (by omega)]
          exact ih (q0 + 1) m hL (by omega)
  exact main f l n hl (by have := gr_L_le _ _ _ hl; omega)
def sc_ob (t : Nat → Nat) : Nat → Nat
  | 0 => 0
  | k + 1 => if t (k + 1) = 63 ∨ t (k + 1) = 64 then k + 1 else sc_ob t k
/-- the IF or LOOP that has the block with this FIRST -/
def sc_Ow (t : Nat → Nat) (l : Nat) : Nat := if t (l - 2) = 125 then sc_ob t (sc_Fst t (l - 2) - 1) else sc_ob t (l - 1)
theorem sc_ob_val {t : Nat → Nat} {s : Nat} (hs : t s = 63 ∨ t s = 64) : ∀ k, s ≤ k → (∀ i, s < i → i ≤ k → t i ≠ 63 ∧ t i ≠ 64) → sc_ob t k = s := by
  intro k
  induction k with
  | zero => intro h _; have : s = 0 := by omega
            subst this; rfl
  | succ k ih =>
    intro h1 h2
    rcases Nat.lt_or_ge s (k + 1) with h3 | h3
    · have := h2 (k + 1) h3 (Nat.le_refl _)
      rw [sc_ob, if_neg (by omega)]
      exact ih (by omega) (fun i a b => h2 i a (by omega))
    · have : s = k + 1 := by omega
      subst this
      rw [sc_ob, if_pos hs]
theorem sc_Ow_val {t : Nat → Nat} {s a ea eb q : Nat} (h : gr_b t s a ea eb q) : sc_Ow t (a + 1) = s ∧ sc_Ow t (ea + 2) = s := by
  obtain ⟨h1, h2, h3, h4, h5, h6, h7, h8, h9, h10, h11, h12⟩ := h
  have l1 := gr_E_ne h2
  have hob : sc_ob t a = s := by
    refine sc_ob_val h1 a (by omega) (fun i b1 b2 => ?_)
    rcases Nat.lt_or_ge i a with h | h
    · have := gr_xc_pl (gr_E_xc h2 b1 h); unfold gr_pl at this; omega
    · have : i = a := by omega
      subst this; omega
  constructor
  · unfold sc_Ow
    have hx := gr_xc_pl (gr_E_xc h2 (i := a - 1) (by omega) (by omega))
    have e1 : a + 1 - 2 = a - 1 := by omega
    have e2 : a + 1 - 1 = a := by omega
    rw [e1, e2, if_neg (by unfold gr_pl at hx; omega)]
    exact hob
  · unfold sc_Ow
    have e1 : ea + 2 - 2 = ea := by omega
    have e2 : a + 1 - 1 = a := by omega
    have e3 : sc_Fst t ea = a + 1 := sc_fo_val h4 (sc_l h5) (Or.inr (Or.inr ⟨by omega, by rw [e2]; exact h3⟩))
    rw [e1, if_pos h6, e3, e2]
    exact hob
end
section
/-! stacks in arrays: the list, top first -/
def sk_N (a : Nat → Int32) : List Nat → Prop
  | [] => True
  | x :: l => a l.length = nI x ∧ sk_N a l
theorem sk_N_upd {a : Nat → Int32} {l : List Nat} {k : Nat} {v : Int32} (h : sk_N a l) (hk : l.length ≤ k) : sk_N (upd a k v) l := by
  induction l with
  | nil => trivial
  | cons x l ih =>
    rw [List.length_cons] at hk
    exact ⟨by rw [pk_un (by omega)]; exact h.1, ih h.2 (by omega)⟩
theorem sk_N_push {a : Nat → Int32} {l : List Nat} {x : Nat} (h : sk_N a l) : sk_N (upd a l.length (nI x)) (x :: l) := ⟨pk_us, sk_N_upd h (Nat.le_refl _)⟩
def sk_I (a : Nat → Int32) : List Int32 → Prop
  | [] => True
  | x :: l => a l.length = x ∧ sk_I a l
theorem sk_I_upd {a : Nat → Int32} {l : List Int32} {k : Nat} {v : Int32} (h : sk_I a l) (hk : l.length ≤ k) : sk_I (upd a k v) l := by
  induction l with
  | nil => trivial
  | cons x l ih =>
    rw [List.length_cons] at hk
    exact ⟨by rw [pk_un (by omega)]; exact h.1, ih h.2 (by omega)⟩
theorem sk_I_push {a : Nat → Int32} {l : List Int32} {x : Int32} (h : sk_I a l) : sk_I (upd a l.length x) (x :: l) := ⟨pk_us, sk_I_upd h (Nat.le_refl _)⟩
end
section
/-! X: the small helpers, over texts as naturals -/
/-- the character c as X reads it (0: none) -/
def xp_c (c : Nat) : Int32 := if c = 0 then -1 else nI c
theorem xp_c0 : xp_c 0 = -1 := rfl
theorem xp_cs {c : Nat} (h : c ≠ 0) : xp_c c = nI c := if_neg h
theorem xp_neg : ∀ k, k < 127 → ¬ (-1 : Int32) = nI k := by
  intro k hk h
  have h1 : (-1 : Int32).toInt = (nI k).toInt := by rw [h]
  rw [nI_toInt (by omega)] at h1
  have : (-1 : Int32).toInt = -1 := by decide
  omega
theorem xp_negl {k : Nat} (hk : k < 2 ^ 31) : (-1 : Int32) < nI k := by
  rw [Int32.lt_iff_toInt_lt, nI_toInt hk]
  have : (-1 : Int32).toInt = -1 := by decide
  omega
/-- X compares a character -/
theorem xp_eq {A B : Prop} {K : Int32} {c : Nat} (k : Nat) (hc : c < 127) (f : c = k → A) (g : c ≠ k → B) (hK : K = nI k := by rfl) (hk : k < 127 := by omega) (h0 : k ≠ 0 := by omega) : (xp_c c = K → A) ∧ (¬ xp_c c = K → B) := by
  subst hK
  by_cases hc0 : c = 0
  · subst hc0
    exact br_f (xp_neg k hk) (g (Ne.symm h0))
  · rw [xp_cs hc0]
    exact pk_eq c k f g rfl rfl (by omega) (by omega)
theorem xp_lt {A B : Prop} {K : Int32} {c : Nat} (k : Nat) (hc : c < 127) (f : c < k → A) (g : k ≤ c → B) (hK : K = nI k := by rfl) (hk : k < 127 := by omega) (h0 : k ≠ 0 := by omega) : (xp_c c < K → A) ∧ (¬ xp_c c < K → B) := by
  subst hK
  by_cases hc0 : c = 0
  · subst hc0
    exact br_t (xp_negl (by omega)) (f (by omega))
  · rw [xp_cs hc0]
    exact pk_lt c k f g rfl rfl (by omega) (by omega)
theorem xp_gt {A B : Prop} {K : Int32} {c : Nat} (k : Nat) (hc : c < 127) (f : k < c → A) (g : c ≤ k → B) (hK : K = nI k := by rfl) (hk : k < 127 := by omega) : (K < xp_c c → A) ∧ (¬ K < xp_c c → B) := by
  subst hK
  by_cases hc0 : c = 0
  · subst hc0
    refine br_f ?_ (g (by omega))
    rw [xp_c0, Int32.not_lt]
    exact Int32.le_of_lt (xp_negl (by omega))
  · rw [xp_cs hc0]
    exact pk_lt k c f g rfl rfl (by omega) (by omega)
section
variable {f_textCap f_stackCap f_depthCap f_ready f_size f_stackTop f_point f_frameCount f_symbolTop f_pos f_list f_open f_errorKind f_errorPos f_valueTop f_operatorTop : Int32} {a_text a_cells a_stack a_frames a_listOf a_listEnd a_owner a_stmtEnd a_stmtBegin a_firstA a_firstB a_opAt a_procFirst a_inverse a_invFirst a_invBegin a_symbols a_values a_operators : Nat → Int32}
theorem xh_var {post : Int32 → Prop} {c : Nat} (hc : c < 127) (h1 : gr_vr c → post 1) (h0 : ¬ gr_vr c → post 0) : wpX_isVariable post (f_textCap, f_stackCap, f_depthCap, f_ready, f_size, f_stackTop, f_point, f_frameCount, f_symbolTop, f_pos, f_list, f_open, f_errorKind, f_errorPos, f_valueTop, f_operatorTop, a_text, a_cells, a_stack, a_frames, a_listOf, a_listEnd, a_owner, a_stmtEnd, a_stmtBegin, a_firstA, a_firstB, a_opAt, a_procFirst, a_inverse, a_invFirst, a_invBegin, a_symbols, a_values, a_operators) (xp_c c) :=
  xp_lt 97 hc (fun h => h0 (fun z => by unfold gr_vr at z; omega)) (fun h => xp_gt 104 hc (fun h' => h0 (fun z => by unfold gr_vr at z; omega)) (fun h' => h1 ⟨h, h'⟩))
theorem xh_dig {post : Int32 → Prop} {c : Nat} (hc : c < 127) (h1 : (48 ≤ c ∧ c ≤ 57) → post 1) (h0 : ¬ (48 ≤ c ∧ c ≤ 57) → post 0) : wpX_isDigit post (f_textCap, f_stackCap, f_depthCap, f_ready, f_size, f_stackTop, f_point, f_frameCount, f_symbolTop, f_pos, f_list, f_open, f_errorKind, f_errorPos, f_valueTop, f_operatorTop, a_text, a_cells, a_stack, a_frames, a_listOf, a_listEnd, a_owner, a_stmtEnd, a_stmtBegin, a_firstA, a_firstB, a_opAt, a_procFirst, a_inverse, a_invFirst, a_invBegin, a_symbols, a_values, a_operators) (xp_c c) :=
  xp_lt 48 hc (fun h => h0 (fun z => by omega)) (fun h => xp_gt 57 hc (fun h' => h0 (fun z => by omega)) (fun h' => h1 ⟨h, h'⟩))
theorem xh_nam {post : Int32 → Prop} {c : Nat} (hc : c < 127) (h1 : gr_nm c → post 1) (h0 : ¬ gr_nm c → post 0) : wpX_isName post (f_textCap, f_stackCap, f_depthCap, f_ready, f_size, f_stackTop, f_point, f_frameCount, f_symbolTop, f_pos, f_list, f_open, f_errorKind, f_errorPos, f_valueTop, f_operatorTop, a_text, a_cells, a_stack, a_frames, a_listOf, a_listEnd, a_owner, a_stmtEnd, a_stmtBegin, a_firstA, a_firstB, a_opAt, a_procFirst, a_inverse, a_invFirst, a_invBegin, a_symbols, a_values, a_operators) (xp_c c) :=
  xp_lt 65 hc (fun h => h0 (fun z => by unfold gr_nm at z; omega)) (fun h => xp_gt 68 hc (fun h' => h0 (fun z => by unfold gr_nm at z; omega)) (fun h' => h1 ⟨h, h'⟩))
theorem xh_lev {post : Int32 → Prop} {c : Nat} (hc : c < 127) (h : post (nI (ex_lv c))) : wpX_levelOf post (f_textCap, f_stackCap, f_depthCap, f_ready, f_size, f_stackTop, f_point, f_frameCount, f_symbolTop, f_pos, f_list, f_open, f_errorKind, f_errorPos, f_valueTop, f_operatorTop, a_text, a_cells, a_stack, a_frames, a_listOf, a_listEnd, a_owner, a_stmtEnd, a_stmtBegin, a_firstA, a_firstB, a_opAt, a_procFirst, a_inverse, a_invFirst, a_invBegin, a_symbols, a_values, a_operators) (xp_c c) := by
  refine xp_eq 61 hc (fun e => ?_) (fun n1 => xp_eq 60 hc (fun e => ?_) (fun n2 => xp_eq 43 hc (fun e => ?_) (fun n3 => xp_eq 45 hc (fun e => ?_) (fun n4 => xp_eq 94 hc (fun e => ?_) (fun n5 => xp_eq 42 hc (fun e => ?_) (fun n6 => xp_eq 38 hc (fun e => ?_) (fun n7 => ?_)))))))
  · subst e; exact h
  · subst e; exact h
  · subst e; exact h
  · subst e; exact h
  · subst e; exact h
  · subst e; exact h
  · subst e; exact h
  · have e : ex_lv c = 0 := by
      unfold ex_lv
      rw [if_neg (by omega), if_neg (by omega), if_neg (by omega)]
    rw [e] at h; exact h
theorem xh_char {post : Int32 → Prop} {t : Nat → Nat} {n p : Nat} (hn : n ≤ 200) (hp : p < 2 ^ 31) (ht : ∀ i, i < n → 33 ≤ t i) (h : post (xp_c (gr_ch t n p))) : wpX_charAt post (f_textCap, f_stackCap, f_depthCap, f_ready, nI n, f_stackTop, f_point, f_frameCount, f_symbolTop, f_pos, f_list, f_open, f_errorKind, f_errorPos, f_valueTop, f_operatorTop, fun j => nI (t j), a_cells, a_stack, a_frames, a_listOf, a_listEnd, a_owner, a_stmtEnd, a_stmtBegin, a_firstA, a_firstB, a_opAt, a_procFirst, a_inverse, a_invFirst, a_invBegin, a_symbols, a_values, a_operators) (nI p) := by
  refine br_f (nI_pos hp) (pk_lt p n (fun h1 => ⟨vp_in_nI (by omega) (by omega), ?_⟩) (fun h1 => ?_) rfl rfl hp (by omega))
  · have e : gr_ch t n p = t p := if_pos h1
    rw [e, xp_cs (by have := ht p h1; omega)] at h
    show post (nI (t (nI p).toNatClampNeg))
    rw [nI_clamp hp]; exact h
  · have e : gr_ch t n p = 0 := if_neg (by omega)
    rw [e, xp_c0] at h; exact h
/-- X's symbol stack holds st, top first -/
theorem xh_push {post : SX → Prop} {sym : Nat → Int32} {st : List Nat} {s : Nat} {S : Int32} (hS : S = nI s) (hs : sk_N sym st) (hl : st.length < 2048) (H : ∀ sym', sk_N sym' (s :: st) → post (f_textCap, f_stackCap, f_depthCap, f_ready, f_size, f_stackTop, f_point, f_frameCount, nI (s :: st).length, f_pos, f_list, f_open, f_errorKind, f_errorPos, f_valueTop, f_operatorTop, a_text, a_cells, a_stack, a_frames, a_listOf, a_listEnd, a_owner, a_stmtEnd, a_stmtBegin, a_firstA, a_firstB, a_opAt, a_procFirst, a_inverse, a_invFirst, a_invBegin, sym', a_values, a_operators)) : wpX_push post (f_textCap, f_stackCap, f_depthCap, f_ready, f_size, f_stackTop, f_point, f_frameCount, nI st.length, f_pos, f_list, f_open, f_errorKind, f_errorPos, f_valueTop, f_operatorTop, a_text, a_cells, a_stack, a_frames, a_listOf, a_listEnd, a_owner, a_stmtEnd, a_stmtBegin, a_firstA, a_firstB, a_opAt, a_procFirst, a_inverse, a_invFirst, a_invBegin, sym, a_values, a_operators) S := by
  subst hS
  refine pk_le 2048 st.length (fun h => by omega) (fun _ => ⟨vp_in_nI hl (by omega), nm_e (nm_r (nI_1 _) (H _ ?_))⟩) rfl rfl (by omega) (by omega)
  rw [nI_clamp (by omega)]
  exact sk_N_push hs
end
end
section
/-! X: one symbol treated -/
section
variable {f_textCap f_stackCap f_depthCap f_ready f_size f_stackTop f_point f_frameCount f_symbolTop f_pos f_list f_open f_errorKind f_errorPos f_valueTop f_operatorTop : Int32} {a_text a_cells a_stack a_frames a_listOf a_listEnd a_owner a_stmtEnd a_stmtBegin a_firstA a_firstB a_opAt a_procFirst a_inverse a_invFirst a_invBegin a_symbols a_values a_operators : Nat → Int32}
variable {sym : Nat → Int32} {st : List Nat} {p c : Nat}
theorem xe_begin {post : SX → Prop} (hs : sk_N sym st) (hl : st.length < 2048) (hp : p ≤ 200) (H : ∀ sym', sk_N sym' (76 :: st) → post (f_textCap, f_stackCap, f_depthCap, f_ready, f_size, f_stackTop, f_point, f_frameCount, nI (76 :: st).length, nI p, f_list, nI p, f_errorKind, f_errorPos, f_valueTop, f_operatorTop, a_text, a_cells, a_stack, a_frames, upd a_listOf p f_list, a_listEnd, a_owner, a_stmtEnd, a_stmtBegin, a_firstA, a_firstB, a_opAt, a_procFirst, a_inverse, a_invFirst, a_invBegin, sym', a_values, a_operators)) :
    wpX_beginStatement post (f_textCap, f_stackCap, f_depthCap, f_ready, f_size, f_stackTop, f_point, f_frameCount, nI st.length, nI p, f_list, f_open, f_errorKind, f_errorPos, f_valueTop, f_operatorTop, a_text, a_cells, a_stack, a_frames, a_listOf, a_listEnd, a_owner, a_stmtEnd, a_stmtBegin, a_firstA, a_firstB, a_opAt, a_procFirst, a_inverse, a_invFirst, a_invBegin, sym, a_values, a_operators) := by
  unfold wpX_beginStatement
  exact xh_push rfl hs hl (fun s1 h1 => And.intro (vp_in_nI (by omega) (by omega)) (nm_r (by rw [nI_clamp (by omega)]) (H s1 h1)))
theorem xe_block {post : SX → Prop} (hs : sk_N sym st) (hl : st.length + 3 < 2048) (H : ∀ sym', sk_N sym' (123 :: 76 :: 125 :: st) → post (f_textCap, f_stackCap, f_depthCap, f_ready, f_size, f_stackTop, f_point, f_frameCount, nI (123 :: 76 :: 125 :: st).length, f_pos, f_list, f_open, f_errorKind, f_errorPos, f_valueTop, f_operatorTop, a_text, a_cells, a_stack, a_frames, a_listOf, a_listEnd, a_owner, a_stmtEnd, a_stmtBegin, a_firstA, a_firstB, a_opAt, a_procFirst, a_inverse, a_invFirst, a_invBegin, sym', a_values, a_operators)) :
    wpX_pushBlock post (f_textCap, f_stackCap, f_depthCap, f_ready, f_size, f_stackTop, f_point, f_frameCount, nI st.length, f_pos, f_list, f_open, f_errorKind, f_errorPos, f_valueTop, f_operatorTop, a_text, a_cells, a_stack, a_frames, a_listOf, a_listEnd, a_owner, a_stmtEnd, a_stmtBegin, a_firstA, a_firstB, a_opAt, a_procFirst, a_inverse, a_invFirst, a_invBegin, sym, a_values, a_operators) := by
  unfold wpX_pushBlock
  exact xh_push rfl hs (by omega) (fun s1 h1 => xh_push rfl h1 (by simp only [List.length_cons]; omega) (fun s2 h2 => xh_push rfl h2 (by simp only [List.length_cons]; omega) (fun s3 h3 => H s3 h3)))
theorem xe_L14 {Q : Int32 → SX → Prop} (hs : sk_N sym st) (hl : st.length + 10 ≤ 2048) (hp : p ≤ 200) (H : ∀ sym', sk_N sym' (84 :: 85 :: 76 :: st) → Q 1 (f_textCap, f_stackCap, f_depthCap, f_ready, f_size, f_stackTop, f_point, f_frameCount, nI (84 :: 85 :: 76 :: st).length, nI p, f_list, nI p, f_errorKind, f_errorPos, f_valueTop, f_operatorTop, a_text, a_cells, a_stack, a_frames, upd a_listOf p f_list, a_listEnd, a_owner, a_stmtEnd, a_stmtBegin, a_firstA, a_firstB, a_opAt, a_procFirst, a_inverse, a_invFirst, a_invBegin, sym', a_values, a_operators)) :
    wX_parseList_14 Q f_textCap f_stackCap f_depthCap f_ready f_size f_stackTop f_point f_frameCount (nI st.length) (nI p) f_list f_open f_errorKind f_errorPos f_valueTop f_operatorTop a_text a_cells a_stack a_frames a_listOf a_listEnd a_owner a_stmtEnd a_stmtBegin a_firstA a_firstB a_opAt a_procFirst a_inverse a_invFirst a_invBegin sym a_values a_operators := by
  unfold wX_parseList_14
  exact xe_begin hs (by omega) hp (fun s1 h1 => xh_push rfl h1 (by simp only [List.length_cons]; omega) (fun s2 h2 => xh_push rfl h2 (by simp only [List.length_cons]; omega) (fun s3 h3 => H s3 h3)))
theorem xe_L44 {Q : Int32 → SX → Prop} (hs : sk_N sym st) (hl : st.length + 10 ≤ 2048) (hp : p ≤ 200) (H : ∀ sym', sk_N sym' (84 :: 59 :: 76 :: st) → Q 1 (f_textCap, f_stackCap, f_depthCap, f_ready, f_size, f_stackTop, f_point, f_frameCount, nI (84 :: 59 :: 76 :: st).length, nI (p + 1), f_list, nI p, f_errorKind, f_errorPos, f_valueTop, f_operatorTop, a_text, a_cells, a_stack, a_frames, upd a_listOf p f_list, a_listEnd, a_owner, a_stmtEnd, a_stmtBegin, a_firstA, a_firstB, a_opAt, a_procFirst, a_inverse, a_invFirst, a_invBegin, sym', a_values, a_operators)) :
    wX_parseList_44 Q f_textCap f_stackCap f_depthCap f_ready f_size f_stackTop f_point f_frameCount (nI st.length) (nI p) f_list f_open f_errorKind f_errorPos f_valueTop f_operatorTop a_text a_cells a_stack a_frames a_listOf a_listEnd a_owner a_stmtEnd a_stmtBegin a_firstA a_firstB a_opAt a_procFirst a_inverse a_invFirst a_invBegin sym a_values a_operators := by
  unfold wX_parseList_44
  exact xe_begin hs (by omega) hp (fun s1 h1 => xh_push rfl h1 (by simp only [List.length_cons]; omega) (fun s2 h2 => xh_push rfl h2 (by simp only [List.length_cons]; omega) (fun s3 h3 => nm_r (nI_1 p) (H s3 h3))))
theorem xe_L84 {Q : Int32 → SX → Prop} (hs : sk_N sym st) (hl : st.length + 10 ≤ 2048) (hp : p ≤ 200) (H : ∀ sym', sk_N sym' (78 :: 59 :: 76 :: st) → Q 1 (f_textCap, f_stackCap, f_depthCap, f_ready, f_size, f_stackTop, f_point, f_frameCount, nI (78 :: 59 :: 76 :: st).length, nI (p + 1), f_list, nI p, f_errorKind, f_errorPos, f_valueTop, f_operatorTop, a_text, a_cells, a_stack, a_frames, upd a_listOf p f_list, a_listEnd, a_owner, a_stmtEnd, a_stmtBegin, a_firstA, a_firstB, a_opAt, a_procFirst, a_inverse, a_invFirst, a_invBegin, sym', a_values, a_operators)) :
    wX_parseList_84 Q f_textCap f_stackCap f_depthCap f_ready f_size f_stackTop f_point f_frameCount (nI st.length) (nI p) f_list f_open f_errorKind f_errorPos f_valueTop f_operatorTop a_text a_cells a_stack a_frames a_listOf a_listEnd a_owner a_stmtEnd a_stmtBegin a_firstA a_firstB a_opAt a_procFirst a_inverse a_invFirst a_invBegin sym a_values a_operators := by
  unfold wX_parseList_84
  exact xe_begin hs (by omega) hp (fun s1 h1 => xh_push rfl h1 (by simp only [List.length_cons]; omega) (fun s2 h2 => xh_push rfl h2 (by simp only [List.length_cons]; omega) (fun s3 h3 => nm_r (nI_1 p) (H s3 h3))))
theorem xe_L124 {Q : Int32 → SX → Prop} (hs : sk_N sym st) (hl : st.length + 10 ≤ 2048) (hp : p ≤ 200) (H : ∀ sym', sk_N sym' (69 :: 123 :: 76 :: 125 :: 123 :: 76 :: 125 :: 69 :: 59 :: 76 :: st) → Q 1 (f_textCap, f_stackCap, f_depthCap, f_ready, f_size, f_stackTop, f_point, f_frameCount, nI (69 :: 123 :: 76 :: 125 :: 123 :: 76 :: 125 :: 69 :: 59 :: 76 :: st).length, nI (p + 1), f_list, nI p, f_errorKind, f_errorPos, f_valueTop, f_operatorTop, a_text, a_cells, a_stack, a_frames, upd a_listOf p f_list, a_listEnd, a_owner, a_stmtEnd, a_stmtBegin, a_firstA, a_firstB, a_opAt, a_procFirst, a_inverse, a_invFirst, a_invBegin, sym', a_values, a_operators)) :
    wX_parseList_124 Q f_textCap f_stackCap f_depthCap f_ready f_size f_stackTop f_point f_frameCount (nI st.length) (nI p) f_list f_open f_errorKind f_errorPos f_valueTop f_operatorTop a_text a_cells a_stack a_frames a_listOf a_listEnd a_owner a_stmtEnd a_stmtBegin a_firstA a_firstB a_opAt a_procFirst a_inverse a_invFirst a_invBegin sym a_values a_operators := by
  unfold wX_parseList_124
  exact xe_begin hs (by omega) hp (fun s1 h1 => xh_push rfl h1 (by simp only [List.length_cons]; omega) (fun s2 h2 => xh_push rfl h2 (by simp only [List.length_cons]; omega) (fun s3 h3 =>
    xe_block h3 (by simp only [List.length_cons]; omega) (fun s4 h4 => xe_block h4 (by simp only [List.length_cons]; omega) (fun s5 h5 => xh_push rfl h5 (by simp only [List.length_cons]; omega) (fun s6 h6 => nm_r (nI_1 p) (H s6 h6)))))))
theorem xe_L1 {Q : Int32 → SX → Prop} (hc : c < 127) (hv : gr_vr c ∨ c = 91) (hs : sk_N sym st) (hl : st.length + 10 ≤ 2048) (hp : p ≤ 200) (H : ∀ sym', sk_N sym' (84 :: 85 :: 76 :: st) → Q 1 (f_textCap, f_stackCap, f_depthCap, f_ready, f_size, f_stackTop, f_point, f_frameCount, nI (84 :: 85 :: 76 :: st).length, nI p, f_list, nI p, f_errorKind, f_errorPos, f_valueTop, f_operatorTop, a_text, a_cells, a_stack, a_frames, upd a_listOf p f_list, a_listEnd, a_owner, a_stmtEnd, a_stmtBegin, a_firstA, a_firstB, a_opAt, a_procFirst, a_inverse, a_invFirst, a_invBegin, sym', a_values, a_operators)) :
    wpX_expand Q (f_textCap, f_stackCap, f_depthCap, f_ready, f_size, f_stackTop, f_point, f_frameCount, nI st.length, nI p, f_list, f_open, f_errorKind, f_errorPos, f_valueTop, f_operatorTop, a_text, a_cells, a_stack, a_frames, a_listOf, a_listEnd, a_owner, a_stmtEnd, a_stmtBegin, a_firstA, a_firstB, a_opAt, a_procFirst, a_inverse, a_invFirst, a_invBegin, sym, a_values, a_operators) (nI 76) (xp_c c) :=
  br_t rfl (by unfold wpX_parseList; exact xh_var hc (fun _ => br_f (by decide) (xe_L14 hs hl hp (fun s h => And.intro narrow_b1 (H s h)))) (fun h => br_t rfl (xp_eq 91 hc (fun _ => xe_L14 hs hl hp (fun s h => And.intro narrow_b1 (H s h))) (fun h' => (h' (hv.resolve_left h)).elim))))
theorem xe_L2 {Q : Int32 → SX → Prop} (hc : c < 127) (hv : c = 62 ∨ c = 60) (hs : sk_N sym st) (hl : st.length + 10 ≤ 2048) (hp : p ≤ 200) (H : ∀ sym', sk_N sym' (84 :: 59 :: 76 :: st) → Q 1 (f_textCap, f_stackCap, f_depthCap, f_ready, f_size, f_stackTop, f_point, f_frameCount, nI (84 :: 59 :: 76 :: st).length, nI (p + 1), f_list, nI p, f_errorKind, f_errorPos, f_valueTop, f_operatorTop, a_text, a_cells, a_stack, a_frames, upd a_listOf p f_list, a_listEnd, a_owner, a_stmtEnd, a_stmtBegin, a_firstA, a_firstB, a_opAt, a_procFirst, a_inverse, a_invFirst, a_invBegin, sym', a_values, a_operators)) :
    wpX_expand Q (f_textCap, f_stackCap, f_depthCap, f_ready, f_size, f_stackTop, f_point, f_frameCount, nI st.length, nI p, f_list, f_open, f_errorKind, f_errorPos, f_valueTop, f_operatorTop, a_text, a_cells, a_stack, a_frames, a_listOf, a_listEnd, a_owner, a_stmtEnd, a_stmtBegin, a_firstA, a_firstB, a_opAt, a_procFirst, a_inverse, a_invFirst, a_invBegin, sym, a_values, a_operators) (nI 76) (xp_c c) :=
  br_t rfl (by unfold wpX_parseList; exact xh_var hc (fun h => by unfold gr_vr at h; omega) (fun _ => br_t rfl (xp_eq 91 hc (fun h => by omega) (fun _ => xp_eq 62 hc (fun _ => xe_L44 hs hl hp (fun s h => And.intro narrow_b1 (H s h))) (fun h' => xp_eq 60 hc (fun _ => xe_L44 hs hl hp (fun s h => And.intro narrow_b1 (H s h))) (fun h'' => by omega))))))
theorem xe_L3 {Q : Int32 → SX → Prop} (hc : c < 127) (hv : c = 33 ∨ c = 126) (hs : sk_N sym st) (hl : st.length + 10 ≤ 2048) (hp : p ≤ 200) (H : ∀ sym', sk_N sym' (78 :: 59 :: 76 :: st) → Q 1 (f_textCap, f_stackCap, f_depthCap, f_ready, f_size, f_stackTop, f_point, f_frameCount, nI (78 :: 59 :: 76 :: st).length, nI (p + 1), f_list, nI p, f_errorKind, f_errorPos, f_valueTop, f_operatorTop, a_text, a_cells, a_stack, a_frames, upd a_listOf p f_list, a_listEnd, a_owner, a_stmtEnd, a_stmtBegin, a_firstA, a_firstB, a_opAt, a_procFirst, a_inverse, a_invFirst, a_invBegin, sym', a_values, a_operators)) :
    wpX_expand Q (f_textCap, f_stackCap, f_depthCap, f_ready, f_size, f_stackTop, f_point, f_frameCount, nI st.length, nI p, f_list, f_open, f_errorKind, f_errorPos, f_valueTop, f_operatorTop, a_text, a_cells, a_stack, a_frames, a_listOf, a_listEnd, a_owner, a_stmtEnd, a_stmtBegin, a_firstA, a_firstB, a_opAt, a_procFirst, a_inverse, a_invFirst, a_invBegin, sym, a_values, a_operators) (nI 76) (xp_c c) :=
  br_t rfl (by unfold wpX_parseList; exact xh_var hc (fun h => by unfold gr_vr at h; omega) (fun _ => br_t rfl (xp_eq 91 hc (fun h => by omega) (fun _ => xp_eq 62 hc (fun h => by omega) (fun _ => xp_eq 60 hc (fun h => by omega) (fun _ =>
    xp_eq 33 hc (fun _ => xe_L84 hs hl hp (fun s h => And.intro narrow_b1 (H s h))) (fun h' => xp_eq 126 hc (fun _ => xe_L84 hs hl hp (fun s h => And.intro narrow_b1 (H s h))) (fun h'' => by omega))))))))
theorem xe_L4 {Q : Int32 → SX → Prop} (hc : c < 127) (hv : c = 63 ∨ c = 64) (hs : sk_N sym st) (hl : st.length + 10 ≤ 2048) (hp : p ≤ 200) (H : ∀ sym', sk_N sym' (69 :: 123 :: 76 :: 125 :: 123 :: 76 :: 125 :: 69 :: 59 :: 76 :: st) → Q 1 (f_textCap, f_stackCap, f_depthCap, f_ready, f_size, f_stackTop, f_point, f_frameCount, nI (69 :: 123 :: 76 :: 125 :: 123 :: 76 :: 125 :: 69 :: 59 :: 76 :: st).length, nI (p + 1), f_list, nI p, f_errorKind, f_errorPos, f_valueTop, f_operatorTop, a_text, a_cells, a_stack, a_frames, upd a_listOf p f_list, a_listEnd, a_owner, a_stmtEnd, a_stmtBegin, a_firstA, a_firstB, a_opAt, a_procFirst, a_inverse, a_invFirst, a_invBegin, sym', a_values, a_operators)) :
    wpX_expand Q (f_textCap, f_stackCap, f_depthCap, f_ready, f_size, f_stackTop, f_point, f_frameCount, nI st.length, nI p, f_list, f_open, f_errorKind, f_errorPos, f_valueTop, f_operatorTop, a_text, a_cells, a_stack, a_frames, a_listOf, a_listEnd, a_owner, a_stmtEnd, a_stmtBegin, a_firstA, a_firstB, a_opAt, a_procFirst, a_inverse, a_invFirst, a_invBegin, sym, a_values, a_operators) (nI 76) (xp_c c) :=
  br_t rfl (by unfold wpX_parseList; exact xh_var hc (fun h => by unfold gr_vr at h; omega) (fun _ => br_t rfl (xp_eq 91 hc (fun h => by omega) (fun _ => xp_eq 62 hc (fun h => by omega) (fun _ => xp_eq 60 hc (fun h => by omega) (fun _ =>
    xp_eq 33 hc (fun h => by omega) (fun _ => xp_eq 126 hc (fun h => by omega) (fun _ => xp_eq 63 hc (fun _ => xe_L124 hs hl hp (fun s h => And.intro narrow_b1 (H s h))) (fun h' => xp_eq 64 hc (fun _ => xe_L124 hs hl hp (fun s h => And.intro narrow_b1 (H s h))) (fun h'' => by omega))))))))))
theorem xe_L5 {Q : Int32 → SX → Prop} {l : Nat} (hc : c < 127) (hv : ¬ sc_sr c) (hp : p ≤ 200) (hl : l ≤ 200) (H : Q 1 (f_textCap, f_stackCap, f_depthCap, f_ready, f_size, f_stackTop, f_point, f_frameCount, f_symbolTop, nI p, nI l, f_open, f_errorKind, f_errorPos, f_valueTop, f_operatorTop, a_text, a_cells, a_stack, a_frames, upd a_listOf p (nI l), upd a_listEnd l (nI p), a_owner, a_stmtEnd, a_stmtBegin, a_firstA, a_firstB, a_opAt, a_procFirst, a_inverse, a_invFirst, a_invBegin, a_symbols, a_values, a_operators)) :
    wpX_expand Q (f_textCap, f_stackCap, f_depthCap, f_ready, f_size, f_stackTop, f_point, f_frameCount, f_symbolTop, nI p, nI l, f_open, f_errorKind, f_errorPos, f_valueTop, f_operatorTop, a_text, a_cells, a_stack, a_frames, a_listOf, a_listEnd, a_owner, a_stmtEnd, a_stmtBegin, a_firstA, a_firstB, a_opAt, a_procFirst, a_inverse, a_invFirst, a_invBegin, a_symbols, a_values, a_operators) (nI 76) (xp_c c) := by
  unfold sc_sr at hv
  exact br_t rfl (by unfold wpX_parseList; exact xh_var hc (fun h => (hv (Or.inl h)).elim) (fun _ => br_t rfl (xp_eq 91 hc (fun h => by omega) (fun _ => xp_eq 62 hc (fun h => by omega) (fun _ => xp_eq 60 hc (fun h => by omega) (fun _ =>
    xp_eq 33 hc (fun h => by omega) (fun _ => xp_eq 126 hc (fun h => by omega) (fun _ => xp_eq 63 hc (fun h => by omega) (fun _ => xp_eq 64 hc (fun h => by omega) (fun _ =>
      And.intro (vp_in_nI (by omega) (by omega)) (nm_r (by rw [nI_clamp (by omega)]) (And.intro (vp_in_nI (by omega) (by omega)) (nm_r (by rw [nI_clamp (by omega)]) (And.intro narrow_b1 H))))))))))))))
theorem xe_E16 {Q : Int32 → SX → Prop} (hs : sk_N sym st) (hl : st.length + 10 ≤ 2048) (H : ∀ sym', sk_N sym' (79 :: st) → Q 1 (f_textCap, f_stackCap, f_depthCap, f_ready, f_size, f_stackTop, f_point, f_frameCount, nI (79 :: st).length, nI (p + 1), f_list, f_open, f_errorKind, f_errorPos, f_valueTop, f_operatorTop, a_text, a_cells, a_stack, a_frames, a_listOf, a_listEnd, a_owner, a_stmtEnd, a_stmtBegin, a_firstA, a_firstB, a_opAt, a_procFirst, a_inverse, a_invFirst, a_invBegin, sym', a_values, a_operators)) :
    wX_parseOperand_16 Q f_textCap f_stackCap f_depthCap f_ready f_size f_stackTop f_point f_frameCount (nI st.length) (nI p) f_list f_open f_errorKind f_errorPos f_valueTop f_operatorTop a_text a_cells a_stack a_frames a_listOf a_listEnd a_owner a_stmtEnd a_stmtBegin a_firstA a_firstB a_opAt a_procFirst a_inverse a_invFirst a_invBegin sym a_values a_operators := by
  unfold wX_parseOperand_16
  exact xh_push rfl hs (by omega) (fun s1 h1 => nm_r (nI_1 p) (H s1 h1))
theorem xe_E1 {Q : Int32 → SX → Prop} (hc : c < 127) (hv : ex_at c) (hs : sk_N sym st) (hl : st.length + 10 ≤ 2048) (H : ∀ sym', sk_N sym' (79 :: st) → Q 1 (f_textCap, f_stackCap, f_depthCap, f_ready, f_size, f_stackTop, f_point, f_frameCount, nI (79 :: st).length, nI (p + 1), f_list, f_open, f_errorKind, f_errorPos, f_valueTop, f_operatorTop, a_text, a_cells, a_stack, a_frames, a_listOf, a_listEnd, a_owner, a_stmtEnd, a_stmtBegin, a_firstA, a_firstB, a_opAt, a_procFirst, a_inverse, a_invFirst, a_invBegin, sym', a_values, a_operators)) :
    wpX_expand Q (f_textCap, f_stackCap, f_depthCap, f_ready, f_size, f_stackTop, f_point, f_frameCount, nI st.length, nI p, f_list, f_open, f_errorKind, f_errorPos, f_valueTop, f_operatorTop, a_text, a_cells, a_stack, a_frames, a_listOf, a_listEnd, a_owner, a_stmtEnd, a_stmtBegin, a_firstA, a_firstB, a_opAt, a_procFirst, a_inverse, a_invFirst, a_invBegin, sym, a_values, a_operators) (nI 69) (xp_c c) :=
  br_f (by decide) (br_t rfl (by unfold wpX_parseOperand; exact xh_dig hc (fun _ => br_f (by decide) (xe_E16 hs hl (fun s h => And.intro narrow_b1 (H s h)))) (fun h => br_t rfl (xh_var hc (fun _ => br_f (by decide) (xe_E16 hs hl (fun s h => And.intro narrow_b1 (H s h)))) (fun h' => by unfold ex_at at hv; unfold gr_vr at h'; omega)))))
theorem xe_E66 {Q : Int32 → SX → Prop} {z : Nat} (hs : sk_N sym st) (hl : st.length + 8 ≤ 2048) (H : ∀ sym', sk_N sym' (69 :: z :: st) → Q 1 (f_textCap, f_stackCap, f_depthCap, f_ready, f_size, f_stackTop, f_point, f_frameCount, nI (69 :: z :: st).length, nI (p + 1), f_list, f_open, f_errorKind, f_errorPos, f_valueTop, f_operatorTop, a_text, a_cells, a_stack, a_frames, a_listOf, a_listEnd, a_owner, a_stmtEnd, a_stmtBegin, a_firstA, a_firstB, a_opAt, a_procFirst, a_inverse, a_invFirst, a_invBegin, sym', a_values, a_operators)) :
    wX_parseOperand_66 Q (nI z) f_textCap f_stackCap f_depthCap f_ready f_size f_stackTop f_point f_frameCount (nI st.length) (nI p) f_list f_open f_errorKind f_errorPos f_valueTop f_operatorTop a_text a_cells a_stack a_frames a_listOf a_listEnd a_owner a_stmtEnd a_stmtBegin a_firstA a_firstB a_opAt a_procFirst a_inverse a_invFirst a_invBegin sym a_values a_operators := by
  unfold wX_parseOperand_66
  exact xh_push rfl hs (by omega) (fun s1 h1 => xh_push rfl h1 (by simp only [List.length_cons]; omega) (fun s2 h2 => nm_r (nI_1 p) (H s2 h2)))
theorem xe_E2 {Q : Int32 → SX → Prop} (hs : sk_N sym st) (hl : st.length + 10 ≤ 2048) (H : ∀ sym', sk_N sym' (69 :: 93 :: 79 :: st) → Q 1 (f_textCap, f_stackCap, f_depthCap, f_ready, f_size, f_stackTop, f_point, f_frameCount, nI (69 :: 93 :: 79 :: st).length, nI (p + 1), f_list, f_open, f_errorKind, f_errorPos, f_valueTop, f_operatorTop, a_text, a_cells, a_stack, a_frames, a_listOf, a_listEnd, a_owner, a_stmtEnd, a_stmtBegin, a_firstA, a_firstB, a_opAt, a_procFirst, a_inverse, a_invFirst, a_invBegin, sym', a_values, a_operators)) :
    wpX_expand Q (f_textCap, f_stackCap, f_depthCap, f_ready, f_size, f_stackTop, f_point, f_frameCount, nI st.length, nI p, f_list, f_open, f_errorKind, f_errorPos, f_valueTop, f_operatorTop, a_text, a_cells, a_stack, a_frames, a_listOf, a_listEnd, a_owner, a_stmtEnd, a_stmtBegin, a_firstA, a_firstB, a_opAt, a_procFirst, a_inverse, a_invFirst, a_invBegin, sym, a_values, a_operators) (nI 69) (xp_c 91) :=
  br_f (by decide) (br_t rfl (by unfold wpX_parseOperand; exact xh_dig (by omega) (fun h => by omega) (fun _ => br_t rfl (xh_var (by omega) (fun h => by unfold gr_vr at h; omega) (fun _ => br_t rfl (br_t rfl
    (by unfold wX_parseOperand_46; exact xh_push rfl hs (by omega) (fun s1 h1 => br_t rfl (xe_E66 (z := 93) h1 (by simp only [List.length_cons]; omega) (fun s h => And.intro narrow_b1 (H s h)))))))))))
theorem xe_E3 {Q : Int32 → SX → Prop} (hs : sk_N sym st) (hl : st.length + 10 ≤ 2048) (H : ∀ sym', sk_N sym' (69 :: 41 :: 79 :: st) → Q 1 (f_textCap, f_stackCap, f_depthCap, f_ready, f_size, f_stackTop, f_point, f_frameCount, nI (69 :: 41 :: 79 :: st).length, nI (p + 1), f_list, f_open, f_errorKind, f_errorPos, f_valueTop, f_operatorTop, a_text, a_cells, a_stack, a_frames, a_listOf, a_listEnd, a_owner, a_stmtEnd, a_stmtBegin, a_firstA, a_firstB, a_opAt, a_procFirst, a_inverse, a_invFirst, a_invBegin, sym', a_values, a_operators)) :
    wpX_expand Q (f_textCap, f_stackCap, f_depthCap, f_ready, f_size, f_stackTop, f_point, f_frameCount, nI st.length, nI p, f_list, f_open, f_errorKind, f_errorPos, f_valueTop, f_operatorTop, a_text, a_cells, a_stack, a_frames, a_listOf, a_listEnd, a_owner, a_stmtEnd, a_stmtBegin, a_firstA, a_firstB, a_opAt, a_procFirst, a_inverse, a_invFirst, a_invBegin, sym, a_values, a_operators) (nI 69) (xp_c 40) :=
  br_f (by decide) (br_t rfl (by unfold wpX_parseOperand; exact xh_dig (by omega) (fun h => by omega) (fun _ => br_t rfl (xh_var (by omega) (fun h => by unfold gr_vr at h; omega) (fun _ => br_t rfl (br_f (by decide) (br_t rfl
    (by unfold wX_parseOperand_46; exact xh_push rfl hs (by omega) (fun s1 h1 => br_f (by decide) (xe_E66 (z := 41) h1 (by simp only [List.length_cons]; omega) (fun s h => And.intro narrow_b1 (H s h))))))))))))
theorem xe_E0 {Q : Int32 → SX → Prop} (hc : c < 127) (hv : ¬ ex_at c) (h1 : c ≠ 91) (h2 : c ≠ 40) (H : Q 0 (f_textCap, f_stackCap, f_depthCap, f_ready, f_size, f_stackTop, f_point, f_frameCount, f_symbolTop, f_pos, f_list, f_open, f_errorKind, f_errorPos, f_valueTop, f_operatorTop, a_text, a_cells, a_stack, a_frames, a_listOf, a_listEnd, a_owner, a_stmtEnd, a_stmtBegin, a_firstA, a_firstB, a_opAt, a_procFirst, a_inverse, a_invFirst, a_invBegin, a_symbols, a_values, a_operators)) : wpX_expand Q (f_textCap, f_stackCap, f_depthCap, f_ready, f_size, f_stackTop, f_point, f_frameCount, f_symbolTop, f_pos, f_list, f_open, f_errorKind, f_errorPos, f_valueTop, f_operatorTop, a_text, a_cells, a_stack, a_frames, a_listOf, a_listEnd, a_owner, a_stmtEnd, a_stmtBegin, a_firstA, a_firstB, a_opAt, a_procFirst, a_inverse, a_invFirst, a_invBegin, a_symbols, a_values, a_operators) (nI 69) (xp_c c) :=
  br_f (by decide) (br_t rfl (by unfold wpX_parseOperand; exact xh_dig hc (fun h => (hv (Or.inl h)).elim) (fun _ => br_t rfl (xh_var hc (fun h => (hv (Or.inr h)).elim) (fun _ => br_t rfl (xp_eq 91 hc (fun h => (h1 h).elim) (fun _ => xp_eq 40 hc (fun h => (h2 h).elim) (fun _ => And.intro narrow_b0 H))))))))
theorem xe_O1 {Q : Int32 → SX → Prop} (hc : c < 127) (hv : 0 < ex_lv c) (hs : sk_N sym st) (hl : st.length + 10 ≤ 2048) (H : ∀ sym', sk_N sym' (69 :: st) → Q 1 (f_textCap, f_stackCap, f_depthCap, f_ready, f_size, f_stackTop, f_point, f_frameCount, nI (69 :: st).length, nI (p + 1), f_list, f_open, f_errorKind, f_errorPos, f_valueTop, f_operatorTop, a_text, a_cells, a_stack, a_frames, a_listOf, a_listEnd, a_owner, a_stmtEnd, a_stmtBegin, a_firstA, a_firstB, a_opAt, a_procFirst, a_inverse, a_invFirst, a_invBegin, sym', a_values, a_operators)) :
    wpX_expand Q (f_textCap, f_stackCap, f_depthCap, f_ready, f_size, f_stackTop, f_point, f_frameCount, nI st.length, nI p, f_list, f_open, f_errorKind, f_errorPos, f_valueTop, f_operatorTop, a_text, a_cells, a_stack, a_frames, a_listOf, a_listEnd, a_owner, a_stmtEnd, a_stmtBegin, a_firstA, a_firstB, a_opAt, a_procFirst, a_inverse, a_invFirst, a_invBegin, sym, a_values, a_operators) (nI 79) (xp_c c) :=
  br_f (by decide) (br_f (by decide) (br_t rfl (by unfold wpX_parseOperator; exact xh_lev hc (br_f (nI_nle hv (by have := ex_lv_le c; omega)) (xh_push rfl hs (by omega) (fun s1 h1 => nm_r (nI_1 p) (And.intro narrow_b1 (H s1 h1))))))))
theorem xe_O2 {Q : Int32 → SX → Prop} (hc : c < 127) (hv : ex_lv c = 0) (H : Q 1 (f_textCap, f_stackCap, f_depthCap, f_ready, f_size, f_stackTop, f_point, f_frameCount, f_symbolTop, f_pos, f_list, f_open, f_errorKind, f_errorPos, f_valueTop, f_operatorTop, a_text, a_cells, a_stack, a_frames, a_listOf, a_listEnd, a_owner, a_stmtEnd, a_stmtBegin, a_firstA, a_firstB, a_opAt, a_procFirst, a_inverse, a_invFirst, a_invBegin, a_symbols, a_values, a_operators)) : wpX_expand Q (f_textCap, f_stackCap, f_depthCap, f_ready, f_size, f_stackTop, f_point, f_frameCount, f_symbolTop, f_pos, f_list, f_open, f_errorKind, f_errorPos, f_valueTop, f_operatorTop, a_text, a_cells, a_stack, a_frames, a_listOf, a_listEnd, a_owner, a_stmtEnd, a_stmtBegin, a_firstA, a_firstB, a_opAt, a_procFirst, a_inverse, a_invFirst, a_invBegin, a_symbols, a_values, a_operators) (nI 79) (xp_c c) :=
  br_f (by decide) (br_f (by decide) (br_t rfl (by unfold wpX_parseOperator; exact xh_lev hc (by rw [hv]; exact br_t (by decide) (And.intro narrow_b1 H)))))
theorem xe_T1 {Q : Int32 → SX → Prop} (hc : c < 127) (hv : gr_vr c) (H : Q 1 (f_textCap, f_stackCap, f_depthCap, f_ready, f_size, f_stackTop, f_point, f_frameCount, f_symbolTop, nI (p + 1), f_list, f_open, f_errorKind, f_errorPos, f_valueTop, f_operatorTop, a_text, a_cells, a_stack, a_frames, a_listOf, a_listEnd, a_owner, a_stmtEnd, a_stmtBegin, a_firstA, a_firstB, a_opAt, a_procFirst, a_inverse, a_invFirst, a_invBegin, a_symbols, a_values, a_operators)) : wpX_expand Q (f_textCap, f_stackCap, f_depthCap, f_ready, f_size, f_stackTop, f_point, f_frameCount, f_symbolTop, nI p, f_list, f_open, f_errorKind, f_errorPos, f_valueTop, f_operatorTop, a_text, a_cells, a_stack, a_frames, a_listOf, a_listEnd, a_owner, a_stmtEnd, a_stmtBegin, a_firstA, a_firstB, a_opAt, a_procFirst, a_inverse, a_invFirst, a_invBegin, a_symbols, a_values, a_operators) (nI 84) (xp_c c) :=
  br_f (by decide) (br_f (by decide) (br_f (by decide) (br_t rfl (by unfold wpX_parseTarget; exact xh_var hc (fun _ => br_f (by decide) (nm_r (nI_1 p) (And.intro narrow_b1 H))) (fun h => (h hv).elim)))))
theorem xe_T2 {Q : Int32 → SX → Prop} (hs : sk_N sym st) (hl : st.length + 10 ≤ 2048) (H : ∀ sym', sk_N sym' (69 :: 93 :: st) → Q 1 (f_textCap, f_stackCap, f_depthCap, f_ready, f_size, f_stackTop, f_point, f_frameCount, nI (69 :: 93 :: st).length, nI (p + 1), f_list, f_open, f_errorKind, f_errorPos, f_valueTop, f_operatorTop, a_text, a_cells, a_stack, a_frames, a_listOf, a_listEnd, a_owner, a_stmtEnd, a_stmtBegin, a_firstA, a_firstB, a_opAt, a_procFirst, a_inverse, a_invFirst, a_invBegin, sym', a_values, a_operators)) :
    wpX_expand Q (f_textCap, f_stackCap, f_depthCap, f_ready, f_size, f_stackTop, f_point, f_frameCount, nI st.length, nI p, f_list, f_open, f_errorKind, f_errorPos, f_valueTop, f_operatorTop, a_text, a_cells, a_stack, a_frames, a_listOf, a_listEnd, a_owner, a_stmtEnd, a_stmtBegin, a_firstA, a_firstB, a_opAt, a_procFirst, a_inverse, a_invFirst, a_invBegin, sym, a_values, a_operators) (nI 84) (xp_c 91) :=
  br_f (by decide) (br_f (by decide) (br_f (by decide) (br_t rfl (by unfold wpX_parseTarget; exact xh_var (by omega) (fun h => by unfold gr_vr at h; omega) (fun _ => br_t rfl (br_t rfl (xh_push (s := 93) rfl hs (by omega) (fun s1 h1 => xh_push rfl h1 (by simp only [List.length_cons]; omega) (fun s2 h2 => nm_r (nI_1 p) (And.intro narrow_b1 (H s2 h2)))))))))))
theorem xe_T0 {Q : Int32 → SX → Prop} (hc : c < 127) (hv : ¬ gr_vr c) (h1 : c ≠ 91) (H : Q 0 (f_textCap, f_stackCap, f_depthCap, f_ready, f_size, f_stackTop, f_point, f_frameCount, f_symbolTop, f_pos, f_list, f_open, f_errorKind, f_errorPos, f_valueTop, f_operatorTop, a_text, a_cells, a_stack, a_frames, a_listOf, a_listEnd, a_owner, a_stmtEnd, a_stmtBegin, a_firstA, a_firstB, a_opAt, a_procFirst, a_inverse, a_invFirst, a_invBegin, a_symbols, a_values, a_operators)) : wpX_expand Q (f_textCap, f_stackCap, f_depthCap, f_ready, f_size, f_stackTop, f_point, f_frameCount, f_symbolTop, f_pos, f_list, f_open, f_errorKind, f_errorPos, f_valueTop, f_operatorTop, a_text, a_cells, a_stack, a_frames, a_listOf, a_listEnd, a_owner, a_stmtEnd, a_stmtBegin, a_firstA, a_firstB, a_opAt, a_procFirst, a_inverse, a_invFirst, a_invBegin, a_symbols, a_values, a_operators) (nI 84) (xp_c c) :=
  br_f (by decide) (br_f (by decide) (br_f (by decide) (br_t rfl (by unfold wpX_parseTarget; exact xh_var hc (fun h => (hv h).elim) (fun _ => br_t rfl (xp_eq 91 hc (fun h => (h1 h).elim) (fun _ => And.intro narrow_b0 H)))))))
theorem xe_U65 {Q : Int32 → SX → Prop} {z : Nat} (hs : sk_N sym st) (hl : st.length + 8 ≤ 2048) (H : ∀ sym', sk_N sym' (z :: st) → Q 1 (f_textCap, f_stackCap, f_depthCap, f_ready, f_size, f_stackTop, f_point, f_frameCount, nI (z :: st).length, nI (p + 1), f_list, f_open, f_errorKind, f_errorPos, f_valueTop, f_operatorTop, a_text, a_cells, a_stack, a_frames, a_listOf, a_listEnd, a_owner, a_stmtEnd, a_stmtBegin, a_firstA, a_firstB, a_opAt, a_procFirst, a_inverse, a_invFirst, a_invBegin, sym', a_values, a_operators)) :
    wX_parseAction_65 Q (nI z) f_textCap f_stackCap f_depthCap f_ready f_size f_stackTop f_point f_frameCount (nI st.length) (nI p) f_list f_open f_errorKind f_errorPos f_valueTop f_operatorTop a_text a_cells a_stack a_frames a_listOf a_listEnd a_owner a_stmtEnd a_stmtBegin a_firstA a_firstB a_opAt a_procFirst a_inverse a_invFirst a_invBegin sym a_values a_operators := by
  unfold wX_parseAction_65
  exact xh_push rfl hs (by omega) (fun s1 h1 => nm_r (nI_1 p) (H s1 h1))
theorem xe_U1 {Q : Int32 → SX → Prop} {o : Nat} (hc : c < 127) (hv : ex_lv c = 2) (ho : o ≤ 200) (hs : sk_N sym st) (hl : st.length + 10 ≤ 2048) (H : ∀ sym', sk_N sym' (69 :: 59 :: st) → Q 1 (f_textCap, f_stackCap, f_depthCap, f_ready, f_size, f_stackTop, f_point, f_frameCount, nI (69 :: 59 :: st).length, nI (p + 1), f_list, nI o, f_errorKind, f_errorPos, f_valueTop, f_operatorTop, a_text, a_cells, a_stack, a_frames, a_listOf, a_listEnd, a_owner, a_stmtEnd, a_stmtBegin, a_firstA, a_firstB, upd a_opAt o (nI p), a_procFirst, a_inverse, a_invFirst, a_invBegin, sym', a_values, a_operators)) :
    wpX_expand Q (f_textCap, f_stackCap, f_depthCap, f_ready, f_size, f_stackTop, f_point, f_frameCount, nI st.length, nI p, f_list, nI o, f_errorKind, f_errorPos, f_valueTop, f_operatorTop, a_text, a_cells, a_stack, a_frames, a_listOf, a_listEnd, a_owner, a_stmtEnd, a_stmtBegin, a_firstA, a_firstB, a_opAt, a_procFirst, a_inverse, a_invFirst, a_invBegin, sym, a_values, a_operators) (nI 85) (xp_c c) :=
  br_f (by decide) (br_f (by decide) (br_f (by decide) (br_f (by decide) (br_t rfl (by unfold wpX_parseAction; exact xh_lev hc (by
    rw [hv]
    exact br_t rfl (br_f (nI_pos (by omega)) (br_f (by decide) (And.intro (vp_in_nI (by omega) (by omega)) (nm_r (by rw [nI_clamp (by omega)]) (xh_push rfl hs (by omega) (fun s1 h1 => br_f (by decide) (xe_U65 (z := 69) h1 (by simp only [List.length_cons]; omega) (fun s h => And.intro narrow_b1 (H s h)))))))))))))))
theorem xe_U2 {Q : Int32 → SX → Prop} {o : Nat} (ho : o ≤ 200) (hs : sk_N sym st) (hl : st.length + 10 ≤ 2048) (H : ∀ sym', sk_N sym' (84 :: 59 :: st) → Q 1 (f_textCap, f_stackCap, f_depthCap, f_ready, f_size, f_stackTop, f_point, f_frameCount, nI (84 :: 59 :: st).length, nI (p + 1), f_list, nI o, f_errorKind, f_errorPos, f_valueTop, f_operatorTop, a_text, a_cells, a_stack, a_frames, a_listOf, a_listEnd, a_owner, a_stmtEnd, a_stmtBegin, a_firstA, a_firstB, upd a_opAt o (nI p), a_procFirst, a_inverse, a_invFirst, a_invBegin, sym', a_values, a_operators)) :
    wpX_expand Q (f_textCap, f_stackCap, f_depthCap, f_ready, f_size, f_stackTop, f_point, f_frameCount, nI st.length, nI p, f_list, nI o, f_errorKind, f_errorPos, f_valueTop, f_operatorTop, a_text, a_cells, a_stack, a_frames, a_listOf, a_listEnd, a_owner, a_stmtEnd, a_stmtBegin, a_firstA, a_firstB, a_opAt, a_procFirst, a_inverse, a_invFirst, a_invBegin, sym, a_values, a_operators) (nI 85) (xp_c 36) :=
  br_f (by decide) (br_f (by decide) (br_f (by decide) (br_f (by decide) (br_t rfl (by unfold wpX_parseAction; exact xh_lev (c := 36) (by omega) (
    br_f (by decide) (br_f (nI_pos (by omega)) (br_t rfl (br_t rfl (And.intro (vp_in_nI (by omega) (by omega)) (nm_r (by rw [nI_clamp (by omega)]) (xh_push rfl hs (by omega) (fun s1 h1 => br_t rfl (xe_U65 (z := 84) h1 (by simp only [List.length_cons]; omega) (fun s h => And.intro narrow_b1 (H s h))))))))))))))))
theorem xe_U0 {Q : Int32 → SX → Prop} {o : Nat} (ho : o ≤ 200) (hc : c < 127) (hv : ex_lv c ≠ 2) (h1 : c ≠ 36) (H : Q 0 (f_textCap, f_stackCap, f_depthCap, f_ready, f_size, f_stackTop, f_point, f_frameCount, f_symbolTop, f_pos, f_list, nI o, f_errorKind, f_errorPos, f_valueTop, f_operatorTop, a_text, a_cells, a_stack, a_frames, a_listOf, a_listEnd, a_owner, a_stmtEnd, a_stmtBegin, a_firstA, a_firstB, a_opAt, a_procFirst, a_inverse, a_invFirst, a_invBegin, a_symbols, a_values, a_operators)) : wpX_expand Q (f_textCap, f_stackCap, f_depthCap, f_ready, f_size, f_stackTop, f_point, f_frameCount, f_symbolTop, f_pos, f_list, nI o, f_errorKind, f_errorPos, f_valueTop, f_operatorTop, a_text, a_cells, a_stack, a_frames, a_listOf, a_listEnd, a_owner, a_stmtEnd, a_stmtBegin, a_firstA, a_firstB, a_opAt, a_procFirst, a_inverse, a_invFirst, a_invBegin, a_symbols, a_values, a_operators) (nI 85) (xp_c c) :=
  br_f (by decide) (br_f (by decide) (br_f (by decide) (br_f (by decide) (br_t rfl (by unfold wpX_parseAction; exact xh_lev hc (br_f (fun h => hv ((nI_eq (by have := ex_lv_le c; omega) (by omega)).mp h)) (br_f (nI_pos (by omega)) (br_t rfl (xp_eq 36 hc (fun h => (h1 h).elim) (fun _ => And.intro narrow_b0 H)))))))))) 
theorem xe_N1 {Q : Int32 → SX → Prop} (hc : c < 127) (hv : gr_nm c) (H : Q 1 (f_textCap, f_stackCap, f_depthCap, f_ready, f_size, f_stackTop, f_point, f_frameCount, f_symbolTop, nI (p + 1), f_list, f_open, f_errorKind, f_errorPos, f_valueTop, f_operatorTop, a_text, a_cells, a_stack, a_frames, a_listOf, a_listEnd, a_owner, a_stmtEnd, a_stmtBegin, a_firstA, a_firstB, a_opAt, a_procFirst, a_inverse, a_invFirst, a_invBegin, a_symbols, a_values, a_operators)) : wpX_expand Q (f_textCap, f_stackCap, f_depthCap, f_ready, f_size, f_stackTop, f_point, f_frameCount, f_symbolTop, nI p, f_list, f_open, f_errorKind, f_errorPos, f_valueTop, f_operatorTop, a_text, a_cells, a_stack, a_frames, a_listOf, a_listEnd, a_owner, a_stmtEnd, a_stmtBegin, a_firstA, a_firstB, a_opAt, a_procFirst, a_inverse, a_invFirst, a_invBegin, a_symbols, a_values, a_operators) (nI 78) (xp_c c) :=
  br_f (by decide) (br_f (by decide) (br_f (by decide) (br_f (by decide) (br_f (by decide) (br_t rfl (by unfold wpX_parseCalledName; exact xh_nam hc (fun _ => br_f (by decide) (nm_r (nI_1 p) (And.intro narrow_b1 H))) (fun h => (h hv).elim)))))))
theorem xe_N0 {Q : Int32 → SX → Prop} (hc : c < 127) (hv : ¬ gr_nm c) (H : Q 0 (f_textCap, f_stackCap, f_depthCap, f_ready, f_size, f_stackTop, f_point, f_frameCount, f_symbolTop, f_pos, f_list, f_open, f_errorKind, f_errorPos, f_valueTop, f_operatorTop, a_text, a_cells, a_stack, a_frames, a_listOf, a_listEnd, a_owner, a_stmtEnd, a_stmtBegin, a_firstA, a_firstB, a_opAt, a_procFirst, a_inverse, a_invFirst, a_invBegin, a_symbols, a_values, a_operators)) : wpX_expand Q (f_textCap, f_stackCap, f_depthCap, f_ready, f_size, f_stackTop, f_point, f_frameCount, f_symbolTop, f_pos, f_list, f_open, f_errorKind, f_errorPos, f_valueTop, f_operatorTop, a_text, a_cells, a_stack, a_frames, a_listOf, a_listEnd, a_owner, a_stmtEnd, a_stmtBegin, a_firstA, a_firstB, a_opAt, a_procFirst, a_inverse, a_invFirst, a_invBegin, a_symbols, a_values, a_operators) (nI 78) (xp_c c) :=
  br_f (by decide) (br_f (by decide) (br_f (by decide) (br_f (by decide) (br_f (by decide) (br_t rfl (by unfold wpX_parseCalledName; exact xh_nam hc (fun h => (hv h).elim) (fun _ => br_t rfl (And.intro narrow_b0 H))))))))
/-- the table of procedures once the name c is defined with FIRST v -/
def xp_pf (pf : Nat → Int32) (c : Nat) (v : Int32) : Nat → Int32 := if 0 ≤ pf (c - 65) then pf else upd pf (c - 65) v
theorem xe_D1 {Q : Int32 → SX → Prop} (hc : c < 127) (hv : gr_nm c) (H : Q 1 (f_textCap, f_stackCap, f_depthCap, f_ready, f_size, f_stackTop, f_point, f_frameCount, f_symbolTop, nI (p + 1), nI (p + 1), -1, f_errorKind, f_errorPos, f_valueTop, f_operatorTop, a_text, a_cells, a_stack, a_frames, a_listOf, a_listEnd, a_owner, a_stmtEnd, a_stmtBegin, a_firstA, a_firstB, a_opAt, xp_pf a_procFirst c (nI (p + 1)), a_inverse, a_invFirst, a_invBegin, a_symbols, a_values, a_operators)) : wpX_expand Q (f_textCap, f_stackCap, f_depthCap, f_ready, f_size, f_stackTop, f_point, f_frameCount, f_symbolTop, nI p, f_list, f_open, f_errorKind, f_errorPos, f_valueTop, f_operatorTop, a_text, a_cells, a_stack, a_frames, a_listOf, a_listEnd, a_owner, a_stmtEnd, a_stmtBegin, a_firstA, a_firstB, a_opAt, a_procFirst, a_inverse, a_invFirst, a_invBegin, a_symbols, a_values, a_operators) (nI 68) (xp_c c) := by
  have hv' := hv
  unfold gr_nm at hv'
  have e1 : xp_c c - 65 = nI (c - 65) := by
    rw [xp_cs (by omega)]
    exact pk_sub (a := c) (b := 65) (by omega)
  have e2 : (xp_c c - 65).toNatClampNeg = c - 65 := by rw [e1, nI_clamp (by omega)]
  refine br_f (by decide) (br_f (by decide) (br_f (by decide) (br_f (by decide) (br_f (by decide) (br_f (by decide) (br_t rfl ?_))))))
  unfold wpX_parseDefinedName
  refine xh_nam hc (fun _ => br_f (by decide) (nm_r (nI_1 p) (And.intro ?_ (br_c (fun h => ?_) (fun h => And.intro ?_ (nm_r rfl ?_)))))) (fun h => (h hv).elim)
  · rw [e1]; exact vp_in_nI (by omega) (by omega)
  · refine And.intro narrow_b1 ?_
    rw [e2] at h
    unfold xp_pf at H
    rw [if_pos h] at H
    exact H
  · rw [e1]; exact vp_in_nI (by omega) (by omega)
  · refine And.intro narrow_b1 ?_
    rw [e2] at h ⊢
    unfold xp_pf at H
    rw [if_neg h] at H
    exact H
theorem xe_D0 {Q : Int32 → SX → Prop} (hc : c < 127) (hv : ¬ gr_nm c) (H : Q 0 (f_textCap, f_stackCap, f_depthCap, f_ready, f_size, f_stackTop, f_point, f_frameCount, f_symbolTop, f_pos, f_list, f_open, f_errorKind, f_errorPos, f_valueTop, f_operatorTop, a_text, a_cells, a_stack, a_frames, a_listOf, a_listEnd, a_owner, a_stmtEnd, a_stmtBegin, a_firstA, a_firstB, a_opAt, a_procFirst, a_inverse, a_invFirst, a_invBegin, a_symbols, a_values, a_operators)) : wpX_expand Q (f_textCap, f_stackCap, f_depthCap, f_ready, f_size, f_stackTop, f_point, f_frameCount, f_symbolTop, f_pos, f_list, f_open, f_errorKind, f_errorPos, f_valueTop, f_operatorTop, a_text, a_cells, a_stack, a_frames, a_listOf, a_listEnd, a_owner, a_stmtEnd, a_stmtBegin, a_firstA, a_firstB, a_opAt, a_procFirst, a_inverse, a_invFirst, a_invBegin, a_symbols, a_values, a_operators) (nI 68) (xp_c c) :=
  br_f (by decide) (br_f (by decide) (br_f (by decide) (br_f (by decide) (br_f (by decide) (br_f (by decide) (br_t rfl (by unfold wpX_parseDefinedName; exact xh_nam hc (fun h => (hv h).elim) (fun _ => br_t rfl (And.intro narrow_b0 H)))))))))
theorem xe_P1 {Q : Int32 → SX → Prop} (hs : sk_N sym st) (hl : st.length + 10 ≤ 2048) (H : ∀ sym', sk_N sym' (68 :: 76 :: 80 :: st) → Q 1 (f_textCap, f_stackCap, f_depthCap, f_ready, f_size, f_stackTop, f_point, f_frameCount, nI (68 :: 76 :: 80 :: st).length, nI (p + 1), f_list, f_open, f_errorKind, f_errorPos, f_valueTop, f_operatorTop, a_text, a_cells, a_stack, a_frames, a_listOf, a_listEnd, a_owner, a_stmtEnd, a_stmtBegin, a_firstA, a_firstB, a_opAt, a_procFirst, a_inverse, a_invFirst, a_invBegin, sym', a_values, a_operators)) :
    wpX_expand Q (f_textCap, f_stackCap, f_depthCap, f_ready, f_size, f_stackTop, f_point, f_frameCount, nI st.length, nI p, f_list, f_open, f_errorKind, f_errorPos, f_valueTop, f_operatorTop, a_text, a_cells, a_stack, a_frames, a_listOf, a_listEnd, a_owner, a_stmtEnd, a_stmtBegin, a_firstA, a_firstB, a_opAt, a_procFirst, a_inverse, a_invFirst, a_invBegin, sym, a_values, a_operators) (nI 80) (xp_c 58) :=
  br_f (by decide) (br_f (by decide) (br_f (by decide) (br_f (by decide) (br_f (by decide) (br_f (by decide) (br_f (by decide) (br_t rfl (br_t rfl (xh_push (s := 80) rfl hs (by omega) (fun s1 h1 => xh_push rfl h1 (by simp only [List.length_cons]; omega) (fun s2 h2 => xh_push rfl h2 (by simp only [List.length_cons]; omega) (fun s3 h3 => nm_r (nI_1 p) (And.intro narrow_b1 (H s3 h3))))))))))))))
theorem xe_P2 {Q : Int32 → SX → Prop} (H : Q 1 (f_textCap, f_stackCap, f_depthCap, f_ready, f_size, f_stackTop, f_point, f_frameCount, f_symbolTop, f_pos, f_list, f_open, f_errorKind, f_errorPos, f_valueTop, f_operatorTop, a_text, a_cells, a_stack, a_frames, a_listOf, a_listEnd, a_owner, a_stmtEnd, a_stmtBegin, a_firstA, a_firstB, a_opAt, a_procFirst, a_inverse, a_invFirst, a_invBegin, a_symbols, a_values, a_operators)) : wpX_expand Q (f_textCap, f_stackCap, f_depthCap, f_ready, f_size, f_stackTop, f_point, f_frameCount, f_symbolTop, f_pos, f_list, f_open, f_errorKind, f_errorPos, f_valueTop, f_operatorTop, a_text, a_cells, a_stack, a_frames, a_listOf, a_listEnd, a_owner, a_stmtEnd, a_stmtBegin, a_firstA, a_firstB, a_opAt, a_procFirst, a_inverse, a_invFirst, a_invBegin, a_symbols, a_values, a_operators) (nI 80) (xp_c 0) :=
  br_f (by decide) (br_f (by decide) (br_f (by decide) (br_f (by decide) (br_f (by decide) (br_f (by decide) (br_f (by decide) (br_t rfl (br_f (by decide) (br_t rfl (And.intro narrow_b1 H))))))))))
theorem xe_P0 {Q : Int32 → SX → Prop} (hc : c < 127) (h1 : c ≠ 58) (h2 : c ≠ 0) (H : Q 0 (f_textCap, f_stackCap, f_depthCap, f_ready, f_size, f_stackTop, f_point, f_frameCount, f_symbolTop, f_pos, f_list, f_open, f_errorKind, f_errorPos, f_valueTop, f_operatorTop, a_text, a_cells, a_stack, a_frames, a_listOf, a_listEnd, a_owner, a_stmtEnd, a_stmtBegin, a_firstA, a_firstB, a_opAt, a_procFirst, a_inverse, a_invFirst, a_invBegin, a_symbols, a_values, a_operators)) : wpX_expand Q (f_textCap, f_stackCap, f_depthCap, f_ready, f_size, f_stackTop, f_point, f_frameCount, f_symbolTop, f_pos, f_list, f_open, f_errorKind, f_errorPos, f_valueTop, f_operatorTop, a_text, a_cells, a_stack, a_frames, a_listOf, a_listEnd, a_owner, a_stmtEnd, a_stmtBegin, a_firstA, a_firstB, a_opAt, a_procFirst, a_inverse, a_invFirst, a_invBegin, a_symbols, a_values, a_operators) (nI 80) (xp_c c) :=
  br_f (by decide) (br_f (by decide) (br_f (by decide) (br_f (by decide) (br_f (by decide) (br_f (by decide) (br_f (by decide) (br_t rfl (xp_eq 58 hc (fun h => (h1 h).elim) (fun _ => br_f (by rw [xp_cs h2]; exact fun h => xp_neg c hc h.symm) (And.intro narrow_b0 H))))))))))
end
end
section
/-! X: terminals, and a round of the parser -/
def xp_fa (fa : Nat → Int32) (o : Nat) (v : Int32) : Nat → Int32 := if 0 ≤ fa o then fa else upd fa o v
def xp_fb (fa fb : Nat → Int32) (o : Nat) (v : Int32) : Nat → Int32 := if 0 ≤ fa o then upd fb o v else fb
section
variable {f_textCap f_stackCap f_depthCap f_ready f_size f_stackTop f_point f_frameCount f_symbolTop f_pos f_list f_open f_errorKind f_errorPos f_valueTop f_operatorTop : Int32} {a_text a_cells a_stack a_frames a_listOf a_listEnd a_owner a_stmtEnd a_stmtBegin a_firstA a_firstB a_opAt a_procFirst a_inverse a_invFirst a_invBegin a_symbols a_values a_operators : Nat → Int32}
variable {sym : Nat → Int32} {st : List Nat} {p c : Nat}
theorem xe_Z1 {Q : Int32 → SX → Prop} {s : Nat} (hz : s = 125 ∨ s = 93 ∨ s = 41) (H : Q 1 (f_textCap, f_stackCap, f_depthCap, f_ready, f_size, f_stackTop, f_point, f_frameCount, f_symbolTop, nI (p + 1), f_list, f_open, f_errorKind, f_errorPos, f_valueTop, f_operatorTop, a_text, a_cells, a_stack, a_frames, a_listOf, a_listEnd, a_owner, a_stmtEnd, a_stmtBegin, a_firstA, a_firstB, a_opAt, a_procFirst, a_inverse, a_invFirst, a_invBegin, a_symbols, a_values, a_operators)) : wpX_expand Q (f_textCap, f_stackCap, f_depthCap, f_ready, f_size, f_stackTop, f_point, f_frameCount, f_symbolTop, nI p, f_list, f_open, f_errorKind, f_errorPos, f_valueTop, f_operatorTop, a_text, a_cells, a_stack, a_frames, a_listOf, a_listEnd, a_owner, a_stmtEnd, a_stmtBegin, a_firstA, a_firstB, a_opAt, a_procFirst, a_inverse, a_invFirst, a_invBegin, a_symbols, a_values, a_operators) (nI s) (xp_c s) := by
  have main : wX_parseTerminal_41 Q f_textCap f_stackCap f_depthCap f_ready f_size f_stackTop f_point f_frameCount f_symbolTop (nI p) f_list f_open f_errorKind f_errorPos f_valueTop f_operatorTop a_text a_cells a_stack a_frames a_listOf a_listEnd a_owner a_stmtEnd a_stmtBegin a_firstA a_firstB a_opAt a_procFirst a_inverse a_invFirst a_invBegin a_symbols a_values a_operators := nm_r (nI_1 p) H
  rcases hz with rfl | rfl | rfl
  · exact br_f (by decide) (br_f (by decide) (br_f (by decide) (br_f (by decide) (br_f (by decide) (br_f (by decide) (br_f (by decide) (br_f (by decide) (br_t rfl (br_f (by decide) (br_f (by decide) (nm_r (nI_1 p) (And.intro narrow_b1 H))))))))))))
  · exact br_f (by decide) (br_f (by decide) (br_f (by decide) (br_f (by decide) (br_f (by decide) (br_f (by decide) (br_f (by decide) (br_f (by decide) (br_t rfl (br_f (by decide) (br_f (by decide) (nm_r (nI_1 p) (And.intro narrow_b1 H))))))))))))
  · exact br_f (by decide) (br_f (by decide) (br_f (by decide) (br_f (by decide) (br_f (by decide) (br_f (by decide) (br_f (by decide) (br_f (by decide) (br_t rfl (br_f (by decide) (br_f (by decide) (nm_r (nI_1 p) (And.intro narrow_b1 H))))))))))))
theorem xe_Z0 {Q : Int32 → SX → Prop} {s : Nat} (hz : s = 125 ∨ s = 93 ∨ s = 41 ∨ s = 59 ∨ s = 123) (hc : c < 127) (hcs : c ≠ s) (H : Q 0 (f_textCap, f_stackCap, f_depthCap, f_ready, f_size, f_stackTop, f_point, f_frameCount, f_symbolTop, f_pos, f_list, f_open, f_errorKind, f_errorPos, f_valueTop, f_operatorTop, a_text, a_cells, a_stack, a_frames, a_listOf, a_listEnd, a_owner, a_stmtEnd, a_stmtBegin, a_firstA, a_firstB, a_opAt, a_procFirst, a_inverse, a_invFirst, a_invBegin, a_symbols, a_values, a_operators)) : wpX_expand Q (f_textCap, f_stackCap, f_depthCap, f_ready, f_size, f_stackTop, f_point, f_frameCount, f_symbolTop, f_pos, f_list, f_open, f_errorKind, f_errorPos, f_valueTop, f_operatorTop, a_text, a_cells, a_stack, a_frames, a_listOf, a_listEnd, a_owner, a_stmtEnd, a_stmtBegin, a_firstA, a_firstB, a_opAt, a_procFirst, a_inverse, a_invFirst, a_invBegin, a_symbols, a_values, a_operators) (nI s) (xp_c c) := by
  rcases hz with rfl | rfl | rfl | rfl | rfl
  · exact br_f (by decide) (br_f (by decide) (br_f (by decide) (br_f (by decide) (br_f (by decide) (br_f (by decide) (br_f (by decide) (br_f (by decide) (xp_eq 125 hc (fun h => (hcs h).elim) (fun _ => And.intro narrow_b0 H)))))))))
  · exact br_f (by decide) (br_f (by decide) (br_f (by decide) (br_f (by decide) (br_f (by decide) (br_f (by decide) (br_f (by decide) (br_f (by decide) (xp_eq 93 hc (fun h => (hcs h).elim) (fun _ => And.intro narrow_b0 H)))))))))
  · exact br_f (by decide) (br_f (by decide) (br_f (by decide) (br_f (by decide) (br_f (by decide) (br_f (by decide) (br_f (by decide) (br_f (by decide) (xp_eq 41 hc (fun h => (hcs h).elim) (fun _ => And.intro narrow_b0 H)))))))))
  · exact br_f (by decide) (br_f (by decide) (br_f (by decide) (br_f (by decide) (br_f (by decide) (br_f (by decide) (br_f (by decide) (br_f (by decide) (xp_eq 59 hc (fun h => (hcs h).elim) (fun _ => And.intro narrow_b0 H)))))))))
  · exact br_f (by decide) (br_f (by decide) (br_f (by decide) (br_f (by decide) (br_f (by decide) (br_f (by decide) (br_f (by decide) (br_f (by decide) (xp_eq 123 hc (fun h => (hcs h).elim) (fun _ => And.intro narrow_b0 H)))))))))
/-- ; with no statement open -/
theorem xe_Zc0 {Q : Int32 → SX → Prop} (ho : f_open < 0) (H : Q 1 (f_textCap, f_stackCap, f_depthCap, f_ready, f_size, f_stackTop, f_point, f_frameCount, f_symbolTop, nI (p + 1), f_list, f_open, f_errorKind, f_errorPos, f_valueTop, f_operatorTop, a_text, a_cells, a_stack, a_frames, a_listOf, a_listEnd, a_owner, a_stmtEnd, a_stmtBegin, a_firstA, a_firstB, a_opAt, a_procFirst, a_inverse, a_invFirst, a_invBegin, a_symbols, a_values, a_operators)) : wpX_expand Q (f_textCap, f_stackCap, f_depthCap, f_ready, f_size, f_stackTop, f_point, f_frameCount, f_symbolTop, nI p, f_list, f_open, f_errorKind, f_errorPos, f_valueTop, f_operatorTop, a_text, a_cells, a_stack, a_frames, a_listOf, a_listEnd, a_owner, a_stmtEnd, a_stmtBegin, a_firstA, a_firstB, a_opAt, a_procFirst, a_inverse, a_invFirst, a_invBegin, a_symbols, a_values, a_operators) (nI 59) (xp_c 59) :=
  br_f (by decide) (br_f (by decide) (br_f (by decide) (br_f (by decide) (br_f (by decide) (br_f (by decide) (br_f (by decide) (br_f (by decide) (br_t rfl (br_f (by decide) (br_t rfl (br_t ho (nm_r (nI_1 p) (And.intro narrow_b1 H)))))))))))))
theorem xe_Zc {Q : Int32 → SX → Prop} {o l : Nat} (ho : o ≤ 200) (hp : p < 200) (hl : l ≤ 200) (el : a_listOf o = nI l) (H : Q 1 (f_textCap, f_stackCap, f_depthCap, f_ready, f_size, f_stackTop, f_point, f_frameCount, f_symbolTop, nI (p + 1), nI l, a_owner l, f_errorKind, f_errorPos, f_valueTop, f_operatorTop, a_text, a_cells, a_stack, a_frames, a_listOf, a_listEnd, a_owner, upd a_stmtEnd o (nI (p + 1)), upd a_stmtBegin (p + 1) (nI o), a_firstA, a_firstB, a_opAt, a_procFirst, a_inverse, a_invFirst, a_invBegin, a_symbols, a_values, a_operators)) :
    wpX_expand Q (f_textCap, f_stackCap, f_depthCap, f_ready, f_size, f_stackTop, f_point, f_frameCount, f_symbolTop, nI p, f_list, nI o, f_errorKind, f_errorPos, f_valueTop, f_operatorTop, a_text, a_cells, a_stack, a_frames, a_listOf, a_listEnd, a_owner, a_stmtEnd, a_stmtBegin, a_firstA, a_firstB, a_opAt, a_procFirst, a_inverse, a_invFirst, a_invBegin, a_symbols, a_values, a_operators) (nI 59) (xp_c 59) := by
  refine br_f (by decide) (br_f (by decide) (br_f (by decide) (br_f (by decide) (br_f (by decide) (br_f (by decide) (br_f (by decide) (br_f (by decide) (br_t rfl (br_f (by decide) (br_t rfl (br_f (nI_pos (by omega)) ?_)))))))))))
  unfold wpX_closeStatement
  refine And.intro (vp_in_nI (by omega) (by omega)) (nm_r (e' := upd a_stmtEnd o (nI (p + 1))) (by rw [nI_clamp (by omega), nI_1]) (And.intro (by rw [nI_1]; exact vp_in_nI (by omega) (by omega)) (nm_r (e' := upd a_stmtBegin (p + 1) (nI o)) (by rw [nI_1, nI_clamp (by omega)]) (And.intro (vp_in_nI (by omega) (by omega)) (nm_r (e' := nI l) (by rw [nI_clamp (by omega)]; exact el) (And.intro (vp_in_nI (by omega) (by omega)) (nm_r (e' := a_owner l) (by rw [nI_clamp (by omega)]) (nm_r (nI_1 p) (And.intro narrow_b1 H)))))))))
/-- { with no statement open -/
theorem xe_Zo0 {Q : Int32 → SX → Prop} (ho : f_open < 0) (H : Q 1 (f_textCap, f_stackCap, f_depthCap, f_ready, f_size, f_stackTop, f_point, f_frameCount, f_symbolTop, nI (p + 1), f_list, f_open, f_errorKind, f_errorPos, f_valueTop, f_operatorTop, a_text, a_cells, a_stack, a_frames, a_listOf, a_listEnd, a_owner, a_stmtEnd, a_stmtBegin, a_firstA, a_firstB, a_opAt, a_procFirst, a_inverse, a_invFirst, a_invBegin, a_symbols, a_values, a_operators)) : wpX_expand Q (f_textCap, f_stackCap, f_depthCap, f_ready, f_size, f_stackTop, f_point, f_frameCount, f_symbolTop, nI p, f_list, f_open, f_errorKind, f_errorPos, f_valueTop, f_operatorTop, a_text, a_cells, a_stack, a_frames, a_listOf, a_listEnd, a_owner, a_stmtEnd, a_stmtBegin, a_firstA, a_firstB, a_opAt, a_procFirst, a_inverse, a_invFirst, a_invBegin, a_symbols, a_values, a_operators) (nI 123) (xp_c 123) :=
  br_f (by decide) (br_f (by decide) (br_f (by decide) (br_f (by decide) (br_f (by decide) (br_f (by decide) (br_f (by decide) (br_f (by decide) (br_t rfl (br_t rfl (br_t ho (br_f (by decide) (nm_r (nI_1 p) (And.intro narrow_b1 H)))))))))))))
theorem xe_Zo {Q : Int32 → SX → Prop} {o : Nat} (ho : o ≤ 200) (hp : p < 200) (H : Q 1 (f_textCap, f_stackCap, f_depthCap, f_ready, f_size, f_stackTop, f_point, f_frameCount, f_symbolTop, nI (p + 1), nI (p + 1), nI o, f_errorKind, f_errorPos, f_valueTop, f_operatorTop, a_text, a_cells, a_stack, a_frames, a_listOf, a_listEnd, upd a_owner (p + 1) (nI o), a_stmtEnd, a_stmtBegin, xp_fa a_firstA o (nI (p + 1)), xp_fb a_firstA a_firstB o (nI (p + 1)), a_opAt, a_procFirst, a_inverse, a_invFirst, a_invBegin, a_symbols, a_values, a_operators)) :
    wpX_expand Q (f_textCap, f_stackCap, f_depthCap, f_ready, f_size, f_stackTop, f_point, f_frameCount, f_symbolTop, nI p, f_list, nI o, f_errorKind, f_errorPos, f_valueTop, f_operatorTop, a_text, a_cells, a_stack, a_frames, a_listOf, a_listEnd, a_owner, a_stmtEnd, a_stmtBegin, a_firstA, a_firstB, a_opAt, a_procFirst, a_inverse, a_invFirst, a_invBegin, a_symbols, a_values, a_operators) (nI 123) (xp_c 123) := by
  refine br_f (by decide) (br_f (by decide) (br_f (by decide) (br_f (by decide) (br_f (by decide) (br_f (by decide) (br_f (by decide) (br_f (by decide) (br_t rfl (br_t rfl (br_f (nI_pos (by omega)) ?_))))))))))
  unfold wpX_openBlock
  have eo : (nI o).toNatClampNeg = o := nI_clamp (by omega)
  refine nm_r (nI_1 p) (And.intro (vp_in_nI (by omega) (by omega)) (nm_r (e' := upd a_owner (p + 1) (nI o)) (by rw [nI_clamp (by omega)]) (And.intro (vp_in_nI (by omega) (by omega)) (br_c (fun h => And.intro (vp_in_nI (by omega) (by omega)) (nm_e ?_)) (fun h => And.intro (vp_in_nI (by omega) (by omega)) (nm_e ?_))))))
  · rw [eo] at h ⊢
    unfold xp_fa xp_fb at H
    rw [if_pos h, if_pos h] at H
    exact br_f (by decide) (nm_r (nI_1 p) (And.intro narrow_b1 H))
  · rw [eo] at h ⊢
    unfold xp_fa xp_fb at H
    rw [if_neg h, if_neg h] at H
    exact br_f (by decide) (nm_r (nI_1 p) (And.intro narrow_b1 H))
end
/-- X's parser from here on: whatever the counter, if the potential is paid for -/
def xp_W (post : SX → Prop) (t : Nat → Nat) (n : Nat) (st : List Nat) (p : Nat) (f_textCap f_stackCap f_depthCap f_ready f_stackTop f_point f_frameCount f_list f_open f_valueTop f_operatorTop : Int32) (a_cells a_stack a_frames a_listOf a_listEnd a_owner a_stmtEnd a_stmtBegin a_firstA a_firstB a_opAt a_procFirst a_inverse a_invFirst a_invBegin a_values a_operators : Nat → Int32) : Prop :=
  ∀ (sym : Nat → Int32) (c k : Nat), sk_N sym st → c + gr_fi 10 3 n st p ≤ 2038 → gr_fi 10 3 n st p < k →
    wX_parse_34 post k (nI c) f_textCap f_stackCap f_depthCap f_ready (nI n) f_stackTop f_point f_frameCount (nI st.length) (nI p) f_list f_open 0 (-1) f_valueTop f_operatorTop (fun j => nI (t j)) a_cells a_stack a_frames a_listOf a_listEnd a_owner a_stmtEnd a_stmtBegin a_firstA a_firstB a_opAt a_procFirst a_inverse a_invFirst a_invBegin sym a_values a_operators
section
variable {f_textCap f_stackCap f_depthCap f_ready f_stackTop f_point f_frameCount f_list f_open f_valueTop f_operatorTop : Int32} {a_cells a_stack a_frames a_listOf a_listEnd a_owner a_stmtEnd a_stmtBegin a_firstA a_firstB a_opAt a_procFirst a_inverse a_invFirst a_invBegin a_values a_operators : Nat → Int32}
variable {f_list' f_open' : Int32} {a_listOf' a_listEnd' a_owner' a_stmtEnd' a_stmtBegin' a_firstA' a_firstB' a_opAt' a_procFirst' : Nat → Int32}
variable {t : Nat → Nat} {n : Nat}
theorem xp_round {post : SX → Prop} {s p : Nat} {st ps : List Nat} {d : Nat} (hn : n ≤ 200) (ht : ∀ i, i < n → 33 ≤ t i) (hp : p ≤ n) (hst : gr_st s (gr_ch t n p) = some (ps, d))
    (hX : ∀ (Q : Int32 → SX → Prop) (sym : Nat → Int32), sk_N sym st → st.length + 10 ≤ 2048 → (∀ sym', sk_N sym' (ps ++ st) → Q 1 (f_textCap, f_stackCap, f_depthCap, f_ready, nI n, f_stackTop, f_point, f_frameCount, nI (ps ++ st).length, nI (p + d), f_list', f_open', 0, -1, f_valueTop, f_operatorTop, fun j => nI (t j), a_cells, a_stack, a_frames, a_listOf', a_listEnd', a_owner', a_stmtEnd', a_stmtBegin', a_firstA', a_firstB', a_opAt', a_procFirst', a_inverse, a_invFirst, a_invBegin, sym', a_values, a_operators)) →
      wpX_expand Q (f_textCap, f_stackCap, f_depthCap, f_ready, nI n, f_stackTop, f_point, f_frameCount, nI st.length, nI p, f_list, f_open, 0, -1, f_valueTop, f_operatorTop, fun j => nI (t j), a_cells, a_stack, a_frames, a_listOf, a_listEnd, a_owner, a_stmtEnd, a_stmtBegin, a_firstA, a_firstB, a_opAt, a_procFirst, a_inverse, a_invFirst, a_invBegin, sym, a_values, a_operators) (nI s) (xp_c (gr_ch t n p)))
    (H : xp_W post t n (ps ++ st) (p + d) f_textCap f_stackCap f_depthCap f_ready f_stackTop f_point f_frameCount f_list' f_open' f_valueTop f_operatorTop a_cells a_stack a_frames a_listOf' a_listEnd' a_owner' a_stmtEnd' a_stmtBegin' a_firstA' a_firstB' a_opAt' a_procFirst' a_inverse a_invFirst a_invBegin a_values a_operators) :
    xp_W post t n (s :: st) p f_textCap f_stackCap f_depthCap f_ready f_stackTop f_point f_frameCount f_list f_open f_valueTop f_operatorTop a_cells a_stack a_frames a_listOf a_listEnd a_owner a_stmtEnd a_stmtBegin a_firstA a_firstB a_opAt a_procFirst a_inverse a_invFirst a_invBegin a_values a_operators := by
  intro sym c k hs hc hk
  have hf := gr_st_fi 3 (by omega) (by omega) hst st
  have hd := gr_st_d hst
  have hfi : gr_fi 10 3 n (ps ++ st) (p + d) + 1 ≤ gr_fi 10 3 n (s :: st) p := by
    unfold gr_fi
    rcases hd with rfl | ⟨rfl, h0⟩
    · have := hf.1 rfl; rw [Nat.add_zero]; omega
    · have := hf.2 rfl; have := (gr_ch_in rfl h0).1; omega
  have hlen : st.length + 1 ≤ gr_fi 10 3 n (s :: st) p := by unfold gr_fi; rw [List.length_cons]; omega
  obtain ⟨k, rfl⟩ : ∃ k', k = k' + 1 := ⟨k - 1, by omega⟩
  refine br_f (nI_ge (b := 4000) (by omega) (by omega)) (br_f (nI_nle (by rw [List.length_cons]; omega) (by rw [List.length_cons]; omega)) (br_t rfl (nm_r (e' := nI st.length) (nI_pred st.length) (And.intro (vp_in_nI (by omega) (by omega)) (nm_r (e' := nI s) (by rw [nI_clamp (by omega)]; exact hs.1) ?_)))))
  refine xh_char hn (by omega) ht ?_
  refine hX _ sym hs.2 (by omega) (fun sym' hs' => ?_)
  refine br_f (by decide) (nm_r (nI_1 c) (H sym' (c + 1) k hs' (by omega) (by omega)))
theorem xp_err {post : SX → Prop} {s p : Nat} {st : List Nat} (hn : n ≤ 200) (ht : ∀ i, i < n → 33 ≤ t i) (hp : p ≤ n)
    (hX : ∀ (Q : Int32 → SX → Prop) (sym : Nat → Int32), Q 0 (f_textCap, f_stackCap, f_depthCap, f_ready, nI n, f_stackTop, f_point, f_frameCount, nI st.length, nI p, f_list, f_open, 0, -1, f_valueTop, f_operatorTop, fun j => nI (t j), a_cells, a_stack, a_frames, a_listOf, a_listEnd, a_owner, a_stmtEnd, a_stmtBegin, a_firstA, a_firstB, a_opAt, a_procFirst, a_inverse, a_invFirst, a_invBegin, sym, a_values, a_operators) →
      wpX_expand Q (f_textCap, f_stackCap, f_depthCap, f_ready, nI n, f_stackTop, f_point, f_frameCount, nI st.length, nI p, f_list, f_open, 0, -1, f_valueTop, f_operatorTop, fun j => nI (t j), a_cells, a_stack, a_frames, a_listOf, a_listEnd, a_owner, a_stmtEnd, a_stmtBegin, a_firstA, a_firstB, a_opAt, a_procFirst, a_inverse, a_invFirst, a_invBegin, sym, a_values, a_operators) (nI s) (xp_c (gr_ch t n p)))
    (H : ∀ sym, post (f_textCap, f_stackCap, f_depthCap, f_ready, nI n, f_stackTop, f_point, f_frameCount, nI st.length, nI p, f_list, f_open, 1, nI p, f_valueTop, f_operatorTop, fun j => nI (t j), a_cells, a_stack, a_frames, a_listOf, a_listEnd, a_owner, a_stmtEnd, a_stmtBegin, a_firstA, a_firstB, a_opAt, a_procFirst, a_inverse, a_invFirst, a_invBegin, sym, a_values, a_operators)) :
    xp_W post t n (s :: st) p f_textCap f_stackCap f_depthCap f_ready f_stackTop f_point f_frameCount f_list f_open f_valueTop f_operatorTop a_cells a_stack a_frames a_listOf a_listEnd a_owner a_stmtEnd a_stmtBegin a_firstA a_firstB a_opAt a_procFirst a_inverse a_invFirst a_invBegin a_values a_operators := by
  intro sym c k hs hc hk
  have hlen : st.length + 2 ≤ gr_fi 10 3 n (s :: st) p ∨ gr_fi 10 3 n (s :: st) p = st.length + 1 := by unfold gr_fi; rw [List.length_cons]; omega
  have hlen2 : st.length + 1 ≤ gr_fi 10 3 n (s :: st) p := by omega
  obtain ⟨k, rfl⟩ : ∃ k', k = k' + 1 := ⟨k - 1, by omega⟩
  refine br_f (nI_ge (b := 4000) (by omega) (by omega)) (br_f (nI_nle (by rw [List.length_cons]; omega) (by rw [List.length_cons]; omega)) (br_t rfl (nm_r (e' := nI st.length) (nI_pred st.length) (And.intro (vp_in_nI (by omega) (by omega)) (nm_r (e' := nI s) (by rw [nI_clamp (by omega)]; exact hs.1) ?_)))))
  refine xh_char hn (by omega) ht ?_
  refine hX _ sym ?_
  refine br_t rfl (nm_r (nI_1 c) ?_)
  cases k with
  | zero => omega
  | succ k => exact br_c (fun _ => H sym) (fun _ => br_c (fun _ => H sym) (fun _ => br_f (by decide) (H sym)))
theorem xp_end {post : SX → Prop} {p : Nat} (H : ∀ sym, post (f_textCap, f_stackCap, f_depthCap, f_ready, nI n, f_stackTop, f_point, f_frameCount, 0, nI p, f_list, f_open, 0, -1, f_valueTop, f_operatorTop, fun j => nI (t j), a_cells, a_stack, a_frames, a_listOf, a_listEnd, a_owner, a_stmtEnd, a_stmtBegin, a_firstA, a_firstB, a_opAt, a_procFirst, a_inverse, a_invFirst, a_invBegin, sym, a_values, a_operators)) : xp_W post t n [] p f_textCap f_stackCap f_depthCap f_ready f_stackTop f_point f_frameCount f_list f_open f_valueTop f_operatorTop a_cells a_stack a_frames a_listOf a_listEnd a_owner a_stmtEnd a_stmtBegin a_firstA a_firstB a_opAt a_procFirst a_inverse a_invFirst a_invBegin a_values a_operators := by
  intro sym c k hs hc hk
  cases k with
  | zero => omega
  | succ k => exact br_c (fun _ => H sym) (fun _ => br_t (by decide) (H sym))
end
end
section
/-! X's parser over a text of wrong syntax: it stops where the machine stops -/
def xp_tr (s : Nat) : Prop := s = 84 ∨ s = 69 ∨ s = 79 ∨ s = 93 ∨ s = 41
def xp_oo (o : Int32) : Prop := ∃ k, k ≤ 200 ∧ o = nI k
/-- at most one U, above it only what belongs to a target, and then a statement is open -/
def xp_ui (st : List Nat) (o : Int32) : Prop := (∀ s ∈ st, s ≠ 85) ∨ ∃ pre rest, st = pre ++ 85 :: rest ∧ (∀ s ∈ pre, xp_tr s) ∧ (∀ s ∈ rest, s ≠ 85) ∧ xp_oo o
theorem xp_ui_n {st : List Nat} {s : Nat} {o : Int32} (h : xp_ui (s :: st) o) (hs : ¬ xp_tr s) (h85 : s ≠ 85) : ∀ s ∈ st, s ≠ 85 := by
  rcases h with h | ⟨pre, rest, h1, h2, h3, h4⟩
  · exact fun x hx => h x (List.mem_cons_of_mem _ hx)
  · cases pre with
    | nil => exact absurd (List.cons.inj h1).1 h85
    | cons a pre =>
      rw [List.cons_append] at h1
      exact absurd ((List.cons.inj h1).1 ▸ h2 a (List.mem_cons_self ..)) hs
theorem xp_ui_f {st ps : List Nat} {s : Nat} {o o' : Int32} (h : xp_ui (s :: st) o) (hs : ¬ xp_tr s) (h85 : s ≠ 85) (hps : ∀ s ∈ ps, s ≠ 85) : xp_ui (ps ++ st) o' := by
  have := xp_ui_n h hs h85
  exact Or.inl (fun x hx => (List.mem_append.mp hx).elim (hps x) (this x))
theorem xp_ui_t {st ps : List Nat} {s : Nat} {o : Int32} (h : xp_ui (s :: st) o) (hs : xp_tr s) (hps : ∀ s ∈ ps, xp_tr s) : xp_ui (ps ++ st) o := by
  have h85 : s ≠ 85 := by unfold xp_tr at hs; omega
  have hps2 : ∀ x ∈ ps, x ≠ 85 := fun x hx => by have := hps x hx; unfold xp_tr at this; omega
  rcases h with h | ⟨pre, rest, h1, h2, h3, h4⟩
  · exact Or.inl (fun x hx => (List.mem_append.mp hx).elim (hps2 x) (fun hx => h x (List.mem_cons_of_mem _ hx)))
  · cases pre with
    | nil => exact absurd (List.cons.inj h1).1 h85
    | cons a pre =>
      rw [List.cons_append] at h1
      obtain ⟨rfl, rfl⟩ := List.cons.inj h1
      exact Or.inr ⟨ps ++ pre, rest, by rw [List.append_assoc], fun x hx => (List.mem_append.mp hx).elim (hps x) (fun hx => h2 x (List.mem_cons_of_mem _ hx)), h3, h4⟩
theorem xp_ui_u {st ps : List Nat} {o o' : Int32} (h : xp_ui (85 :: st) o) (hps : ∀ s ∈ ps, s ≠ 85) : xp_ui (ps ++ st) o' ∧ xp_oo o := by
  rcases h with h | ⟨pre, rest, h1, h2, h3, h4⟩
  · exact absurd rfl (h 85 (List.mem_cons_self ..))
  · cases pre with
    | nil =>
      rw [List.nil_append] at h1
      obtain ⟨_, rfl⟩ := List.cons.inj h1
      exact ⟨Or.inl (fun x hx => (List.mem_append.mp hx).elim (hps x) (h3 x)), h4⟩
    | cons a pre =>
      rw [List.cons_append] at h1
      have := h2 a (List.mem_cons_self ..)
      rw [← (List.cons.inj h1).1] at this
      unfold xp_tr at this; omega
def xp_kn (s : Nat) : Prop := s = 76 ∨ s = 69 ∨ s = 79 ∨ s = 84 ∨ s = 85 ∨ s = 78 ∨ s = 68 ∨ s = 80 ∨ s = 125 ∨ s = 93 ∨ s = 41 ∨ s = 59 ∨ s = 123
theorem xp_kn_st {s c : Nat} {ps : List Nat} {d : Nat} (h : gr_st s c = some (ps, d)) : ∀ x ∈ ps, xp_kn x := by
  refine gr_st_all (P := fun s c ps d => ∀ x ∈ ps, xp_kn x) ?_ ?_ ?_ ?_ ?_ ?_ ?_ ?_ ?_ ?_ ?_ ?_ ?_ ?_ ?_ ?_ ?_ ?_ ?_ h
  all_goals (intros; simp only [List.mem_cons, List.not_mem_nil, or_false] at *)
  all_goals (unfold xp_kn; omega)
/-- the lists and statements that X's fields and tables name are within -/
def xp_rg (l o : Int32) (lo ow : Nat → Int32) : Prop := xp_oo l ∧ (o = -1 ∨ xp_oo o) ∧ (∀ i, i ≤ 200 → xp_oo (lo i)) ∧ (∀ i, i ≤ 200 → ow i = -1 ∨ xp_oo (ow i))
theorem xp_oo_n {k : Nat} (h : k ≤ 200) : xp_oo (nI k) := ⟨k, h, rfl⟩
theorem xp_oo_u {a : Nat → Int32} {k : Nat} {v : Int32} (h : ∀ i, i ≤ 200 → xp_oo (a i)) (hv : xp_oo v) : ∀ i, i ≤ 200 → xp_oo (upd a k v i) := by
  intro i hi
  by_cases e : i = k
  · rw [e, pk_us]; exact hv
  · rw [pk_un e]; exact h i hi
theorem xp_ow_u {a : Nat → Int32} {k : Nat} {v : Int32} (h : ∀ i, i ≤ 200 → a i = -1 ∨ xp_oo (a i)) (hv : xp_oo v) : ∀ i, i ≤ 200 → upd a k v i = -1 ∨ xp_oo (upd a k v i) := by
  intro i hi
  by_cases e : i = k
  · rw [e, pk_us]; exact Or.inr hv
  · rw [pk_un e]; exact h i hi
theorem gr_ch_lt {t : Nat → Nat} {n p : Nat} (ht2 : ∀ i, t i < 127) : gr_ch t n p < 127 := by
  unfold gr_ch
  split
  · exact ht2 p
  · omega
theorem xp_m1 : (-1 : Int32) < 0 := by decide
section
variable {t : Nat → Nat} {n : Nat}
/-- one step of X's parser, whatever the tables -/
theorem xp_step {post : SX → Prop} (hn : n ≤ 200) (ht : ∀ i, i < n → 33 ≤ t i) (ht2 : ∀ i, t i < 127) {s p : Nat} {st ps : List Nat} {d : Nat} (hp : p ≤ n) (hst : gr_st s (gr_ch t n p) = some (ps, d)) {f_textCap f_stackCap f_depthCap f_ready f_stackTop f_point f_frameCount f_list f_open f_valueTop f_operatorTop : Int32} {a_cells a_stack a_frames a_listOf a_listEnd a_owner a_stmtEnd a_stmtBegin a_firstA a_firstB a_opAt a_procFirst a_inverse a_invFirst a_invBegin a_values a_operators : Nat → Int32}
    (hkn : xp_kn s) (hrg : xp_rg f_list f_open a_listOf a_owner) (hui : xp_ui (s :: st) f_open)
    (H : ∀ f_list f_open a_listOf a_listEnd a_owner a_stmtEnd a_stmtBegin a_firstA a_firstB a_opAt a_procFirst, xp_rg f_list f_open a_listOf a_owner → xp_ui (ps ++ st) f_open → xp_W post t n (ps ++ st) (p + d) f_textCap f_stackCap f_depthCap f_ready f_stackTop f_point f_frameCount f_list f_open f_valueTop f_operatorTop a_cells a_stack a_frames a_listOf a_listEnd a_owner a_stmtEnd a_stmtBegin a_firstA a_firstB a_opAt a_procFirst a_inverse a_invFirst a_invBegin a_values a_operators) :
    xp_W post t n (s :: st) p f_textCap f_stackCap f_depthCap f_ready f_stackTop f_point f_frameCount f_list f_open f_valueTop f_operatorTop a_cells a_stack a_frames a_listOf a_listEnd a_owner a_stmtEnd a_stmtBegin a_firstA a_firstB a_opAt a_procFirst a_inverse a_invFirst a_invBegin a_values a_operators := by
  have hc2 : gr_ch t n p < 127 := gr_ch_lt ht2
  have hd := gr_st_d hst
  have hpd : p + d ≤ n := by
    rcases hd with rfl | ⟨rfl, h0⟩
    · exact hp
    · have := (gr_ch_in rfl h0).1; omega
  obtain ⟨⟨l, hl, rfl⟩, hro, hlo, how⟩ := hrg
  generalize hc : gr_ch t n p = c at hst hc2
  refine gr_st_all (P := fun s c ps d => xp_kn s → xp_ui (s :: st) f_open → (∀ f_list f_open a_listOf a_listEnd a_owner a_stmtEnd a_stmtBegin a_firstA a_firstB a_opAt a_procFirst, xp_rg f_list f_open a_listOf a_owner → xp_ui (ps ++ st) f_open → xp_W post t n (ps ++ st) (p + d) f_textCap f_stackCap f_depthCap f_ready f_stackTop f_point f_frameCount f_list f_open f_valueTop f_operatorTop a_cells a_stack a_frames a_listOf a_listEnd a_owner a_stmtEnd a_stmtBegin a_firstA a_firstB a_opAt a_procFirst a_inverse a_invFirst a_invBegin a_values a_operators) → c < 127 → p + d ≤ n → gr_ch t n p = c → gr_st s c = some (ps, d) → xp_W post t n (s :: st) p f_textCap f_stackCap f_depthCap f_ready f_stackTop f_point f_frameCount (nI l) f_open f_valueTop f_operatorTop a_cells a_stack a_frames a_listOf a_listEnd a_owner a_stmtEnd a_stmtBegin a_firstA a_firstB a_opAt a_procFirst a_inverse a_invFirst a_invBegin a_values a_operators) ?_ ?_ ?_ ?_ ?_ ?_ ?_ ?_ ?_ ?_ ?_ ?_ ?_ ?_ ?_ ?_ ?_ ?_ ?_ hst hkn hui H hc2 hpd hc hst
  · intro c hv _ hui H hc2 hpd hc hst
    rw [← hc] at hst hv hc2
    exact xp_round hn ht hp hst (fun Q sym hs hl' H => xe_L1 hc2 hv hs hl' (by omega) H) (H _ _ _ _ _ _ _ _ _ _ _ ⟨xp_oo_n hl, Or.inr (xp_oo_n (by omega)), xp_oo_u hlo (xp_oo_n hl), how⟩ (Or.inr ⟨[84], 76 :: st, rfl, fun s hs => by rw [List.mem_singleton.mp hs]; exact Or.inl rfl, fun s hs => (List.mem_cons.mp hs).elim (fun e => by omega) (xp_ui_n hui (by unfold xp_tr; omega) (by omega) s), xp_oo_n (by omega)⟩))
  · intro c hv _ hui H hc2 hpd hc hst
    rw [← hc] at hst hv hc2
    exact xp_round hn ht hp hst (fun Q sym hs hl' H => xe_L2 hc2 hv hs hl' (by omega) H) (H _ _ _ _ _ _ _ _ _ _ _ ⟨xp_oo_n hl, Or.inr (xp_oo_n (by omega)), xp_oo_u hlo (xp_oo_n hl), how⟩ (xp_ui_f hui (by unfold xp_tr; omega) (by omega) (by intro s hs; simp only [List.mem_cons, List.not_mem_nil, or_false] at hs; omega)))
  · intro c hv _ hui H hc2 hpd hc hst
    rw [← hc] at hst hv hc2
    exact xp_round hn ht hp hst (fun Q sym hs hl' H => xe_L3 hc2 hv hs hl' (by omega) H) (H _ _ _ _ _ _ _ _ _ _ _ ⟨xp_oo_n hl, Or.inr (xp_oo_n (by omega)), xp_oo_u hlo (xp_oo_n hl), how⟩ (xp_ui_f hui (by unfold xp_tr; omega) (by omega) (by intro s hs; simp only [List.mem_cons, List.not_mem_nil, or_false] at hs; omega)))
  · intro c hv _ hui H hc2 hpd hc hst
    rw [← hc] at hst hv hc2
    exact xp_round hn ht hp hst (fun Q sym hs hl' H => xe_L4 hc2 hv hs hl' (by omega) H) (H _ _ _ _ _ _ _ _ _ _ _ ⟨xp_oo_n hl, Or.inr (xp_oo_n (by omega)), xp_oo_u hlo (xp_oo_n hl), how⟩ (xp_ui_f hui (by unfold xp_tr; omega) (by omega) (by intro s hs; simp only [List.mem_cons, List.not_mem_nil, or_false] at hs; omega)))
  · intro c h1 h2 h3 h4 h5 h6 h7 h8 _ hui H hc2 hpd hc hst
    have hv : ¬ sc_sr c := by
      intro h
      rcases h with h | h
      · exact h1 h
      · omega
    rw [← hc] at hst hv hc2
    exact xp_round hn ht hp hst (fun Q sym hs hl' H => xe_L5 hc2 hv (by omega) hl (H _ hs)) (H _ _ _ _ _ _ _ _ _ _ _ ⟨xp_oo_n hl, hro, xp_oo_u hlo (xp_oo_n hl), how⟩ (xp_ui_f hui (by unfold xp_tr; omega) (by omega) (by intro s hs; exact absurd hs List.not_mem_nil)))
  · intro c hv _ hui H hc2 hpd hc hst
    rw [← hc] at hst hv hc2
    exact xp_round hn ht hp hst (fun Q sym hs hl' H => xe_E1 hc2 hv hs hl' H) (H _ _ _ _ _ _ _ _ _ _ _ ⟨xp_oo_n hl, hro, hlo, how⟩ (xp_ui_t hui (by unfold xp_tr; omega) (by intro s hs; simp only [List.mem_cons, List.not_mem_nil, or_false] at hs; unfold xp_tr; omega)))
  · intro _ hui H hc2 hpd hc hst
    rw [← hc] at hst
    exact xp_round hn ht hp hst (fun Q sym hs hl' H => by rw [hc]; exact xe_E2 hs hl' H) (H _ _ _ _ _ _ _ _ _ _ _ ⟨xp_oo_n hl, hro, hlo, how⟩ (xp_ui_t hui (by unfold xp_tr; omega) (by intro s hs; simp only [List.mem_cons, List.not_mem_nil, or_false] at hs; unfold xp_tr; omega)))
  · intro _ hui H hc2 hpd hc hst
    rw [← hc] at hst
    exact xp_round hn ht hp hst (fun Q sym hs hl' H => by rw [hc]; exact xe_E3 hs hl' H) (H _ _ _ _ _ _ _ _ _ _ _ ⟨xp_oo_n hl, hro, hlo, how⟩ (xp_ui_t hui (by unfold xp_tr; omega) (by intro s hs; simp only [List.mem_cons, List.not_mem_nil, or_false] at hs; unfold xp_tr; omega)))
  · intro c hv _ hui H hc2 hpd hc hst
    rw [← hc] at hst hv hc2
    exact xp_round hn ht hp hst (fun Q sym hs hl' H => xe_O1 hc2 hv hs hl' H) (H _ _ _ _ _ _ _ _ _ _ _ ⟨xp_oo_n hl, hro, hlo, how⟩ (xp_ui_t hui (by unfold xp_tr; omega) (by intro s hs; simp only [List.mem_cons, List.not_mem_nil, or_false] at hs; unfold xp_tr; omega)))
  · intro c hv _ hui H hc2 hpd hc hst
    rw [← hc] at hst hv hc2
    exact xp_round hn ht hp hst (fun Q sym hs hl' H => xe_O2 hc2 hv (H _ hs)) (H _ _ _ _ _ _ _ _ _ _ _ ⟨xp_oo_n hl, hro, hlo, how⟩ (xp_ui_t hui (by unfold xp_tr; omega) (by intro s hs; exact absurd hs List.not_mem_nil)))
  · intro c hv _ hui H hc2 hpd hc hst
    rw [← hc] at hst hv hc2
    exact xp_round hn ht hp hst (fun Q sym hs hl' H => xe_T1 hc2 hv (H _ hs)) (H _ _ _ _ _ _ _ _ _ _ _ ⟨xp_oo_n hl, hro, hlo, how⟩ (xp_ui_t hui (by unfold xp_tr; omega) (by intro s hs; exact absurd hs List.not_mem_nil)))
  · intro _ hui H hc2 hpd hc hst
    rw [← hc] at hst
    exact xp_round hn ht hp hst (fun Q sym hs hl' H => by rw [hc]; exact xe_T2 hs hl' H) (H _ _ _ _ _ _ _ _ _ _ _ ⟨xp_oo_n hl, hro, hlo, how⟩ (xp_ui_t hui (by unfold xp_tr; omega) (by intro s hs; simp only [List.mem_cons, List.not_mem_nil, or_false] at hs; unfold xp_tr; omega)))
  · intro c hv _ hui H hc2 hpd hc hst
    rw [← hc] at hst hv hc2
    obtain ⟨hu, ⟨o, ho, rfl⟩⟩ := xp_ui_u (ps := [69, 59]) (o' := f_open) hui (by intro s hs; simp only [List.mem_cons, List.not_mem_nil, or_false] at hs; omega)
    exact xp_round hn ht hp hst (fun Q sym hs hl' H => xe_U1 hc2 hv ho hs hl' H) (H _ _ _ _ _ _ _ _ _ _ _ ⟨xp_oo_n hl, hro, hlo, how⟩ hu)
  · intro _ hui H hc2 hpd hc hst
    rw [← hc] at hst
    obtain ⟨hu, ⟨o, ho, rfl⟩⟩ := xp_ui_u (ps := [84, 59]) (o' := f_open) hui (by intro s hs; simp only [List.mem_cons, List.not_mem_nil, or_false] at hs; omega)
    exact xp_round hn ht hp hst (fun Q sym hs hl' H => by rw [hc]; exact xe_U2 ho hs hl' H) (H _ _ _ _ _ _ _ _ _ _ _ ⟨xp_oo_n hl, hro, hlo, how⟩ hu)
  · intro c hv _ hui H hc2 hpd hc hst
    rw [← hc] at hst hv hc2
    exact xp_round hn ht hp hst (fun Q sym hs hl' H => xe_N1 hc2 hv (H _ hs)) (H _ _ _ _ _ _ _ _ _ _ _ ⟨xp_oo_n hl, hro, hlo, how⟩ (xp_ui_f hui (by unfold xp_tr; omega) (by omega) (by intro s hs; exact absurd hs List.not_mem_nil)))
  · intro c hv _ hui H hc2 hpd hc hst
    rw [← hc] at hst hv hc2
    exact xp_round hn ht hp hst (fun Q sym hs hl' H => xe_D1 hc2 hv (H _ hs)) (H _ _ _ _ _ _ _ _ _ _ _ ⟨xp_oo_n (by omega), Or.inl rfl, hlo, how⟩ (xp_ui_f hui (by unfold xp_tr; omega) (by omega) (by intro s hs; exact absurd hs List.not_mem_nil)))
  · intro _ hui H hc2 hpd hc hst
    rw [← hc] at hst
    exact xp_round hn ht hp hst (fun Q sym hs hl' H => by rw [hc]; exact xe_P1 hs hl' H) (H _ _ _ _ _ _ _ _ _ _ _ ⟨xp_oo_n hl, hro, hlo, how⟩ (xp_ui_f hui (by unfold xp_tr; omega) (by omega) (by intro s hs; simp only [List.mem_cons, List.not_mem_nil, or_false] at hs; omega)))
  · intro _ hui H hc2 hpd hc hst
    replace hst : gr_st 80 (gr_ch t n p) = some ([], 0) := by rw [hc]; exact hst
    exact xp_round hn ht hp hst (fun Q sym hs hl' H => by rw [hc]; exact xe_P2 (H _ hs)) (H _ _ _ _ _ _ _ _ _ _ _ ⟨xp_oo_n hl, hro, hlo, how⟩ (xp_ui_f hui (by unfold xp_tr; omega) (by omega) (by intro s hs; exact absurd hs List.not_mem_nil)))
  · intro s h1 h2 h3 h4 h5 h6 h7 h8 h0 hkn hui H hc2 hpd hc hst
    replace hst : gr_st s (gr_ch t n p) = some ([], 1) := by rw [hc]; exact hst
    have hkn' : s = 125 ∨ s = 93 ∨ s = 41 ∨ s = 59 ∨ s = 123 := by unfold xp_kn at hkn; omega
    have huj : ∀ o', xp_ui st o' ∨ xp_tr s := fun o' => by
      by_cases htr : xp_tr s
      · exact Or.inr htr
      · exact Or.inl (xp_ui_f (ps := []) hui htr h5 (by intro s hs; exact absurd hs List.not_mem_nil))
    rcases Classical.em (s = 59 ∨ s = 123) with h9 | h9
    · have htr : ¬ xp_tr s := by unfold xp_tr; omega
      have hu : ∀ o', xp_ui ([] ++ st) o' := fun o' => xp_ui_f (ps := []) hui htr h5 (by intro s hs; exact absurd hs List.not_mem_nil)
      rcases h9 with rfl | rfl
      · rcases hro with rfl | ⟨o, ho, rfl⟩
        · exact xp_round hn ht hp hst (fun Q sym hs hl' H => by rw [hc]; exact xe_Zc0 xp_m1 (H _ hs)) (H _ _ _ _ _ _ _ _ _ _ _ ⟨xp_oo_n hl, Or.inl rfl, hlo, how⟩ (hu _))
        · obtain ⟨l', hl'', el⟩ := hlo o ho
          exact xp_round hn ht hp hst (fun Q sym hs hl' H => by rw [hc]; exact xe_Zc ho (by omega) hl'' el (H _ hs)) (H _ _ _ _ _ _ _ _ _ _ _ ⟨xp_oo_n hl'', how l' hl'', hlo, how⟩ (hu _))
      · rcases hro with rfl | ⟨o, ho, rfl⟩
        · exact xp_round hn ht hp hst (fun Q sym hs hl' H => by rw [hc]; exact xe_Zo0 xp_m1 (H _ hs)) (H _ _ _ _ _ _ _ _ _ _ _ ⟨xp_oo_n hl, Or.inl rfl, hlo, how⟩ (hu _))
        · exact xp_round hn ht hp hst (fun Q sym hs hl' H => by rw [hc]; exact xe_Zo ho (by omega) (H _ hs)) (H _ _ _ _ _ _ _ _ _ _ _ ⟨xp_oo_n (by omega), Or.inr (xp_oo_n ho), hlo, xp_ow_u how (xp_oo_n ho)⟩ (hu _))
    · have hz : s = 125 ∨ s = 93 ∨ s = 41 := by omega
      refine xp_round hn ht hp hst (fun Q sym hs hl' H => by rw [hc]; exact xe_Z1 hz (H _ hs)) (H _ _ _ _ _ _ _ _ _ _ _ ⟨xp_oo_n hl, hro, hlo, how⟩ ?_)
      rcases huj f_open with h | h
      · exact h
      · exact xp_ui_t hui h (by intro s hs; exact absurd hs List.not_mem_nil)
/-- where the machine is stuck X is stuck -/
theorem xp_stuck {post : SX → Prop} (hn : n ≤ 200) (ht : ∀ i, i < n → 33 ≤ t i) (ht2 : ∀ i, t i < 127) {s p : Nat} {st : List Nat} (hp : p ≤ n) (hst : gr_st s (gr_ch t n p) = none) {f_textCap f_stackCap f_depthCap f_ready f_stackTop f_point f_frameCount f_list f_open f_valueTop f_operatorTop : Int32} {a_cells a_stack a_frames a_listOf a_listEnd a_owner a_stmtEnd a_stmtBegin a_firstA a_firstB a_opAt a_procFirst a_inverse a_invFirst a_invBegin a_values a_operators : Nat → Int32}
    (hkn : xp_kn s) (hui : xp_ui (s :: st) f_open)
    (H : ∀ f_symbolTop a_symbols, post (f_textCap, f_stackCap, f_depthCap, f_ready, nI n, f_stackTop, f_point, f_frameCount, f_symbolTop, nI p, f_list, f_open, 1, nI p, f_valueTop, f_operatorTop, fun j => nI (t j), a_cells, a_stack, a_frames, a_listOf, a_listEnd, a_owner, a_stmtEnd, a_stmtBegin, a_firstA, a_firstB, a_opAt, a_procFirst, a_inverse, a_invFirst, a_invBegin, a_symbols, a_values, a_operators)) :
    xp_W post t n (s :: st) p f_textCap f_stackCap f_depthCap f_ready f_stackTop f_point f_frameCount f_list f_open f_valueTop f_operatorTop a_cells a_stack a_frames a_listOf a_listEnd a_owner a_stmtEnd a_stmtBegin a_firstA a_firstB a_opAt a_procFirst a_inverse a_invFirst a_invBegin a_values a_operators := by
  have hc2 : gr_ch t n p < 127 := gr_ch_lt ht2
  refine xp_err hn ht hp (fun Q sym hQ => ?_) (fun sym => H _ _)
  revert hst
  generalize gr_ch t n p = c at hc2
  intro hst
  unfold gr_st at hst
  rcases hkn with rfl | rfl | rfl | rfl | rfl | rfl | rfl | rfl | hz
  · rw [if_pos rfl] at hst
    exfalso; revert hst
    repeat' split
    all_goals (intro h; cases h)
  · rw [if_neg (by decide), if_pos rfl] at hst
    by_cases h1 : (48 ≤ c ∧ c ≤ 57) ∨ (97 ≤ c ∧ c ≤ 104)
    · rw [if_pos h1] at hst; cases hst
    · rw [if_neg h1] at hst
      by_cases h2 : c = 91
      · rw [if_pos h2] at hst; cases hst
      · rw [if_neg h2] at hst
        by_cases h3 : c = 40
        · rw [if_pos h3] at hst; cases hst
        · exact xe_E0 hc2 h1 h2 h3 hQ
  · rw [if_neg (by decide), if_neg (by decide), if_pos rfl] at hst
    exfalso; revert hst
    split <;> (intro h; cases h)
  · rw [if_neg (by decide), if_neg (by decide), if_neg (by decide), if_pos rfl] at hst
    by_cases h1 : 97 ≤ c ∧ c ≤ 104
    · rw [if_pos h1] at hst; cases hst
    · rw [if_neg h1] at hst
      by_cases h2 : c = 91
      · rw [if_pos h2] at hst; cases hst
      · exact xe_T0 hc2 h1 h2 hQ
  · rw [if_neg (by decide), if_neg (by decide), if_neg (by decide), if_neg (by decide), if_pos rfl] at hst
    obtain ⟨_, ⟨o, ho, rfl⟩⟩ := xp_ui_u (ps := []) (o' := f_open) hui (by intro s hs; exact absurd hs List.not_mem_nil)
    by_cases h1 : ex_lv c = 2
    · rw [if_pos h1] at hst; cases hst
    · rw [if_neg h1] at hst
      by_cases h2 : c = 36
      · rw [if_pos h2] at hst; cases hst
      · exact xe_U0 ho hc2 h1 h2 hQ
  · rw [if_neg (by decide), if_neg (by decide), if_neg (by decide), if_neg (by decide), if_neg (by decide), if_pos rfl] at hst
    by_cases h1 : 65 ≤ c ∧ c ≤ 68
    · rw [if_pos h1] at hst; cases hst
    · exact xe_N0 hc2 h1 hQ
  · rw [if_neg (by decide), if_neg (by decide), if_neg (by decide), if_neg (by decide), if_neg (by decide), if_neg (by decide), if_pos rfl] at hst
    by_cases h1 : 65 ≤ c ∧ c ≤ 68
    · rw [if_pos h1] at hst; cases hst
    · exact xe_D0 hc2 h1 hQ
  · rw [if_neg (by decide), if_neg (by decide), if_neg (by decide), if_neg (by decide), if_neg (by decide), if_neg (by decide), if_neg (by decide), if_pos rfl] at hst
    by_cases h1 : c = 58
    · rw [if_pos h1] at hst; cases hst
    · rw [if_neg h1] at hst
      by_cases h2 : c = 0
      · rw [if_pos h2] at hst; cases hst
      · exact xe_P0 hc2 h1 h2 hQ
  · rw [if_neg (by omega), if_neg (by omega), if_neg (by omega), if_neg (by omega), if_neg (by omega), if_neg (by omega), if_neg (by omega), if_neg (by omega)] at hst
    by_cases h1 : c = s ∧ c ≠ 0
    · rw [if_pos h1] at hst; cases hst
    · exact xe_Z0 hz hc2 (by omega) hQ
theorem xp_er {post : SX → Prop} {f_textCap f_stackCap f_depthCap f_ready f_stackTop f_point f_frameCount f_valueTop f_operatorTop : Int32} {a_cells a_stack a_frames a_inverse a_invFirst a_invBegin a_values a_operators : Nat → Int32} (hn : n ≤ 200) (ht : ∀ i, i < n → 33 ≤ t i) (ht2 : ∀ i, t i < 127) {k : Nat}
    (H : ∀ f_symbolTop f_pos f_list f_open a_listOf a_listEnd a_owner a_stmtEnd a_stmtBegin a_firstA a_firstB a_opAt a_procFirst a_symbols, post (f_textCap, f_stackCap, f_depthCap, f_ready, nI n, f_stackTop, f_point, f_frameCount, f_symbolTop, f_pos, f_list, f_open, 1, nI k, f_valueTop, f_operatorTop, fun j => nI (t j), a_cells, a_stack, a_frames, a_listOf, a_listEnd, a_owner, a_stmtEnd, a_stmtBegin, a_firstA, a_firstB, a_opAt, a_procFirst, a_inverse, a_invFirst, a_invBegin, a_symbols, a_values, a_operators)) :
    ∀ m st p f_list f_open a_listOf a_listEnd a_owner a_stmtEnd a_stmtBegin a_firstA a_firstB a_opAt a_procFirst, gr_er t n m st p k → p ≤ n → (∀ s ∈ st, xp_kn s) → xp_rg f_list f_open a_listOf a_owner → xp_ui st f_open → xp_W post t n st p f_textCap f_stackCap f_depthCap f_ready f_stackTop f_point f_frameCount f_list f_open f_valueTop f_operatorTop a_cells a_stack a_frames a_listOf a_listEnd a_owner a_stmtEnd a_stmtBegin a_firstA a_firstB a_opAt a_procFirst a_inverse a_invFirst a_invBegin a_values a_operators := by
  intro m
  induction m with
  | zero => intro st p _ _ _ _ _ _ _ _ _ _ _ h; exact h.elim
  | succ m ih =>
    intro st p f_list f_open a_listOf a_listEnd a_owner a_stmtEnd a_stmtBegin a_firstA a_firstB a_opAt a_procFirst h hp hkn hrg hui
    match st, h with
    | [], h => exact h.elim
    | s :: st, h =>
      rcases h with ⟨hst, rfl⟩ | ⟨ps, d, hst, her⟩
      · exact xp_stuck hn ht ht2 hp hst (hkn s (List.mem_cons_self ..)) hui (fun _ _ => H _ _ _ _ _ _ _ _ _ _ _ _ _ _)
      · have hpd : p + d ≤ n := by
          rcases gr_st_d hst with rfl | ⟨rfl, h0⟩
          · exact hp
          · have := (gr_ch_in rfl h0).1; omega
        exact xp_step hn ht ht2 hp hst (hkn s (List.mem_cons_self ..)) hrg hui (fun f_list f_open a_listOf a_listEnd a_owner a_stmtEnd a_stmtBegin a_firstA a_firstB a_opAt a_procFirst hrg' hui' =>
          ih (ps ++ st) (p + d) f_list f_open a_listOf a_listEnd a_owner a_stmtEnd a_stmtBegin a_firstA a_firstB a_opAt a_procFirst her hpd (fun x hx => (List.mem_append.mp hx).elim (xp_kn_st hst x) (fun hx => hkn x (List.mem_cons_of_mem _ hx))) hrg' hui')
end
end
section
/-! X's parser over a text of right syntax: steps with bundled tables, and expressions -/
def xt_u (T : Nat → Nat → Int32) (k i : Nat) (v : Int32) : Nat → Nat → Int32 := fun k' => if k' = k then upd (T k) i v else T k'
def xp_V (post : SX → Prop) (t : Nat → Nat) (n : Nat) (st : List Nat) (p : Nat) (l o : Int32) (T : Nat → Nat → Int32) (pf : Nat → Int32) (f_textCap f_stackCap f_depthCap f_ready f_stackTop f_point f_frameCount f_valueTop f_operatorTop : Int32) (a_cells a_stack a_frames a_inverse a_invFirst a_invBegin a_values a_operators : Nat → Int32) : Prop :=
  xp_W post t n st p f_textCap f_stackCap f_depthCap f_ready f_stackTop f_point f_frameCount l o f_valueTop f_operatorTop a_cells a_stack a_frames (T 0) (T 1) (T 2) (T 3) (T 4) (T 5) (T 6) (T 7) pf a_inverse a_invFirst a_invBegin a_values a_operators
theorem gr_ch_n {t : Nat → Nat} {n p : Nat} (h : p < n) : gr_ch t n p = t p := if_pos h
theorem gr_ch_e {t : Nat → Nat} {n p : Nat} (h : n ≤ p) : gr_ch t n p = 0 := if_neg (by omega)
/-- what a text is -/
def xp_tx (t : Nat → Nat) (n : Nat) : Prop := n ≤ 200 ∧ (∀ i, i < n → 33 ≤ t i) ∧ ∀ i, t i < 127
section
variable {f_textCap f_stackCap f_depthCap f_ready f_stackTop f_point f_frameCount f_valueTop f_operatorTop : Int32} {a_cells a_stack a_frames a_inverse a_invFirst a_invBegin a_values a_operators : Nat → Int32}
variable {t : Nat → Nat} {n : Nat} {post : SX → Prop} {st : List Nat} {p : Nat} {l o : Int32} {T : Nat → Nat → Int32} {pf : Nat → Int32}
theorem xv_L1 (X : xp_tx t n) (hp : p < n) (hc : gr_vr (t p) ∨ t p = 91) (H : xp_V post t n (84 :: 85 :: 76 :: st) p l (nI p) (xt_u T 0 p l) pf f_textCap f_stackCap f_depthCap f_ready f_stackTop f_point f_frameCount f_valueTop f_operatorTop a_cells a_stack a_frames a_inverse a_invFirst a_invBegin a_values a_operators) : xp_V post t n (76 :: st) p l o T pf f_textCap f_stackCap f_depthCap f_ready f_stackTop f_point f_frameCount f_valueTop f_operatorTop a_cells a_stack a_frames a_inverse a_invFirst a_invBegin a_values a_operators := by
  have e := gr_ch_n (t := t) hp
  rw [← e] at hc
  exact xp_round (ps := [84, 85, 76]) (d := 0) X.1 X.2.1 (by omega) (by unfold gr_st; rw [if_pos rfl]; exact if_pos hc) (fun Q sym hs hl' H => xe_L1 (gr_ch_lt X.2.2) hc hs hl' (by have := X.1; omega) H) H
theorem xv_L2 (X : xp_tx t n) (hp : p < n) (hc : t p = 62 ∨ t p = 60) (H : xp_V post t n (84 :: 59 :: 76 :: st) (p + 1) l (nI p) (xt_u T 0 p l) pf f_textCap f_stackCap f_depthCap f_ready f_stackTop f_point f_frameCount f_valueTop f_operatorTop a_cells a_stack a_frames a_inverse a_invFirst a_invBegin a_values a_operators) : xp_V post t n (76 :: st) p l o T pf f_textCap f_stackCap f_depthCap f_ready f_stackTop f_point f_frameCount f_valueTop f_operatorTop a_cells a_stack a_frames a_inverse a_invFirst a_invBegin a_values a_operators := by
  have e := gr_ch_n (t := t) hp
  rw [← e] at hc
  exact xp_round (ps := [84, 59, 76]) (d := 1) X.1 X.2.1 (by omega) (by unfold gr_st; rw [if_pos rfl, if_neg (by omega), if_pos hc]) (fun Q sym hs hl' H => xe_L2 (gr_ch_lt X.2.2) hc hs hl' (by have := X.1; omega) H) H
theorem xv_L3 (X : xp_tx t n) (hp : p < n) (hc : t p = 33 ∨ t p = 126) (H : xp_V post t n (78 :: 59 :: 76 :: st) (p + 1) l (nI p) (xt_u T 0 p l) pf f_textCap f_stackCap f_depthCap f_ready f_stackTop f_point f_frameCount f_valueTop f_operatorTop a_cells a_stack a_frames a_inverse a_invFirst a_invBegin a_values a_operators) : xp_V post t n (76 :: st) p l o T pf f_textCap f_stackCap f_depthCap f_ready f_stackTop f_point f_frameCount f_valueTop f_operatorTop a_cells a_stack a_frames a_inverse a_invFirst a_invBegin a_values a_operators := by
  have e := gr_ch_n (t := t) hp
  rw [← e] at hc
  exact xp_round (ps := [78, 59, 76]) (d := 1) X.1 X.2.1 (by omega) (by unfold gr_st; rw [if_pos rfl, if_neg (by omega), if_neg (by omega), if_pos hc]) (fun Q sym hs hl' H => xe_L3 (gr_ch_lt X.2.2) hc hs hl' (by have := X.1; omega) H) H
theorem xv_L4 (X : xp_tx t n) (hp : p < n) (hc : t p = 63 ∨ t p = 64) (H : xp_V post t n (69 :: 123 :: 76 :: 125 :: 123 :: 76 :: 125 :: 69 :: 59 :: 76 :: st) (p + 1) l (nI p) (xt_u T 0 p l) pf f_textCap f_stackCap f_depthCap f_ready f_stackTop f_point f_frameCount f_valueTop f_operatorTop a_cells a_stack a_frames a_inverse a_invFirst a_invBegin a_values a_operators) : xp_V post t n (76 :: st) p l o T pf f_textCap f_stackCap f_depthCap f_ready f_stackTop f_point f_frameCount f_valueTop f_operatorTop a_cells a_stack a_frames a_inverse a_invFirst a_invBegin a_values a_operators := by
  have e := gr_ch_n (t := t) hp
  rw [← e] at hc
  exact xp_round (ps := [69, 123, 76, 125, 123, 76, 125, 69, 59, 76]) (d := 1) X.1 X.2.1 (by omega) (by unfold gr_st; rw [if_pos rfl, if_neg (by omega), if_neg (by omega), if_neg (by omega), if_pos hc]) (fun Q sym hs hl' H => xe_L4 (gr_ch_lt X.2.2) hc hs hl' (by have := X.1; omega) H) H
theorem xv_L5 {l : Nat} (X : xp_tx t n) (hp : p ≤ n) (hl : l ≤ 200) (hc : ¬ sc_ss t n p) (H : xp_V post t n st p (nI l) o (xt_u (xt_u T 0 p (nI l)) 1 l (nI p)) pf f_textCap f_stackCap f_depthCap f_ready f_stackTop f_point f_frameCount f_valueTop f_operatorTop a_cells a_stack a_frames a_inverse a_invFirst a_invBegin a_values a_operators) : xp_V post t n (76 :: st) p (nI l) o T pf f_textCap f_stackCap f_depthCap f_ready f_stackTop f_point f_frameCount f_valueTop f_operatorTop a_cells a_stack a_frames a_inverse a_invFirst a_invBegin a_values a_operators := by
  have hc' : ¬ sc_sr (gr_ch t n p) := by
    rcases Nat.lt_or_ge p n with h | h
    · rw [gr_ch_n h]; exact fun h2 => hc ⟨h, h2⟩
    · rw [gr_ch_e h]; unfold sc_sr gr_vr; omega
  have h2 := hc'
  unfold sc_sr gr_vr at h2
  exact xp_round (ps := []) (d := 0) X.1 X.2.1 (by omega) (by unfold gr_st; rw [if_pos rfl, if_neg (by omega), if_neg (by omega), if_neg (by omega), if_neg (by omega)]) (fun Q sym hs hl' H => xe_L5 (gr_ch_lt X.2.2) hc' (by have := X.1; omega) hl (H _ hs)) H
theorem xv_E1 (X : xp_tx t n) (hp : p < n) (hc : ex_at (t p)) (H : xp_V post t n (79 :: st) (p + 1) l o T pf f_textCap f_stackCap f_depthCap f_ready f_stackTop f_point f_frameCount f_valueTop f_operatorTop a_cells a_stack a_frames a_inverse a_invFirst a_invBegin a_values a_operators) : xp_V post t n (69 :: st) p l o T pf f_textCap f_stackCap f_depthCap f_ready f_stackTop f_point f_frameCount f_valueTop f_operatorTop a_cells a_stack a_frames a_inverse a_invFirst a_invBegin a_values a_operators := by
  have e := gr_ch_n (t := t) hp
  rw [← e] at hc
  exact xp_round (ps := [79]) (d := 1) X.1 X.2.1 (by omega) (by unfold gr_st; rw [if_neg (by decide), if_pos rfl]; exact if_pos hc) (fun Q sym hs hl' H => xe_E1 (gr_ch_lt X.2.2) hc hs hl' H) H
theorem xv_E2 (X : xp_tx t n) (hp : p < n) (hc : t p = 91) (H : xp_V post t n (69 :: 93 :: 79 :: st) (p + 1) l o T pf f_textCap f_stackCap f_depthCap f_ready f_stackTop f_point f_frameCount f_valueTop f_operatorTop a_cells a_stack a_frames a_inverse a_invFirst a_invBegin a_values a_operators) : xp_V post t n (69 :: st) p l o T pf f_textCap f_stackCap f_depthCap f_ready f_stackTop f_point f_frameCount f_valueTop f_operatorTop a_cells a_stack a_frames a_inverse a_invFirst a_invBegin a_values a_operators := by
  have e : gr_ch t n p = 91 := (gr_ch_n (t := t) hp).trans hc
  exact xp_round (ps := [69, 93, 79]) (d := 1) X.1 X.2.1 (by omega) (by rw [e]; rfl) (fun Q sym hs hl' H => by rw [e]; exact xe_E2 hs hl' H) H
theorem xv_E3 (X : xp_tx t n) (hp : p < n) (hc : t p = 40) (H : xp_V post t n (69 :: 41 :: 79 :: st) (p + 1) l o T pf f_textCap f_stackCap f_depthCap f_ready f_stackTop f_point f_frameCount f_valueTop f_operatorTop a_cells a_stack a_frames a_inverse a_invFirst a_invBegin a_values a_operators) : xp_V post t n (69 :: st) p l o T pf f_textCap f_stackCap f_depthCap f_ready f_stackTop f_point f_frameCount f_valueTop f_operatorTop a_cells a_stack a_frames a_inverse a_invFirst a_invBegin a_values a_operators := by
  have e : gr_ch t n p = 40 := (gr_ch_n (t := t) hp).trans hc
  exact xp_round (ps := [69, 41, 79]) (d := 1) X.1 X.2.1 (by omega) (by rw [e]; rfl) (fun Q sym hs hl' H => by rw [e]; exact xe_E3 hs hl' H) H
theorem xv_O1 (X : xp_tx t n) (hp : p < n) (hc : 0 < ex_lv (t p)) (H : xp_V post t n (69 :: st) (p + 1) l o T pf f_textCap f_stackCap f_depthCap f_ready f_stackTop f_point f_frameCount f_valueTop f_operatorTop a_cells a_stack a_frames a_inverse a_invFirst a_invBegin a_values a_operators) : xp_V post t n (79 :: st) p l o T pf f_textCap f_stackCap f_depthCap f_ready f_stackTop f_point f_frameCount f_valueTop f_operatorTop a_cells a_stack a_frames a_inverse a_invFirst a_invBegin a_values a_operators := by
  have e := gr_ch_n (t := t) hp
  rw [← e] at hc
  exact xp_round (ps := [69]) (d := 1) X.1 X.2.1 (by omega) (by unfold gr_st; rw [if_neg (by decide), if_neg (by decide), if_pos rfl, if_pos hc]) (fun Q sym hs hl' H => xe_O1 (gr_ch_lt X.2.2) hc hs hl' H) H
theorem xv_O2 (X : xp_tx t n) (hp : p ≤ n) (hc : ex_lv (gr_ch t n p) = 0) (H : xp_V post t n st p l o T pf f_textCap f_stackCap f_depthCap f_ready f_stackTop f_point f_frameCount f_valueTop f_operatorTop a_cells a_stack a_frames a_inverse a_invFirst a_invBegin a_values a_operators) : xp_V post t n (79 :: st) p l o T pf f_textCap f_stackCap f_depthCap f_ready f_stackTop f_point f_frameCount f_valueTop f_operatorTop a_cells a_stack a_frames a_inverse a_invFirst a_invBegin a_values a_operators :=
  xp_round (ps := []) (d := 0) X.1 X.2.1 (by omega) (by unfold gr_st; rw [if_neg (by decide), if_neg (by decide), if_pos rfl, if_neg (by omega)]) (fun Q sym hs hl' H => xe_O2 (gr_ch_lt X.2.2) hc (H _ hs)) H
theorem xv_T1 (X : xp_tx t n) (hp : p < n) (hc : gr_vr (t p)) (H : xp_V post t n st (p + 1) l o T pf f_textCap f_stackCap f_depthCap f_ready f_stackTop f_point f_frameCount f_valueTop f_operatorTop a_cells a_stack a_frames a_inverse a_invFirst a_invBegin a_values a_operators) : xp_V post t n (84 :: st) p l o T pf f_textCap f_stackCap f_depthCap f_ready f_stackTop f_point f_frameCount f_valueTop f_operatorTop a_cells a_stack a_frames a_inverse a_invFirst a_invBegin a_values a_operators := by
  have e := gr_ch_n (t := t) hp
  rw [← e] at hc
  exact xp_round (ps := []) (d := 1) X.1 X.2.1 (by omega) (by unfold gr_st; rw [if_neg (by decide), if_neg (by decide), if_neg (by decide), if_pos rfl]; exact if_pos hc) (fun Q sym hs hl' H => xe_T1 (gr_ch_lt X.2.2) hc (H _ hs)) H
theorem xv_T2 (X : xp_tx t n) (hp : p < n) (hc : t p = 91) (H : xp_V post t n (69 :: 93 :: st) (p + 1) l o T pf f_textCap f_stackCap f_depthCap f_ready f_stackTop f_point f_frameCount f_valueTop f_operatorTop a_cells a_stack a_frames a_inverse a_invFirst a_invBegin a_values a_operators) : xp_V post t n (84 :: st) p l o T pf f_textCap f_stackCap f_depthCap f_ready f_stackTop f_point f_frameCount f_valueTop f_operatorTop a_cells a_stack a_frames a_inverse a_invFirst a_invBegin a_values a_operators := by
  have e : gr_ch t n p = 91 := (gr_ch_n (t := t) hp).trans hc
  exact xp_round (ps := [69, 93]) (d := 1) X.1 X.2.1 (by omega) (by rw [e]; rfl) (fun Q sym hs hl' H => by rw [e]; exact xe_T2 hs hl' H) H
theorem xv_U1 {s : Nat} (X : xp_tx t n) (hp : p < n) (hs : s ≤ 200) (hc : ex_lv (t p) = 2) (H : xp_V post t n (69 :: 59 :: st) (p + 1) l (nI s) (xt_u T 7 s (nI p)) pf f_textCap f_stackCap f_depthCap f_ready f_stackTop f_point f_frameCount f_valueTop f_operatorTop a_cells a_stack a_frames a_inverse a_invFirst a_invBegin a_values a_operators) : xp_V post t n (85 :: st) p l (nI s) T pf f_textCap f_stackCap f_depthCap f_ready f_stackTop f_point f_frameCount f_valueTop f_operatorTop a_cells a_stack a_frames a_inverse a_invFirst a_invBegin a_values a_operators := by
  have e := gr_ch_n (t := t) hp
  rw [← e] at hc
  exact xp_round (ps := [69, 59]) (d := 1) X.1 X.2.1 (by omega) (by unfold gr_st; rw [if_neg (by decide), if_neg (by decide), if_neg (by decide), if_neg (by decide), if_pos rfl, if_pos hc]) (fun Q sym hs' hl' H => xe_U1 (gr_ch_lt X.2.2) hc hs hs' hl' H) H
theorem xv_U2 {s : Nat} (X : xp_tx t n) (hp : p < n) (hs : s ≤ 200) (hc : t p = 36) (H : xp_V post t n (84 :: 59 :: st) (p + 1) l (nI s) (xt_u T 7 s (nI p)) pf f_textCap f_stackCap f_depthCap f_ready f_stackTop f_point f_frameCount f_valueTop f_operatorTop a_cells a_stack a_frames a_inverse a_invFirst a_invBegin a_values a_operators) : xp_V post t n (85 :: st) p l (nI s) T pf f_textCap f_stackCap f_depthCap f_ready f_stackTop f_point f_frameCount f_valueTop f_operatorTop a_cells a_stack a_frames a_inverse a_invFirst a_invBegin a_values a_operators := by
  have e : gr_ch t n p = 36 := (gr_ch_n (t := t) hp).trans hc
  exact xp_round (ps := [84, 59]) (d := 1) X.1 X.2.1 (by omega) (by rw [e]; rfl) (fun Q sym hs' hl' H => by rw [e]; exact xe_U2 hs hs' hl' H) H
theorem xv_N (X : xp_tx t n) (hp : p < n) (hc : gr_nm (t p)) (H : xp_V post t n st (p + 1) l o T pf f_textCap f_stackCap f_depthCap f_ready f_stackTop f_point f_frameCount f_valueTop f_operatorTop a_cells a_stack a_frames a_inverse a_invFirst a_invBegin a_values a_operators) : xp_V post t n (78 :: st) p l o T pf f_textCap f_stackCap f_depthCap f_ready f_stackTop f_point f_frameCount f_valueTop f_operatorTop a_cells a_stack a_frames a_inverse a_invFirst a_invBegin a_values a_operators := by
  have e := gr_ch_n (t := t) hp
  rw [← e] at hc
  exact xp_round (ps := []) (d := 1) X.1 X.2.1 (by omega) (by unfold gr_st; rw [if_neg (by decide), if_neg (by decide), if_neg (by decide), if_neg (by decide), if_neg (by decide), if_pos rfl]; exact if_pos hc) (fun Q sym hs hl' H => xe_N1 (gr_ch_lt X.2.2) hc (H _ hs)) H
theorem xv_D (X : xp_tx t n) (hp : p < n) (hc : gr_nm (t p)) (H : xp_V post t n st (p + 1) (nI (p + 1)) (-1) T (xp_pf pf (t p) (nI (p + 1))) f_textCap f_stackCap f_depthCap f_ready f_stackTop f_point f_frameCount f_valueTop f_operatorTop a_cells a_stack a_frames a_inverse a_invFirst a_invBegin a_values a_operators) : xp_V post t n (68 :: st) p l o T pf f_textCap f_stackCap f_depthCap f_ready f_stackTop f_point f_frameCount f_valueTop f_operatorTop a_cells a_stack a_frames a_inverse a_invFirst a_invBegin a_values a_operators := by
  have e := gr_ch_n (t := t) hp
  rw [← e] at hc H
  exact xp_round (ps := []) (d := 1) X.1 X.2.1 (by omega) (by unfold gr_st; rw [if_neg (by decide), if_neg (by decide), if_neg (by decide), if_neg (by decide), if_neg (by decide), if_neg (by decide), if_pos rfl]; exact if_pos hc) (fun Q sym hs hl' H => xe_D1 (gr_ch_lt X.2.2) hc (H _ hs)) H
theorem xv_P1 (X : xp_tx t n) (hp : p < n) (hc : t p = 58) (H : xp_V post t n (68 :: 76 :: 80 :: st) (p + 1) l o T pf f_textCap f_stackCap f_depthCap f_ready f_stackTop f_point f_frameCount f_valueTop f_operatorTop a_cells a_stack a_frames a_inverse a_invFirst a_invBegin a_values a_operators) : xp_V post t n (80 :: st) p l o T pf f_textCap f_stackCap f_depthCap f_ready f_stackTop f_point f_frameCount f_valueTop f_operatorTop a_cells a_stack a_frames a_inverse a_invFirst a_invBegin a_values a_operators := by
  have e : gr_ch t n p = 58 := (gr_ch_n (t := t) hp).trans hc
  exact xp_round (ps := [68, 76, 80]) (d := 1) X.1 X.2.1 (by omega) (by rw [e]; rfl) (fun Q sym hs hl' H => by rw [e]; exact xe_P1 hs hl' H) H
theorem xv_P2 (X : xp_tx t n) (H : xp_V post t n st n l o T pf f_textCap f_stackCap f_depthCap f_ready f_stackTop f_point f_frameCount f_valueTop f_operatorTop a_cells a_stack a_frames a_inverse a_invFirst a_invBegin a_values a_operators) : xp_V post t n (80 :: st) n l o T pf f_textCap f_stackCap f_depthCap f_ready f_stackTop f_point f_frameCount f_valueTop f_operatorTop a_cells a_stack a_frames a_inverse a_invFirst a_invBegin a_values a_operators := by
  have e : gr_ch t n n = 0 := gr_ch_e (Nat.le_refl _)
  exact xp_round (ps := []) (d := 0) X.1 X.2.1 (Nat.le_refl _) (by rw [e]; rfl) (fun Q sym hs hl' H => by rw [e]; exact xe_P2 (H _ hs)) H
theorem xv_Z {s : Nat} (X : xp_tx t n) (hp : p < n) (hz : s = 125 ∨ s = 93 ∨ s = 41) (hc : t p = s) (H : xp_V post t n st (p + 1) l o T pf f_textCap f_stackCap f_depthCap f_ready f_stackTop f_point f_frameCount f_valueTop f_operatorTop a_cells a_stack a_frames a_inverse a_invFirst a_invBegin a_values a_operators) : xp_V post t n (s :: st) p l o T pf f_textCap f_stackCap f_depthCap f_ready f_stackTop f_point f_frameCount f_valueTop f_operatorTop a_cells a_stack a_frames a_inverse a_invFirst a_invBegin a_values a_operators := by
  have e : gr_ch t n p = s := (gr_ch_n (t := t) hp).trans hc
  refine xp_round (ps := []) (d := 1) X.1 X.2.1 (by omega) ?_ (fun Q sym hs hl' H => by rw [e]; exact xe_Z1 hz (H _ hs)) H
  rw [e]
  rcases hz with rfl | rfl | rfl <;> rfl
theorem xv_Zc {s l' : Nat} (X : xp_tx t n) (hp : p < n) (hs : s ≤ 200) (hl : l' ≤ 200) (hc : t p = 59) (el : T 0 s = nI l') (H : xp_V post t n st (p + 1) (nI l') (T 2 l') (xt_u (xt_u T 3 s (nI (p + 1))) 4 (p + 1) (nI s)) pf f_textCap f_stackCap f_depthCap f_ready f_stackTop f_point f_frameCount f_valueTop f_operatorTop a_cells a_stack a_frames a_inverse a_invFirst a_invBegin a_values a_operators) : xp_V post t n (59 :: st) p l (nI s) T pf f_textCap f_stackCap f_depthCap f_ready f_stackTop f_point f_frameCount f_valueTop f_operatorTop a_cells a_stack a_frames a_inverse a_invFirst a_invBegin a_values a_operators := by
  have e : gr_ch t n p = 59 := (gr_ch_n (t := t) hp).trans hc
  exact xp_round (ps := []) (d := 1) X.1 X.2.1 (by omega) (by rw [e]; rfl) (fun Q sym hs' hl' H => by rw [e]; exact xe_Zc hs (by have := X.1; omega) hl el (H _ hs')) H
theorem xv_ZA {s : Nat} (X : xp_tx t n) (hp : p < n) (hs : s ≤ 200) (hc : t p = 123) (ef : T 5 s = -1) (H : xp_V post t n st (p + 1) (nI (p + 1)) (nI s) (xt_u (xt_u T 2 (p + 1) (nI s)) 5 s (nI (p + 1))) pf f_textCap f_stackCap f_depthCap f_ready f_stackTop f_point f_frameCount f_valueTop f_operatorTop a_cells a_stack a_frames a_inverse a_invFirst a_invBegin a_values a_operators) : xp_V post t n (123 :: st) p l (nI s) T pf f_textCap f_stackCap f_depthCap f_ready f_stackTop f_point f_frameCount f_valueTop f_operatorTop a_cells a_stack a_frames a_inverse a_invFirst a_invBegin a_values a_operators := by
  have e : gr_ch t n p = 123 := (gr_ch_n (t := t) hp).trans hc
  have e1 : xp_fa (T 5) s (nI (p + 1)) = upd (T 5) s (nI (p + 1)) := if_neg (by rw [ef]; decide)
  have e2 : xp_fb (T 5) (T 6) s (nI (p + 1)) = T 6 := if_neg (by rw [ef]; decide)
  refine xp_round (ps := []) (d := 1) X.1 X.2.1 (by omega) (by rw [e]; rfl) (fun Q sym hs' hl' H => by rw [e]; exact xe_Zo hs (by have := X.1; omega) (H _ hs')) ?_
  rw [e1, e2]
  exact H
theorem xv_ZB {s a : Nat} (X : xp_tx t n) (hp : p < n) (hs : s ≤ 200) (hc : t p = 123) (ha : a < 2 ^ 31) (ef : T 5 s = nI a) (H : xp_V post t n st (p + 1) (nI (p + 1)) (nI s) (xt_u (xt_u T 2 (p + 1) (nI s)) 6 s (nI (p + 1))) pf f_textCap f_stackCap f_depthCap f_ready f_stackTop f_point f_frameCount f_valueTop f_operatorTop a_cells a_stack a_frames a_inverse a_invFirst a_invBegin a_values a_operators) : xp_V post t n (123 :: st) p l (nI s) T pf f_textCap f_stackCap f_depthCap f_ready f_stackTop f_point f_frameCount f_valueTop f_operatorTop a_cells a_stack a_frames a_inverse a_invFirst a_invBegin a_values a_operators := by
  have e : gr_ch t n p = 123 := (gr_ch_n (t := t) hp).trans hc
  have e1 : xp_fa (T 5) s (nI (p + 1)) = T 5 := if_pos (by rw [ef]; exact nI_pos' ha)
  have e2 : xp_fb (T 5) (T 6) s (nI (p + 1)) = upd (T 6) s (nI (p + 1)) := if_pos (by rw [ef]; exact nI_pos' ha)
  refine xp_round (ps := []) (d := 1) X.1 X.2.1 (by omega) (by rw [e]; rfl) (fun Q sym hs' hl' H => by rw [e]; exact xe_Zo hs (by have := X.1; omega) (H _ hs')) ?_
  rw [e1, e2]
  exact H
/-- expressions: nothing but the place changes -/
theorem xv_X (X : xp_tx t n) : ∀ f b x y st, x ≤ y → y ≤ n → gr_X f b (gr_sg t x y) →
    (b = true → xp_V post t n (79 :: st) y l o T pf f_textCap f_stackCap f_depthCap f_ready f_stackTop f_point f_frameCount f_valueTop f_operatorTop a_cells a_stack a_frames a_inverse a_invFirst a_invBegin a_values a_operators → xp_V post t n (69 :: st) x l o T pf f_textCap f_stackCap f_depthCap f_ready f_stackTop f_point f_frameCount f_valueTop f_operatorTop a_cells a_stack a_frames a_inverse a_invFirst a_invBegin a_values a_operators) ∧
    (b = false → ex_lv (gr_ch t n y) = 0 → xp_V post t n st y l o T pf f_textCap f_stackCap f_depthCap f_ready f_stackTop f_point f_frameCount f_valueTop f_operatorTop a_cells a_stack a_frames a_inverse a_invFirst a_invBegin a_values a_operators → xp_V post t n (69 :: st) x l o T pf f_textCap f_stackCap f_depthCap f_ready f_stackTop f_point f_frameCount f_valueTop f_operatorTop a_cells a_stack a_frames a_inverse a_invFirst a_invBegin a_values a_operators) := by
  intro f
  induction f with
  | zero => intro b x y st _ _ h; exact h.elim
  | succ f ih =>
    intro b x y st hxy hy h
    cases b with
    | true =>
      refine ⟨fun _ H => ?_, fun e => nomatch e⟩
      rcases gr_P_inv hxy h with ⟨rfl, ha⟩ | ⟨y', rfl, hy', hu, hc⟩
      · exact xv_E1 X (by omega) ha H
      · rcases hc with ⟨h1, h2⟩ | ⟨h1, h2⟩
        · refine xv_E3 X (by omega) h1 ((ih false (x + 1) y' (41 :: 79 :: st) hy' (by omega) hu).2 rfl ?_ (xv_Z X (by omega) (by omega) h2 H))
          rw [gr_ch_n (by omega), h2]; rfl
        · refine xv_E2 X (by omega) h1 ((ih false (x + 1) y' (93 :: 79 :: st) hy' (by omega) hu).2 rfl ?_ (xv_Z X (by omega) (by omega) h2 H))
          rw [gr_ch_n (by omega), h2]; rfl
    | false =>
      refine ⟨(fun e => nomatch e), fun _ hlv H => ?_⟩
      rcases gr_E_inv hxy h with h | ⟨z, h1, h2, h3, h4, h5⟩
      · exact (ih true x y st hxy hy h).1 rfl (xv_O2 X hy hlv H)
      · exact (ih true x z st h1 (by omega) h3).1 rfl (xv_O1 X (by omega) h4 ((ih false (z + 1) y st (by omega) hy h5).2 rfl hlv H))
theorem xv_E (X : xp_tx t n) {x y : Nat} (h : gr_E t x y) (hy : y < n) (hlv : ex_lv (t y) = 0) (H : xp_V post t n st y l o T pf f_textCap f_stackCap f_depthCap f_ready f_stackTop f_point f_frameCount f_valueTop f_operatorTop a_cells a_stack a_frames a_inverse a_invFirst a_invBegin a_values a_operators) : xp_V post t n (69 :: st) x l o T pf f_textCap f_stackCap f_depthCap f_ready f_stackTop f_point f_frameCount f_valueTop f_operatorTop a_cells a_stack a_frames a_inverse a_invFirst a_invBegin a_values a_operators := by
  obtain ⟨h1, f, hf⟩ := h
  exact (xv_X X f false x y st h1 (by omega) hf).2 rfl (by rw [gr_ch_n hy]; exact hlv) H
theorem xv_T (X : xp_tx t n) {x y : Nat} (h : gr_T t x y) (hy : y ≤ n) (H : xp_V post t n st y l o T pf f_textCap f_stackCap f_depthCap f_ready f_stackTop f_point f_frameCount f_valueTop f_operatorTop a_cells a_stack a_frames a_inverse a_invFirst a_invBegin a_values a_operators) : xp_V post t n (84 :: st) x l o T pf f_textCap f_stackCap f_depthCap f_ready f_stackTop f_point f_frameCount f_valueTop f_operatorTop a_cells a_stack a_frames a_inverse a_invFirst a_invBegin a_values a_operators := by
  rcases h with ⟨rfl, hv⟩ | ⟨y', rfl, hx, hy', hE⟩
  · exact xv_T1 X (by omega) hv H
  · have := gr_E_ne hE
    exact xv_T2 X (by omega) hx (xv_E X hE (by omega) (by rw [hy']; rfl) (xv_Z X (by omega) (by omega) hy' H))
end
end
section
/-! X's tables over a text of right syntax -/
noncomputable def xt_if (P : Prop) (a b : Int32) : Int32 := @ite Int32 P (Classical.propDecidable P) a b
theorem xt_if_t {P : Prop} {a b : Int32} (h : P) : xt_if P a b = a := by unfold xt_if; rw [if_pos h]
theorem xt_if_f {P : Prop} {a b : Int32} (h : ¬ P) : xt_if P a b = b := by unfold xt_if; rw [if_neg h]
/-- the tables as they must be: 0 listOf, 1 listEnd, 2 owner, 3 stmtEnd, 4 stmtBegin, 5 firstA, 6 firstB, 7 opAt -/
noncomputable def xt_S (t : Nat → Nat) (n k i : Nat) : Int32 :=
  if k = 0 then nI (sc_Fst t i) else if k = 1 then nI (sc_End t n i) else if k = 2 then xt_if (1 ≤ i ∧ t (i - 1) = 123) (nI (sc_Ow t i)) (-1)
  else if k = 3 then xt_if (sc_bg t i ∧ sc_ss t n i) (nI (sc_Af t n i)) (-1) else if k = 4 then nI (sc_Sb t n i) else if k = 5 then nI (sc_Fa t n i) else if k = 6 then nI (sc_Fb t n i)
  else xt_if (sc_bg t i ∧ sc_ss t n i ∧ (gr_vr (t i) ∨ t i = 91)) (nI (sc_Te t n i)) (-1)
theorem xt_S0 {t : Nat → Nat} {n i : Nat} : xt_S t n 0 i = nI (sc_Fst t i) := rfl
theorem xt_S1 {t : Nat → Nat} {n i : Nat} : xt_S t n 1 i = nI (sc_End t n i) := rfl
theorem xt_S2 {t : Nat → Nat} {n i : Nat} : xt_S t n 2 i = xt_if (1 ≤ i ∧ t (i - 1) = 123) (nI (sc_Ow t i)) (-1) := rfl
theorem xt_S3 {t : Nat → Nat} {n i : Nat} : xt_S t n 3 i = xt_if (sc_bg t i ∧ sc_ss t n i) (nI (sc_Af t n i)) (-1) := rfl
theorem xt_S4 {t : Nat → Nat} {n i : Nat} : xt_S t n 4 i = nI (sc_Sb t n i) := rfl
theorem xt_S5 {t : Nat → Nat} {n i : Nat} : xt_S t n 5 i = nI (sc_Fa t n i) := rfl
theorem xt_S6 {t : Nat → Nat} {n i : Nat} : xt_S t n 6 i = nI (sc_Fb t n i) := rfl
theorem xt_S7 {t : Nat → Nat} {n i : Nat} : xt_S t n 7 i = xt_if (sc_bg t i ∧ sc_ss t n i ∧ (gr_vr (t i) ∨ t i = 91)) (nI (sc_Te t n i)) (-1) := rfl
/-- what is as it must be stays so -/
def xt_M (t : Nat → Nat) (n : Nat) (T T' : Nat → Nat → Int32) : Prop := ∀ k i, T k i = xt_S t n k i → T' k i = xt_S t n k i
theorem xt_u_s {T : Nat → Nat → Int32} {k i : Nat} {v : Int32} : xt_u T k i v k i = v := by
  unfold xt_u; rw [if_pos rfl]; exact pk_us
theorem xt_u_n {T : Nat → Nat → Int32} {k i k' i' : Nat} {v : Int32} (h : k' ≠ k ∨ i' ≠ i) : xt_u T k i v k' i' = T k' i' := by
  unfold xt_u
  by_cases hk : k' = k
  · rw [if_pos hk, hk]
    exact pk_un (h.resolve_left (fun h => h hk))
  · rw [if_neg hk]
theorem xt_M_r {t : Nat → Nat} {n : Nat} {T : Nat → Nat → Int32} : xt_M t n T T := fun _ _ h => h
theorem xt_M_t {t : Nat → Nat} {n : Nat} {T T' T'' : Nat → Nat → Int32} (h1 : xt_M t n T T') (h2 : xt_M t n T' T'') : xt_M t n T T'' := fun k i h => h2 k i (h1 k i h)
theorem xt_M_u {t : Nat → Nat} {n : Nat} {T T' : Nat → Nat → Int32} {k i : Nat} {v : Int32} (h : xt_M t n T T') (hv : v = xt_S t n k i) : xt_M t n T (xt_u T' k i v) := by
  intro k' i' e
  by_cases hk : k' = k ∧ i' = i
  · obtain ⟨rfl, rfl⟩ := hk; rw [xt_u_s]; exact hv
  · rw [xt_u_n (by omega)]; exact h k' i' e
/-- the entries owed between x and e -/
def xt_C (t : Nat → Nat) (n x e k i : Nat) : Prop := x ≤ i ∧ i ≤ e ∧ sc_bg t i ∧ (k = 0 ∨ ((k = 1 ∨ k = 2) ∧ x < i ∧ t (i - 1) = 123) ∨ (k = 4 ∧ x < i ∧ t (i - 1) = 59) ∨ ((k = 3 ∨ k = 7) ∧ sc_ss t n i ∧ i < e) ∨ ((k = 5 ∨ k = 6) ∧ i < e ∧ (t i = 63 ∨ t i = 64)))
def xt_V (t : Nat → Nat) (n : Nat) (T : Nat → Nat → Int32) (x e : Nat) : Prop := ∀ k i, xt_C t n x e k i → T k i = xt_S t n k i
def xt_F (T : Nat → Nat → Int32) (x : Nat) : Prop := ∀ i, x ≤ i → i ≤ 200 → T 5 i = -1
/-- what is to be left as it was laid, is -/
def xt_Z (t : Nat → Nat) (n : Nat) (T : Nat → Nat → Int32) : Prop := ∀ k i, k = 2 ∨ k = 3 ∨ k = 7 → i ≤ 200 → xt_S t n k i = -1 → T k i = xt_S t n k i
theorem xt_Z_M {t : Nat → Nat} {n : Nat} {T T' : Nat → Nat → Int32} (h : xt_Z t n T) (hM : xt_M t n T T') : xt_Z t n T' := fun k i hk hi e => hM k i (h k i hk hi e)
theorem xt_F_u {T : Nat → Nat → Int32} {x k i : Nat} {v : Int32} (h : xt_F T x) (hk : k ≠ 5 ∨ i < x) : xt_F (xt_u T k i v) x := by
  intro j hj hj2
  rw [xt_u_n (by omega)]; exact h j hj hj2
theorem xt_F_le {T : Nat → Nat → Int32} {x y : Nat} (h : xt_F T x) (hxy : x ≤ y) : xt_F T y := fun i hi hi2 => h i (by omega) hi2
/-- a point within a statement lies in one of its blocks -/
theorem sc_in {t : Nat → Nat} {x q p : Nat} (hs : gr_s t x q) (h58 : 1 ≤ x → t (x - 1) ≠ 58) (hxp : x < p) (hqp : p ≤ q) (hb : sc_bg t p) :
    ∃ a ea eb, gr_b t x a ea eb q ∧ ((a + 1 ≤ p ∧ p ≤ ea) ∨ (ea + 2 ≤ p ∧ p ≤ eb)) := by
  have hpl : (∀ i, x ≤ i → i < q → gr_pl (t i)) → False := by
    intro hpl
    have a1 := hpl (p - 1) (by omega) (by omega)
    refine sc_nbg (by omega) a1.2.1 a1.2.2.1 (fun h => ?_) hb
    rcases Nat.lt_or_ge (p - 2) x with h3 | h3
    · have e : p - 2 = x - 1 := by omega
      rw [e]; exact h58 (by omega)
    · exact (hpl (p - 2) h3 (by omega)).1
  rcases hs with ⟨o, h⟩ | h | h | ⟨a, ea, eb, hB⟩
  · exact (hpl (fun i a b => gr_U_pl h a b)).elim
  · exact (hpl (fun i a b => gr_K_pl h a b)).elim
  · exact (hpl (fun i a b => gr_C_pl h a b)).elim
  · refine ⟨a, ea, eb, hB, ?_⟩
    obtain ⟨h1, h2, h3, h4, h5, h6, h7, h8, h9, h10, h11, h12⟩ := hB
    have l1 := gr_E_ne h2
    have l2 := gr_E_ne h11
    have x1 : ∀ i, x ≤ i → i < a → t i ≠ 58 ∧ t i ≠ 59 ∧ t i ≠ 123 := fun i a b => by
      rcases Nat.lt_or_ge x i with h | h
      · have := gr_xc_pl (gr_E_xc h2 h b); unfold gr_pl at this; omega
      · have : i = x := by omega
        subst this; omega
    have x2 : ∀ i, eb ≤ i → i < q → t i ≠ 58 ∧ t i ≠ 59 ∧ t i ≠ 123 := fun i a b => by
      rcases Nat.lt_or_ge eb i with h | h
      · have := gr_xc_pl (gr_E_xc h11 h b); unfold gr_pl at this; omega
      · have : i = eb := by omega
        subst this; omega
    rcases Nat.lt_or_ge a p with hap | hap
    · rcases Nat.lt_or_ge ea p with hep | hep
      · rcases Nat.lt_or_ge (ea + 1) p with hep2 | hep2
        · rcases Nat.lt_or_ge eb p with hbp | hbp
          · exfalso
            have a1 := x2 (p - 1) (by omega) (by omega)
            refine sc_nbg (by omega) a1.2.1 a1.2.2 (fun h => ?_) hb
            rcases Nat.lt_or_ge (p - 2) eb with h3' | h3'
            · rcases Nat.lt_or_ge (ea + 1) (p - 2) with h4' | h4'
              · exact (sc_l h9).2.2 (p - 2) (by omega) (by omega)
              · have e : p - 2 = ea + 1 := by omega
                rw [e]; omega
            · exact (x2 (p - 2) h3' (by omega)).1
          · exact Or.inr ⟨hep2, hbp⟩
        · exfalso
          have e1 : p - 1 = ea := by omega
          refine sc_nbg (by omega) (by rw [e1]; omega) (by rw [e1]; omega) (fun h => ?_) hb
          rcases Nat.lt_or_ge a (p - 2) with h4' | h4'
          · exact (sc_l h5).2.2 (p - 2) (by omega) (by omega)
          · have e : p - 2 = a := by omega
            rw [e]; omega
      · exact Or.inl ⟨hap, hep⟩
    · exfalso
      have a1 := x1 (p - 1) (by omega) (by omega)
      refine sc_nbg (by omega) a1.2.1 a1.2.2 (fun h => ?_) hb
      rcases Nat.lt_or_ge (p - 2) x with h3' | h3'
      · have e : p - 2 = x - 1 := by omega
        rw [e]; exact h58 (by omega)
      · exact (x1 (p - 2) h3' (by omega)).1
theorem gr_s_59 {t : Nat → Nat} {x q : Nat} (hs : gr_s t x q) : t q = 59 := by
  rcases hs with ⟨o, h⟩ | h | h | ⟨a, ea, eb, h⟩
  · exact h.2.1
  · exact h.2.2
  · exact h.2.2.2
  · exact h.2.2.2.2.2.2.2.2.2.2.2
section
variable {f_textCap f_stackCap f_depthCap f_ready f_stackTop f_point f_frameCount f_valueTop f_operatorTop : Int32} {a_cells a_stack a_frames a_inverse a_invFirst a_invBegin a_values a_operators : Nat → Int32}
variable {t : Nat → Nat} {n : Nat} {post : SX → Prop} {pf : Nat → Int32}
/-- the semicolon of a statement, and the rest of its list -/
theorem xr_tail (X : xp_tx t n) {x q e l : Nat} {st : List Nat} {T T1 : Nat → Nat → Int32} {lv : Int32} (hs : gr_s t x q) (hpt : sc_pt t n x l e) (hb : sc_bg t x) (hqe : q < e)
    (hM : xt_M t n T T1) (h0 : T1 0 x = xt_S t n 0 x) (h7 : T1 7 x = xt_S t n 7 x) (hl : T1 2 l = xt_S t n 2 l)
    (h56 : t x = 63 ∨ t x = 64 → T1 5 x = xt_S t n 5 x ∧ T1 6 x = xt_S t n 6 x)
    (hV : ∀ k i, x < i → i ≤ q → xt_C t n x e k i → T1 k i = xt_S t n k i)
    (hK : ∀ T', xt_M t n T T' → xt_V t n T' x e → T' 1 l = nI e → xt_F T' e → xp_V post t n st e (nI l) (xt_S t n 2 l) T' pf f_textCap f_stackCap f_depthCap f_ready f_stackTop f_point f_frameCount f_valueTop f_operatorTop a_cells a_stack a_frames a_inverse a_invFirst a_invBegin a_values a_operators)
    (hF : xt_F T1 (q + 1))
    (ih : ∀ T2, xt_M t n T1 T2 → xt_F T2 (q + 1) → T2 2 l = xt_S t n 2 l → (∀ T', xt_M t n T2 T' → xt_V t n T' (q + 1) e → T' 1 l = nI e → xt_F T' e → xp_V post t n st e (nI l) (xt_S t n 2 l) T' pf f_textCap f_stackCap f_depthCap f_ready f_stackTop f_point f_frameCount f_valueTop f_operatorTop a_cells a_stack a_frames a_inverse a_invFirst a_invBegin a_values a_operators) → xp_V post t n (76 :: st) (q + 1) (nI l) (xt_S t n 2 l) T2 pf f_textCap f_stackCap f_depthCap f_ready f_stackTop f_point f_frameCount f_valueTop f_operatorTop a_cells a_stack a_frames a_inverse a_invFirst a_invBegin a_values a_operators) :
    xp_V post t n (59 :: 76 :: st) q lv (nI x) T1 pf f_textCap f_stackCap f_depthCap f_ready f_stackTop f_point f_frameCount f_valueTop f_operatorTop a_cells a_stack a_frames a_inverse a_invFirst a_invBegin a_values a_operators := by
  have hXn := X.1
  obtain ⟨p1, p2, p3, p4, p5, p6⟩ := hpt
  have hlt := gr_S_lt hs
  have h59 := gr_s_59 hs
  have hFx : sc_Fst t x = l := sc_pt_fst ⟨p1, p2, p3, p4, p5, p6⟩
  have hss : sc_ss t n x := ⟨by omega, gr_S_sr hs⟩
  have hAf : sc_Af t n x = q + 1 := sc_Af_val hs (by omega)
  have hFq : sc_Fst t (q + 1) = l := sc_fo_val (by omega) (sc_l (gr_l_app p5 (gr_l_cons hs gr_l_nil))) (sc_cx_l p4)
  have hSb : sc_Sb t n (q + 1) = x := sc_Sb_val p5 hs (by omega) hFq
  have e3 : xt_S t n 3 x = nI (q + 1) := by rw [xt_S3, xt_if_t ⟨hb, hss⟩, hAf]
  have e4 : xt_S t n 4 (q + 1) = nI x := by rw [xt_S4, hSb]
  have m1 : xt_M t n T1 (xt_u T1 3 x (nI (q + 1))) := xt_M_u xt_M_r e3.symm
  have m2 : xt_M t n T1 (xt_u (xt_u T1 3 x (nI (q + 1))) 4 (q + 1) (nI x)) := xt_M_u m1 e4.symm
  refine xv_Zc (l' := l) X (by omega) (by omega) (by omega) h59 (by rw [h0, xt_S0, hFx]) ?_
  rw [hl]
  refine ih _ m2 (xt_F_u (xt_F_u hF (by omega)) (by omega)) (m2 2 l hl) (fun T' hM' hV' hle hF' => ?_)
  refine hK T' (xt_M_t hM (xt_M_t m2 hM')) ?_ hle hF'
  intro k i hC
  obtain ⟨c1, c2, c3, c4⟩ := hC
  rcases Nat.lt_or_ge q i with h1 | h1
  · by_cases h2 : k = 4 ∧ i = q + 1
    · obtain ⟨rfl, rfl⟩ := h2
      exact hM' 4 (q + 1) (by rw [xt_u_s]; exact e4.symm)
    · refine hV' k i ⟨h1, c2, c3, ?_⟩
      rcases c4 with h | ⟨h, h', h''⟩ | ⟨h, h', h''⟩ | h | h
      · exact Or.inl h
      · refine Or.inr (Or.inl ⟨h, ?_, h''⟩)
        rcases Nat.lt_or_ge (q + 1) i with h3 | h3
        · exact h3
        · have e : i - 1 = q := by omega
          rw [e] at h''; omega
      · exact Or.inr (Or.inr (Or.inl ⟨h, by omega, h''⟩))
      · exact Or.inr (Or.inr (Or.inr (Or.inl h)))
      · exact Or.inr (Or.inr (Or.inr (Or.inr h)))
  · rcases Nat.lt_or_ge x i with h2 | h2
    · exact hM' k i (m2 k i (hV k i h2 h1 ⟨c1, c2, c3, c4⟩))
    · have : i = x := by omega
      subst this
      rcases c4 with rfl | ⟨_, h', _⟩ | ⟨_, h', _⟩ | ⟨h, _⟩ | ⟨h, _, h63⟩
      · exact hM' 0 i (m2 0 i h0)
      · omega
      · omega
      · rcases h with rfl | rfl
        · refine hM' 3 i ?_
          rw [xt_u_n (by omega), xt_u_s]; exact e3.symm
        · exact hM' 7 i (m2 7 i h7)
      · rcases h with rfl | rfl
        · exact hM' 5 i (m2 5 i (h56 h63).1)
        · exact hM' 6 i (m2 6 i (h56 h63).2)
theorem xr_L (X : xp_tx t n) : ∀ f x e l st T, gr_L t f x e → sc_cx t n l e → e ≤ n → gr_l t l x → sc_bg t x → xt_F T x → xt_Z t n T → T 2 l = xt_S t n 2 l →
    (∀ T', xt_M t n T T' → xt_V t n T' x e → T' 1 l = nI e → xt_F T' e → xp_V post t n st e (nI l) (xt_S t n 2 l) T' pf f_textCap f_stackCap f_depthCap f_ready f_stackTop f_point f_frameCount f_valueTop f_operatorTop a_cells a_stack a_frames a_inverse a_invFirst a_invBegin a_values a_operators) →
    xp_V post t n (76 :: st) x (nI l) (xt_S t n 2 l) T pf f_textCap f_stackCap f_depthCap f_ready f_stackTop f_point f_frameCount f_valueTop f_operatorTop a_cells a_stack a_frames a_inverse a_invFirst a_invBegin a_values a_operators := by
  intro f
  have hXn := X.1
  -- the end of the list
  have hend : ∀ x l st T, sc_cx t n l x → x ≤ n → gr_l t l x → xt_F T x →
      (∀ T', xt_M t n T T' → xt_V t n T' x x → T' 1 l = nI x → xt_F T' x → xp_V post t n st x (nI l) (xt_S t n 2 l) T' pf f_textCap f_stackCap f_depthCap f_ready f_stackTop f_point f_frameCount f_valueTop f_operatorTop a_cells a_stack a_frames a_inverse a_invFirst a_invBegin a_values a_operators) → xp_V post t n (76 :: st) x (nI l) (xt_S t n 2 l) T pf f_textCap f_stackCap f_depthCap f_ready f_stackTop f_point f_frameCount f_valueTop f_operatorTop a_cells a_stack a_frames a_inverse a_invFirst a_invBegin a_values a_operators := by
    intro x l st T hc hx hl hF hK
    have hle := gr_l_le hl
    have hpt : sc_pt t n x l x := ⟨hle, Nat.le_refl _, hx, hc, hl, gr_l_nil⟩
    have hpl : sc_pt t n l l x := ⟨Nat.le_refl _, hle, hx, hc, gr_l_nil, hl⟩
    have e0 : xt_S t n 0 x = nI l := by rw [xt_S0, sc_pt_fst hpt]
    have e1 : xt_S t n 1 l = nI x := by rw [xt_S1, sc_pt_end hpl]
    refine xv_L5 X hx (by omega) ?_ (hK _ (xt_M_u (xt_M_u xt_M_r e0.symm) e1.symm) ?_ xt_u_s (xt_F_u (xt_F_u hF (by omega)) (by omega)))
    · rcases sc_pt_cases hpt with ⟨_, h⟩ | ⟨q, hs, hq, _⟩
      · exact h
      · have := gr_S_lt hs; omega
    · rintro k i ⟨c1, c2, c3, c4⟩
      have : i = x := by omega
      subst this
      rcases c4 with rfl | ⟨_, h, _⟩ | ⟨_, h, _⟩ | ⟨_, _, h⟩ | ⟨_, h, _⟩
      · rw [xt_u_n (by omega), xt_u_s]; exact e0.symm
      · omega
      · omega
      · omega
      · omega
  induction f with
  | zero =>
    intro x e l st T h hc he hl _ hF _ _ hK
    cases h
    exact hend x l st T hc he hl hF hK
  | succ f ih =>
    intro x e l st T h hc he hl hb hF hZ h2 hK
    have hxe : gr_l t x e := ⟨f + 1, h⟩
    rcases h with rfl | ⟨q, hS, hL⟩
    · exact hend x l st T hc he hl hF hK
    have hs : gr_s t x q := gr_S_s hS
    have hqe := gr_L_le _ _ _ hL
    have hxq := gr_S_lt hs
    have hlx := gr_l_le hl
    have hpt : sc_pt t n x l e := ⟨hlx, by omega, he, hc, hl, hxe⟩
    have h59 := gr_s_59 hs
    have h58 : 1 ≤ x → t (x - 1) ≠ 58 := sc_ne58 hc hl
    have hss : sc_ss t n x := ⟨by omega, gr_S_sr hs⟩
    have e0 : xt_S t n 0 x = nI l := by rw [xt_S0, sc_pt_fst hpt]
    have m0 : xt_M t n T (xt_u T 0 x (nI l)) := xt_M_u xt_M_r e0.symm
    have hrest : ∀ T1, xt_M t n T T1 → ∀ T2, xt_M t n T1 T2 → xt_F T2 (q + 1) → T2 2 l = xt_S t n 2 l → (∀ T', xt_M t n T2 T' → xt_V t n T' (q + 1) e → T' 1 l = nI e → xt_F T' e → xp_V post t n st e (nI l) (xt_S t n 2 l) T' pf f_textCap f_stackCap f_depthCap f_ready f_stackTop f_point f_frameCount f_valueTop f_operatorTop a_cells a_stack a_frames a_inverse a_invFirst a_invBegin a_values a_operators) → xp_V post t n (76 :: st) (q + 1) (nI l) (xt_S t n 2 l) T2 pf f_textCap f_stackCap f_depthCap f_ready f_stackTop f_point f_frameCount f_valueTop f_operatorTop a_cells a_stack a_frames a_inverse a_invFirst a_invBegin a_values a_operators :=
      fun T1 hm1 T2 hm2 hF2 h22 hK2 => ih (q + 1) e l st T2 hL hc he (gr_l_app hl (gr_l_cons hs gr_l_nil)) (sc_bg_1 (Or.inl h59)) hF2 (xt_Z_M hZ (xt_M_t hm1 hm2)) h22 hK2
    rcases hS with ⟨o, hU⟩ | hU | hU | ⟨a, ea, eb, hB⟩
    · -- UPDATE or SWAP
      have hU' := hU
      obtain ⟨hT, _, hr⟩ := hU'
      have hxo := gr_T_lt hT
      have hoq : o < q := by
        rcases hr with ⟨_, h⟩ | ⟨_, h⟩
        · have := gr_E_ne h; omega
        · have := gr_T_lt h; omega
      have e7 : xt_S t n 7 x = nI o := by rw [xt_S7, xt_if_t ⟨hb, hss, gr_T_sr hT⟩, sc_Te_val hT (by omega)]
      have hx63 : ¬ (t x = 63 ∨ t x = 64) := by have := gr_U_pl hU (Nat.le_refl _) hxq; unfold gr_pl at this; omega
      have m1 : xt_M t n T (xt_u (xt_u T 0 x (nI l)) 7 x (nI o)) := xt_M_u m0 e7.symm
      have htail : xp_V post t n (59 :: 76 :: st) q (nI l) (nI x) (xt_u (xt_u T 0 x (nI l)) 7 x (nI o)) pf f_textCap f_stackCap f_depthCap f_ready f_stackTop f_point f_frameCount f_valueTop f_operatorTop a_cells a_stack a_frames a_inverse a_invFirst a_invBegin a_values a_operators := by
        refine xr_tail X hs hpt hb (by omega) m1 (by rw [xt_u_n (by omega), xt_u_s]; exact e0.symm) (by rw [xt_u_s]; exact e7.symm) (m1 2 l h2) (fun h => (hx63 h).elim) (fun k i h3 h4 h5 => ?_) hK (xt_F_u (xt_F_u (xt_F_le hF (by omega)) (by omega)) (by omega)) (hrest _ m1)
        obtain ⟨a, ea, eb, hB, _⟩ := sc_in hs h58 h3 h4 h5.2.2.1
        exact (hx63 hB.1).elim
      refine xv_L1 X (by omega) (gr_T_sr hT) (xv_T X hT (by omega) ?_)
      rcases hr with ⟨ho, hE⟩ | ⟨ho, hT2⟩
      · exact xv_U1 X (by omega) (by omega) ho (xv_E X hE (by omega) (by rw [h59]; rfl) htail)
      · exact xv_U2 X (by omega) (by omega) ho (xv_T X hT2 (by omega) htail)
    · -- stack
      have hU' := hU
      obtain ⟨hx, hT, _⟩ := hU'
      have e7 : xt_S t n 7 x = -1 := by rw [xt_S7]; exact xt_if_f (fun h => by have := h.2.2; unfold gr_vr at this; omega)
      have hx63 : ¬ (t x = 63 ∨ t x = 64) := by omega
      refine xv_L2 X (by omega) hx (xv_T X hT (by omega) ?_)
      refine xr_tail X hs hpt hb (by omega) m0 (by rw [xt_u_s]; exact e0.symm) (m0 7 x (hZ 7 x (by omega) (by omega) e7)) (m0 2 l h2) (fun h => (hx63 h).elim) (fun k i h3 h4 h5 => ?_) hK (xt_F_u (xt_F_le hF (by omega)) (by omega)) (hrest _ m0)
      obtain ⟨a, ea, eb, hB, _⟩ := sc_in hs h58 h3 h4 h5.2.2.1
      exact (hx63 hB.1).elim
    · -- CALL or UNCALL
      have hU' := hU
      obtain ⟨hx, hN, rfl, _⟩ := hU'
      have e7 : xt_S t n 7 x = -1 := by rw [xt_S7]; exact xt_if_f (fun h => by have := h.2.2; unfold gr_vr at this; omega)
      have hx63 : ¬ (t x = 63 ∨ t x = 64) := by omega
      refine xv_L3 X (by omega) hx (xv_N X (by omega) hN ?_)
      refine xr_tail X hs hpt hb (by omega) m0 (by rw [xt_u_s]; exact e0.symm) (m0 7 x (hZ 7 x (by omega) (by omega) e7)) (m0 2 l h2) (fun h => (hx63 h).elim) (fun k i h3 h4 h5 => ?_) hK (xt_F_u (xt_F_le hF (by omega)) (by omega)) (hrest _ m0)
      obtain ⟨a, ea, eb, hB, _⟩ := sc_in hs h58 h3 h4 h5.2.2.1
      exact (hx63 hB.1).elim
    · -- IF or LOOP
      have hb' : gr_b t x a ea eb q := gr_B_mono (fun _ _ h => ⟨f, h⟩) hB
      obtain ⟨v1, v2, _, v4, v5, b1, b2, b3, b4⟩ := sc_b_val hb' (n := n) (by omega)
      obtain ⟨w1, w2⟩ := sc_Ow_val hb'
      obtain ⟨h1, hE1, h3, h4, hA, h6, h7, h8, hB', h10, hE2, h12⟩ := hB
      have e7 : xt_S t n 7 x = -1 := by rw [xt_S7]; exact xt_if_f (fun h => by have := h.2.2; unfold gr_vr at this; omega)
      have e2a : xt_S t n 2 (a + 1) = nI x := by rw [xt_S2, xt_if_t ⟨by omega, by rw [Nat.add_sub_cancel]; exact h3⟩, w1]
      have e2b : xt_S t n 2 (ea + 2) = nI x := by rw [xt_S2, xt_if_t ⟨by omega, h7⟩, w2]
      have e5 : xt_S t n 5 x = nI (a + 1) := by rw [xt_S5, v1]
      have e6 : xt_S t n 6 x = nI (ea + 2) := by rw [xt_S6, v2]
      have ma : xt_M t n T (xt_u (xt_u (xt_u T 0 x (nI l)) 2 (a + 1) (nI x)) 5 x (nI (a + 1))) := xt_M_u (xt_M_u m0 e2a.symm) e5.symm
      refine xv_L4 X (by omega) h1 (xv_E X hE1 (by omega) (by rw [h3]; rfl) (xv_ZA X (by omega) (by omega) h3 (by rw [xt_u_n (by omega)]; exact hF x (Nat.le_refl _) (by omega)) ?_))
      rw [← e2a]
      refine ih (a + 1) ea (a + 1) _ _ hA (Or.inr ⟨x, a, ea, eb, q, hb, by omega, hb', Or.inl ⟨rfl, rfl⟩⟩) (by omega) gr_l_nil (sc_bg_1 (Or.inr h3)) ?_ ?_ ?_ ?_
      · rw [e2a]
        exact xt_F_u (xt_F_u (xt_F_u (xt_F_le hF (by omega)) (by omega)) (by omega)) (by omega)
      · rw [e2a]; exact xt_Z_M hZ ma
      · rw [e2a, xt_u_n (by omega), xt_u_s]
      rw [e2a]
      intro T3 hM3 hV3 hle3 hF3
      have m3 := xt_M_t ma hM3
      have t5 : T3 5 x = nI (a + 1) := by rw [← e5]; exact hM3 5 x (by rw [xt_u_s]; exact e5.symm)
      have mb : xt_M t n T (xt_u (xt_u T3 2 (ea + 2) (nI x)) 6 x (nI (ea + 2))) := xt_M_u (xt_M_u m3 e2b.symm) e6.symm
      refine xv_Z X (by omega) (by omega) h6 (xv_ZB X (by omega) (by omega) h7 (by omega) t5 ?_)
      have goal2 : xp_V post t n (76 :: 125 :: 69 :: 59 :: 76 :: st) (ea + 2) (nI (ea + 2)) (xt_S t n 2 (ea + 2)) (xt_u (xt_u T3 2 (ea + 2) (nI x)) 6 x (nI (ea + 2))) pf f_textCap f_stackCap f_depthCap f_ready f_stackTop f_point f_frameCount f_valueTop f_operatorTop a_cells a_stack a_frames a_inverse a_invFirst a_invBegin a_values a_operators := by
        refine ih (ea + 2) eb (ea + 2) _ _ hB' (Or.inr ⟨x, a, ea, eb, q, hb, by omega, hb', Or.inr ⟨rfl, rfl⟩⟩) (by omega) gr_l_nil (sc_bg_1 (p := ea + 1) (Or.inr h7)) ?_ ?_ ?_ ?_
        · exact xt_F_u (xt_F_u (xt_F_le hF3 (by omega)) (by omega)) (by omega)
        · exact xt_Z_M hZ mb
        · rw [xt_u_n (by omega), xt_u_s, e2b]
        intro T5 hM5 hV5 hle5 hF5
        rw [e2b]
        have m5 := xt_M_t mb hM5
        have m35 : xt_M t n T3 T5 := xt_M_t (xt_M_u (xt_M_u xt_M_r e2b.symm) e6.symm) hM5
        refine xv_Z X (by omega) (by omega) h10 (xv_E X hE2 (by omega) (by rw [h12]; rfl) ?_)
        refine xr_tail X hs hpt hb (by omega) m5 (m35 0 x (hM3 0 x ?_)) (m5 7 x (hZ 7 x (by omega) (by omega) e7)) (m5 2 l h2) (fun _ => ⟨m35 5 x (t5.trans e5.symm), hM5 6 x (by rw [xt_u_s]; exact e6.symm)⟩) (fun k i hi1 hi2 hC => ?_) hK (xt_F_le hF5 (by omega)) (hrest _ m5)
        · rw [xt_u_n (by omega), xt_u_n (by omega), xt_u_s]; exact e0.symm
        · obtain ⟨a', ea', eb', hB2, hin⟩ := sc_in hs h58 hi1 hi2 hC.2.2.1
          obtain ⟨v1', v2', _, v4', v5', _⟩ := sc_b_val hB2 (n := n) (by omega)
          have ea1 : a' = a := by omega
          subst ea1
          have ea2 : ea' = ea := by omega
          subst ea2
          have ea3 : eb' = eb := by omega
          subst ea3
          obtain ⟨c1, c2, c3, c4⟩ := hC
          rcases hin with ⟨i1, i2⟩ | ⟨i1, i2⟩
          · -- in A
            have hiA : i = ea' → t i = 125 := fun e => by rw [e]; exact h6
            rcases c4 with h | ⟨h, h', h''⟩ | ⟨h, h', h''⟩ | ⟨h, h', h''⟩ | ⟨h, h', h''⟩
            · exact m35 k i (hV3 k i ⟨i1, i2, c3, Or.inl h⟩)
            · rcases Nat.lt_or_ge (a' + 1) i with h9 | h9
              · exact m35 k i (hV3 k i ⟨i1, i2, c3, Or.inr (Or.inl ⟨h, h9, h''⟩)⟩)
              · have : i = a' + 1 := by omega
                subst this
                rcases h with rfl | rfl
                · refine m35 1 _ ?_
                  rw [hle3, xt_S1, v4]
                · refine m35 2 _ (hM3 2 _ ?_)
                  rw [xt_u_n (by omega), xt_u_s, e2a]
            · refine m35 k i (hV3 k i ⟨i1, i2, c3, Or.inr (Or.inr (Or.inl ⟨h, ?_, h''⟩))⟩)
              rcases Nat.lt_or_ge (a' + 1) i with h9 | h9
              · exact h9
              · have e : i - 1 = a' := by omega
                rw [e] at h''; omega
            · refine m35 k i (hV3 k i ⟨i1, i2, c3, Or.inr (Or.inr (Or.inr (Or.inl ⟨h, h', ?_⟩)))⟩)
              rcases Nat.lt_or_ge i ea' with h9 | h9
              · exact h9
              · have := hiA (by omega)
                have := h'.2; unfold sc_sr gr_vr at this; omega
            · refine m35 k i (hV3 k i ⟨i1, i2, c3, Or.inr (Or.inr (Or.inr (Or.inr ⟨h, ?_, h''⟩)))⟩)
              rcases Nat.lt_or_ge i ea' with h9 | h9
              · exact h9
              · have := hiA (by omega)
                omega
          · -- in B
            have hiB : i = eb' → t i = 125 := fun e => by rw [e]; exact h10
            rcases c4 with h | ⟨h, h', h''⟩ | ⟨h, h', h''⟩ | ⟨h, h', h''⟩ | ⟨h, h', h''⟩
            · exact hV5 k i ⟨i1, i2, c3, Or.inl h⟩
            · rcases Nat.lt_or_ge (ea' + 2) i with h9 | h9
              · exact hV5 k i ⟨i1, i2, c3, Or.inr (Or.inl ⟨h, h9, h''⟩)⟩
              · have : i = ea' + 2 := by omega
                subst this
                rcases h with rfl | rfl
                · rw [hle5, xt_S1, v5]
                · refine hM5 2 _ ?_
                  rw [xt_u_n (by omega), xt_u_s, e2b]
            · refine hV5 k i ⟨i1, i2, c3, Or.inr (Or.inr (Or.inl ⟨h, ?_, h''⟩))⟩
              rcases Nat.lt_or_ge (ea' + 2) i with h9 | h9
              · exact h9
              · have e : i - 1 = ea' + 1 := by omega
                rw [e] at h''; omega
            · refine hV5 k i ⟨i1, i2, c3, Or.inr (Or.inr (Or.inr (Or.inl ⟨h, h', ?_⟩)))⟩
              rcases Nat.lt_or_ge i eb' with h9 | h9
              · exact h9
              · have := hiB (by omega)
                have := h'.2; unfold sc_sr gr_vr at this; omega
            · refine hV5 k i ⟨i1, i2, c3, Or.inr (Or.inr (Or.inr (Or.inr ⟨h, ?_, h''⟩)))⟩
              rcases Nat.lt_or_ge i eb' with h9 | h9
              · exact h9
              · have := hiB (by omega)
                omega
      rw [e2b] at goal2
      exact goal2
end
end
section
/-! X's parser over a whole text of right syntax -/
/-- the entries that are owed in the end -/
def xt_D (t : Nat → Nat) (n k i : Nat) : Prop := sc_bg t i ∧ (k = 0 ∨ (k = 1 ∧ (i = 0 ∨ t (i - 1) = 123 ∨ (2 ≤ i ∧ t (i - 2) = 58))) ∨ (k = 2 ∧ 1 ≤ i ∧ t (i - 1) = 123) ∨ (k = 4 ∧ 1 ≤ i ∧ t (i - 1) = 59) ∨ ((k = 3 ∨ k = 7) ∧ sc_ss t n i) ∨ ((k = 5 ∨ k = 6) ∧ i < n ∧ (t i = 63 ∨ t i = 64)))
def xt_T (t : Nat → Nat) (n : Nat) (T : Nat → Nat → Int32) : Prop := xt_Z t n T ∧ ∀ k i, i ≤ n → xt_D t n k i → T k i = xt_S t n k i
def xt_P (t : Nat → Nat) (n : Nat) (T : Nat → Nat → Int32) (e : Nat) : Prop := ∀ k i, i ≤ e → xt_D t n k i → T k i = xt_S t n k i
def xp_op (o : Option Nat) : Int32 := match o with
  | none => -1
  | some v => nI v
def xp_pr (t : Nat → Nat) (pf : Nat → Int32) (lim : Nat) : Prop := ∀ c, gr_nm c → pf (c - 65) = xp_op (sc_Body t c lim)
theorem sc_bo_app {t : Nat → Nat} {c : Nat} (d2 : Nat) : ∀ d1 k, sc_bo t c (d1 + d2) k = (sc_bo t c d1 k).elim (sc_bo t c d2 (k + d1)) some := by
  intro d1
  induction d1 with
  | zero => intro k; rw [Nat.zero_add, sc_bo, Nat.add_zero]; rfl
  | succ d1 ih =>
    intro k
    have e : d1 + 1 + d2 = (d1 + d2) + 1 := by omega
    rw [e, sc_bo, sc_bo]
    by_cases h : t k = 58 ∧ t (k + 1) = c
    · rw [if_pos h, if_pos h]; rfl
    · rw [if_neg h, if_neg h, ih]
      have e2 : k + 1 + d1 = k + (d1 + 1) := by omega
      rw [e2]
theorem sc_bo_none {t : Nat → Nat} {c : Nat} : ∀ d k, (∀ j, k ≤ j → j < k + d → ¬ (t j = 58 ∧ t (j + 1) = c)) → sc_bo t c d k = none := by
  intro d
  induction d with
  | zero => intro k _; rfl
  | succ d ih =>
    intro k h
    rw [sc_bo, if_neg (h k (Nat.le_refl _) (by omega))]
    exact ih (k + 1) (fun j h1 h2 => h j (by omega) (by omega))
theorem sc_Body_ext {t : Nat → Nat} {c x y : Nat} (hxy : x ≤ y) (h : ∀ j, x ≤ j + 1 → j + 1 < y → t j ≠ 58) : sc_Body t c y = sc_Body t c x := by
  unfold sc_Body
  have e : y - 1 = (x - 1) + (y - 1 - (x - 1)) := by omega
  rw [e, sc_bo_app, sc_bo_none (y - 1 - (x - 1)) (0 + (x - 1)) (fun j h1 h2 h3 => h j (by omega) (by omega) h3.1)]
  cases sc_bo t c (x - 1) 0 <;> rfl
theorem sc_Body_def {t : Nat → Nat} {c p : Nat} (h : t p = 58) (h58 : 1 ≤ p → t (p - 1) ≠ 58) : sc_Body t c (p + 2) = (sc_Body t c p).elim (if t (p + 1) = c then some (p + 2) else none) some := by
  have e0 : sc_Body t c (p + 1) = sc_Body t c p := sc_Body_ext (by omega) (fun j h1 h2 => by
    have : j = p - 1 := by omega
    rw [this]; exact h58 (by omega))
  rw [← e0]
  unfold sc_Body
  have e1 : p + 2 - 1 = p + 1 := by omega
  have e2 : p + 1 - 1 = p := by omega
  rw [e1, e2, sc_bo_app 1 p 0]
  have e3 : sc_bo t c 1 (0 + p) = if t (p + 1) = c then some (p + 2) else none := by
    rw [Nat.zero_add, sc_bo]
    by_cases hc : t (p + 1) = c
    · rw [if_pos ⟨h, hc⟩, if_pos hc]
    · rw [if_neg (fun z => hc z.2), if_neg hc]; rfl
  rw [e3]
theorem xp_pr_0 {t : Nat → Nat} {pf : Nat → Int32} (h : ∀ i, i < 4 → pf i = -1) : xp_pr t pf 0 := by
  intro c hc
  unfold gr_nm at hc
  rw [h _ (by omega)]; rfl
theorem xp_pr_def {t : Nat → Nat} {pf : Nat → Int32} {p : Nat} (hp : xp_pr t pf p) (hp2 : p < 1000) (hc : gr_nm (t (p + 1))) (h : t p = 58) (h58 : 1 ≤ p → t (p - 1) ≠ 58) : xp_pr t (xp_pf pf (t (p + 1)) (nI (p + 2))) (p + 2) := by
  intro c hc'
  rw [sc_Body_def h h58]
  have hpc := hp c hc'
  unfold xp_pf
  have hp1 := hp _ hc
  by_cases e : t (p + 1) = c
  · rw [e] at hp1 ⊢
    rw [if_pos rfl]
    cases hB : sc_Body t c p with
    | none =>
      rw [hB] at hpc
      have hpc' : pf (c - 65) = -1 := hpc
      rw [if_neg (by rw [hpc']; decide), pk_us]; rfl
    | some v =>
      rw [hB] at hpc
      have hv : v < 2 ^ 31 := by
        have hb : ∀ d k, sc_bo t c d k = some v → v ≤ k + d + 1 := by
          intro d
          induction d with
          | zero => intro k h; cases h
          | succ d ih =>
            intro k h
            rw [sc_bo] at h
            by_cases hk : t k = 58 ∧ t (k + 1) = c
            · rw [if_pos hk] at h; cases h; omega
            · rw [if_neg hk] at h; have := ih _ h; omega
        have := hb _ _ hB
        omega
      have hpc' : pf (c - 65) = nI v := hpc
      rw [if_pos (by rw [hpc']; exact nI_pos' hv), hpc']; rfl
  · rw [if_neg e]
    have e2 : c - 65 ≠ t (p + 1) - 65 := by unfold gr_nm at hc hc'; omega
    have e3 : (if 0 ≤ pf (t (p + 1) - 65) then pf else upd pf (t (p + 1) - 65) (nI (p + 2))) (c - 65) = pf (c - 65) := by
      split
      · rfl
      · exact pk_un e2
    rw [e3, hpc]
    cases sc_Body t c p <;> rfl
theorem xp_pr_ext {t : Nat → Nat} {pf : Nat → Int32} {x y : Nat} (hp : xp_pr t pf x) (hxy : x ≤ y) (h : ∀ j, x ≤ j + 1 → j + 1 < y → t j ≠ 58) : xp_pr t pf y := by
  intro c hc
  rw [sc_Body_ext hxy h]; exact hp c hc
section
variable {f_textCap f_stackCap f_depthCap f_ready f_stackTop f_point f_frameCount f_valueTop f_operatorTop : Int32} {a_cells a_stack a_frames a_inverse a_invFirst a_invBegin a_values a_operators : Nat → Int32}
variable {t : Nat → Nat} {n : Nat} {post : SX → Prop}
theorem xr_Q (X : xp_tx t n) (H : ∀ l o T pf sym, xt_T t n T → xp_pr t pf n → post (f_textCap, f_stackCap, f_depthCap, f_ready, nI n, f_stackTop, f_point, f_frameCount, 0, nI n, l, o, 0, -1, f_valueTop, f_operatorTop, fun j => nI (t j), a_cells, a_stack, a_frames, T 0, T 1, T 2, T 3, T 4, T 5, T 6, T 7, pf, a_inverse, a_invFirst, a_invBegin, sym, a_values, a_operators)) :
    ∀ f p l o T pf, gr_Q t n f p → p ≤ n → (1 ≤ p → t (p - 1) ≠ 58) → xt_Z t n T → xt_P t n T p → xt_F T p → xp_pr t pf p → xp_V post t n [80] p l o T pf f_textCap f_stackCap f_depthCap f_ready f_stackTop f_point f_frameCount f_valueTop f_operatorTop a_cells a_stack a_frames a_inverse a_invFirst a_invBegin a_values a_operators := by
  have hXn := X.1
  have hfin : ∀ l o T pf, xt_Z t n T → xt_P t n T n → xp_pr t pf n → xp_V post t n [80] n l o T pf f_textCap f_stackCap f_depthCap f_ready f_stackTop f_point f_frameCount f_valueTop f_operatorTop a_cells a_stack a_frames a_inverse a_invFirst a_invBegin a_values a_operators := fun l o T pf h1 h2 h3 => xv_P2 X (xp_end (fun sym => H l o T pf sym ⟨h1, h2⟩ h3))
  intro f
  induction f with
  | zero =>
    intro p l o T pf h _ _ hZ hP _ hpr
    have : p = n := h
    subst this
    exact hfin l o T pf hZ hP hpr
  | succ f ih =>
    intro p l o T pf h hp h58 hZ hP hF hpr
    rcases h with rfl | ⟨h3, h4, h5, e, he, hl, hQ⟩
    · exact hfin l o T pf hZ hP hpr
    have hQe : e = n ∨ t e = 58 := by
      cases f with
      | zero => exact Or.inl hQ
      | succ f =>
        rcases hQ with h | ⟨_, h, _⟩
        · exact Or.inl h
        · exact Or.inr h
    have hcx : sc_cx t n (p + 2) e := Or.inl ⟨Or.inr ⟨by omega, h4, h5⟩, hQe⟩
    have e2 : xt_S t n 2 (p + 2) = -1 := by
      rw [xt_S2]; exact xt_if_f (fun h => by have e : p + 2 - 1 = p + 1 := by omega
                                             have := h.2; rw [e] at this; unfold gr_nm at h5; omega)
    have hle := gr_l_le hl
    obtain ⟨g, hg⟩ := hl
    have h58' := (sc_L _ _ _ hg).2.2
    have hL : xp_V post t n (76 :: [80]) (p + 2) (nI (p + 2)) (xt_S t n 2 (p + 2)) T (xp_pf pf (t (p + 1)) (nI (p + 2))) f_textCap f_stackCap f_depthCap f_ready f_stackTop f_point f_frameCount f_valueTop f_operatorTop a_cells a_stack a_frames a_inverse a_invFirst a_invBegin a_values a_operators := by
      refine xr_L X g (p + 2) e (p + 2) [80] T hg hcx he gr_l_nil (sc_bg_2 h4) (xt_F_le hF (by omega)) hZ (hZ 2 (p + 2) (by omega) (by omega) e2) (fun T' hM hV hle' hF' => ?_)
      refine ih e _ _ T' _ hQ he (sc_ne58 hcx ⟨g, hg⟩) (xt_Z_M hZ hM) ?_ hF' (xp_pr_ext (xp_pr_def hpr (by omega) h5 h4 h58) hle (fun j j1 j2 => ?_))
      · intro k i hi hD
        rcases Nat.lt_or_ge p i with i1 | i1
        · rcases Nat.lt_or_ge (p + 1) i with i2 | i2
          · obtain ⟨d1, d2⟩ := hD
            have hie : sc_ss t n i → i < e := fun h => by
              rcases Nat.lt_or_ge i e with h' | h'
              · exact h'
              · have : i = e := by omega
                subst this
                have := h.1; have := h.2; unfold sc_sr gr_vr at this; omega
            rcases d2 with h | ⟨rfl, h⟩ | ⟨rfl, h, h'⟩ | ⟨rfl, h, h'⟩ | ⟨h, h'⟩ | ⟨h, h', h''⟩
            · exact hV k i ⟨i2, hi, d1, Or.inl h⟩
            · rcases h with h | h | ⟨h, h'⟩
              · omega
              · rcases Nat.lt_or_ge (p + 2) i with i3 | i3
                · exact hV 1 i ⟨i2, hi, d1, Or.inr (Or.inl ⟨Or.inl rfl, i3, h⟩)⟩
                · have ei : i - 1 = p + 1 := by omega
                  rw [ei] at h; unfold gr_nm at h5; omega
              · rcases Nat.lt_or_ge (p + 2) i with i3 | i3
                · exfalso
                  rcases Nat.lt_or_ge (p + 3) i with i4 | i4
                  · exact h58' (i - 2) (by omega) (by omega) h'
                  · have ei : i - 2 = p + 1 := by omega
                    rw [ei] at h'; unfold gr_nm at h5; omega
                · have : i = p + 2 := by omega
                  subst this
                  rw [hle', xt_S1, sc_pt_end (t := t) (n := n) (p := p + 2) (l := p + 2) (e := e) ⟨Nat.le_refl _, hle, he, hcx, gr_l_nil, ⟨g, hg⟩⟩]
            · rcases Nat.lt_or_ge (p + 2) i with i3 | i3
              · exact hV 2 i ⟨i2, hi, d1, Or.inr (Or.inl ⟨Or.inr rfl, i3, h'⟩)⟩
              · have ei : i - 1 = p + 1 := by omega
                rw [ei] at h'; unfold gr_nm at h5; omega
            · rcases Nat.lt_or_ge (p + 2) i with i3 | i3
              · exact hV 4 i ⟨i2, hi, d1, Or.inr (Or.inr (Or.inl ⟨rfl, i3, h'⟩))⟩
              · have ei : i - 1 = p + 1 := by omega
                rw [ei] at h'; unfold gr_nm at h5; omega
            · exact hV k i ⟨i2, hi, d1, Or.inr (Or.inr (Or.inr (Or.inl ⟨h, h', hie h'⟩)))⟩
            · exact hV k i ⟨i2, hi, d1, Or.inr (Or.inr (Or.inr (Or.inr ⟨h, hie ⟨h', by unfold sc_sr; omega⟩, h''⟩)))⟩
          · have : i = p + 1 := by omega
            subst this
            exfalso
            refine sc_nbg (by omega) ?_ ?_ (fun h => ?_) hD.1
            · rw [Nat.add_sub_cancel]; omega
            · rw [Nat.add_sub_cancel]; omega
            · have e' : p + 1 - 2 = p - 1 := by omega
              rw [e']; exact h58 (by omega)
        · exact hM k i (hP k i i1 hD)
      · rcases Nat.lt_or_ge j (p + 2) with j3 | j3
        · have : j = p + 1 := by omega
          subst this; unfold gr_nm at h5; omega
        · exact h58' j j3 (by omega)
    rw [e2] at hL
    exact xv_P1 X (by omega) h4 (xv_D X (by omega) h5 hL)
theorem xr_G (X : xp_tx t n) (hG : gr_G t n) (H : ∀ l o T pf sym, xt_T t n T → xp_pr t pf n → post (f_textCap, f_stackCap, f_depthCap, f_ready, nI n, f_stackTop, f_point, f_frameCount, 0, nI n, l, o, 0, -1, f_valueTop, f_operatorTop, fun j => nI (t j), a_cells, a_stack, a_frames, T 0, T 1, T 2, T 3, T 4, T 5, T 6, T 7, pf, a_inverse, a_invFirst, a_invBegin, sym, a_values, a_operators))
    {T : Nat → Nat → Int32} {pf : Nat → Int32} (hZ : xt_Z t n T) (hF : xt_F T 0) (hpf : ∀ i, i < 4 → pf i = -1) :
    xp_V post t n [76, 80] 0 0 (-1) T pf f_textCap f_stackCap f_depthCap f_ready f_stackTop f_point f_frameCount f_valueTop f_operatorTop a_cells a_stack a_frames a_inverse a_invFirst a_invBegin a_values a_operators := by
  obtain ⟨e, he, hl, f, hQ⟩ := hG
  have e2 : xt_S t n 2 0 = -1 := by
    rw [xt_S2]; exact xt_if_f (fun h => by have := h.1; omega)
  have hQe : e = n ∨ t e = 58 := by
    cases f with
    | zero => exact Or.inl hQ
    | succ f =>
      rcases hQ with h | ⟨_, h, _⟩
      · exact Or.inl h
      · exact Or.inr h
  have hcx : sc_cx t n 0 e := Or.inl ⟨Or.inl rfl, hQe⟩
  obtain ⟨g, hg⟩ := hl
  have h58' := (sc_L _ _ _ hg).2.2
  have hL : xp_V post t n (76 :: [80]) 0 (nI 0) (xt_S t n 2 0) T pf f_textCap f_stackCap f_depthCap f_ready f_stackTop f_point f_frameCount f_valueTop f_operatorTop a_cells a_stack a_frames a_inverse a_invFirst a_invBegin a_values a_operators := by
    refine xr_L X g 0 e 0 [80] T hg hcx he gr_l_nil (Or.inl rfl) hF hZ (hZ 2 0 (by omega) (by omega) e2) (fun T' hM hV hle' hF' => ?_)
    refine xr_Q X H f e _ _ T' _ hQ he (sc_ne58 hcx ⟨g, hg⟩) (xt_Z_M hZ hM) ?_ hF' (xp_pr_ext (xp_pr_0 hpf) (Nat.zero_le _) (fun j j1 j2 => h58' j (Nat.zero_le _) (by omega)))
    intro k i hi hD
    obtain ⟨d1, d2⟩ := hD
    have hie : sc_ss t n i → i < e := fun h => by
      rcases Nat.lt_or_ge i e with h' | h'
      · exact h'
      · have : i = e := by omega
        subst this
        have := h.1; have := h.2; unfold sc_sr gr_vr at this; omega
    rcases d2 with h | ⟨rfl, h⟩ | ⟨rfl, h, h'⟩ | ⟨rfl, h, h'⟩ | ⟨h, h'⟩ | ⟨h, h', h''⟩
    · exact hV k i ⟨Nat.zero_le _, hi, d1, Or.inl h⟩
    · rcases h with rfl | h | ⟨h, h'⟩
      · rw [hle', xt_S1, sc_pt_end (t := t) (n := n) (p := 0) (l := 0) (e := e) ⟨Nat.le_refl _, Nat.zero_le _, he, hcx, gr_l_nil, ⟨g, hg⟩⟩]
      · rcases Nat.lt_or_ge 0 i with i3 | i3
        · exact hV 1 i ⟨Nat.zero_le _, hi, d1, Or.inr (Or.inl ⟨Or.inl rfl, i3, h⟩)⟩
        · have : i = 0 := by omega
          subst this
          rw [hle', xt_S1, sc_pt_end (t := t) (n := n) (p := 0) (l := 0) (e := e) ⟨Nat.le_refl _, Nat.zero_le _, he, hcx, gr_l_nil, ⟨g, hg⟩⟩]
      · exact absurd h' (h58' (i - 2) (Nat.zero_le _) (by omega))
    · exact hV 2 i ⟨Nat.zero_le _, hi, d1, Or.inr (Or.inl ⟨Or.inr rfl, h, h'⟩)⟩
    · exact hV 4 i ⟨Nat.zero_le _, hi, d1, Or.inr (Or.inr (Or.inl ⟨rfl, h, h'⟩))⟩
    · exact hV k i ⟨Nat.zero_le _, hi, d1, Or.inr (Or.inr (Or.inr (Or.inl ⟨h, h', hie h'⟩)))⟩
    · exact hV k i ⟨Nat.zero_le _, hi, d1, Or.inr (Or.inr (Or.inr (Or.inr ⟨h, hie ⟨h', by unfold sc_sr; omega⟩, h''⟩)))⟩
  rw [e2] at hL
  exact hL
end
end
section
/-! X: analyse up to the check of meaning -/
def xz_ok (lo le ow se sb fa fb op : Nat → Int32) (j : Nat) : Prop := lo j = 0 ∧ le j = 0 ∧ ow j = -1 ∧ se j = -1 ∧ sb j = -1 ∧ fa j = -1 ∧ fb j = -1 ∧ op j = -1
theorem xz_up {lo le ow se sb fa fb op : Nat → Int32} {i : Nat} (h : ∀ j, j < i → xz_ok lo le ow se sb fa fb op j) : ∀ j, j < i + 1 → xz_ok (upd lo i 0) (upd le i 0) (upd ow i (-1)) (upd se i (-1)) (upd sb i (-1)) (upd fa i (-1)) (upd fb i (-1)) (upd op i (-1)) j := by
  intro j hj
  by_cases e : j = i
  · subst e; exact ⟨pk_us, pk_us, pk_us, pk_us, pk_us, pk_us, pk_us, pk_us⟩
  · unfold xz_ok
    rw [pk_un e, pk_un e, pk_un e, pk_un e, pk_un e, pk_un e, pk_un e, pk_un e]
    exact h j (by omega)
section
variable {f_textCap f_stackCap f_depthCap f_ready f_size f_stackTop f_point f_frameCount f_symbolTop f_pos f_list f_open f_errorKind f_errorPos f_valueTop f_operatorTop : Int32} {a_text a_cells a_stack a_frames a_inverse a_invFirst a_invBegin a_symbols a_values a_operators : Nat → Int32}
variable {post : SX → Prop}
theorem xz_73 (a_listOf a_listEnd a_owner a_stmtEnd a_stmtBegin a_firstA a_firstB a_opAt : Nat → Int32) (H : ∀ a_procFirst, (∀ i, i < 4 → a_procFirst i = -1) → post (f_textCap, f_stackCap, f_depthCap, f_ready, f_size, f_stackTop, f_point, f_frameCount, f_symbolTop, f_pos, f_list, f_open, f_errorKind, f_errorPos, f_valueTop, f_operatorTop, a_text, a_cells, a_stack, a_frames, a_listOf, a_listEnd, a_owner, a_stmtEnd, a_stmtBegin, a_firstA, a_firstB, a_opAt, a_procFirst, a_inverse, a_invFirst, a_invBegin, a_symbols, a_values, a_operators)) : ∀ d i a_procFirst, i + d = 4 → (∀ j, j < i → a_procFirst j = -1) → ∀ n, d < n → wX_resetTables_73 post f_textCap f_stackCap f_depthCap f_ready f_size f_stackTop f_point f_frameCount f_symbolTop f_pos f_list f_open f_errorKind f_errorPos f_valueTop f_operatorTop n (nI i) a_text a_cells a_stack a_frames a_listOf a_listEnd a_owner a_stmtEnd a_stmtBegin a_firstA a_firstB a_opAt a_procFirst a_inverse a_invFirst a_invBegin a_symbols a_values a_operators := by
  intro d
  induction d with
  | zero =>
    intro i pf hi h n hn
    have : i = 4 := by omega
    subst this
    cases n with
    | zero => omega
    | succ n => exact br_t (by decide) (H pf h)
  | succ d ih =>
    intro i pf hi h n hn
    cases n with
    | zero => omega
    | succ n =>
      refine br_f (nI_ge (b := 4) (by omega) (by omega)) (And.intro (vp_in_nI (by omega) (by omega)) (nm_r (e' := upd pf i (-1)) (by rw [nI_clamp (by omega)]) (nm_r (nI_1 i) (ih (i + 1) _ (by omega) (fun j hj => ?_) n (by omega)))))
      by_cases e : j = i
      · rw [e]; exact pk_us
      · rw [pk_un e]; exact h j (by omega)
theorem xz_2 (H : ∀ a_listOf a_listEnd a_owner a_stmtEnd a_stmtBegin a_firstA a_firstB a_opAt a_procFirst, (∀ j, j < 201 → xz_ok a_listOf a_listEnd a_owner a_stmtEnd a_stmtBegin a_firstA a_firstB a_opAt j) → (∀ i, i < 4 → a_procFirst i = -1) → post (f_textCap, f_stackCap, f_depthCap, f_ready, f_size, f_stackTop, f_point, f_frameCount, f_symbolTop, f_pos, f_list, f_open, f_errorKind, f_errorPos, f_valueTop, f_operatorTop, a_text, a_cells, a_stack, a_frames, a_listOf, a_listEnd, a_owner, a_stmtEnd, a_stmtBegin, a_firstA, a_firstB, a_opAt, a_procFirst, a_inverse, a_invFirst, a_invBegin, a_symbols, a_values, a_operators)) (a_procFirst : Nat → Int32) :
    ∀ d i a_listOf a_listEnd a_owner a_stmtEnd a_stmtBegin a_firstA a_firstB a_opAt, i + d = 201 → (∀ j, j < i → xz_ok a_listOf a_listEnd a_owner a_stmtEnd a_stmtBegin a_firstA a_firstB a_opAt j) → ∀ n, d < n → wX_resetTables_2 post f_textCap f_stackCap f_depthCap f_ready f_size f_stackTop f_point f_frameCount f_symbolTop f_pos f_list f_open f_errorKind f_errorPos f_valueTop f_operatorTop n (nI i) a_text a_cells a_stack a_frames a_listOf a_listEnd a_owner a_stmtEnd a_stmtBegin a_firstA a_firstB a_opAt a_procFirst a_inverse a_invFirst a_invBegin a_symbols a_values a_operators := by
  intro d
  induction d with
  | zero =>
    intro i lo le ow se sb fa fb op hi h n hn
    have : i = 201 := by omega
    subst this
    cases n with
    | zero => omega
    | succ n => exact br_t (by decide) ⟨5, xz_73 lo le ow se sb fa fb op (fun pf hpf => H lo le ow se sb fa fb op pf h hpf) 4 0 a_procFirst rfl (fun j hj => by omega) 5 (by omega)⟩
  | succ d ih =>
    intro i lo le ow se sb fa fb op hi h n hn
    have hv : vp_in (nI i) 201 := vp_in_nI (by omega) (by omega)
    have ec : (nI i).toNatClampNeg = i := nI_clamp (by omega)
    cases n with
    | zero => omega
    | succ n =>
      refine br_f (nI_nlt (a := 200) (by omega) (by omega)) (And.intro hv (nm_r (e' := upd lo i 0) (by rw [ec]) (And.intro hv (nm_r (e' := upd le i 0) (by rw [ec]) (And.intro hv (nm_r (e' := upd ow i (-1)) (by rw [ec]) (And.intro hv (nm_r (e' := upd se i (-1)) (by rw [ec]) (And.intro hv (nm_r (e' := upd sb i (-1)) (by rw [ec]) (And.intro hv (nm_r (e' := upd fa i (-1)) (by rw [ec]) (And.intro hv (nm_r (e' := upd fb i (-1)) (by rw [ec]) (And.intro hv (nm_r (e' := upd op i (-1)) (by rw [ec]) (nm_r (nI_1 i) ?_)))))))))))))))))
      exact ih (i + 1) _ _ _ _ _ _ _ _ (by omega) (xz_up h) n (by omega)
theorem xz_reset {a_listOf a_listEnd a_owner a_stmtEnd a_stmtBegin a_firstA a_firstB a_opAt a_procFirst : Nat → Int32} (H : ∀ a_listOf a_listEnd a_owner a_stmtEnd a_stmtBegin a_firstA a_firstB a_opAt a_procFirst, (∀ j, j < 201 → xz_ok a_listOf a_listEnd a_owner a_stmtEnd a_stmtBegin a_firstA a_firstB a_opAt j) → (∀ i, i < 4 → a_procFirst i = -1) → post (f_textCap, f_stackCap, f_depthCap, f_ready, f_size, f_stackTop, f_point, f_frameCount, f_symbolTop, f_pos, f_list, f_open, f_errorKind, f_errorPos, f_valueTop, f_operatorTop, a_text, a_cells, a_stack, a_frames, a_listOf, a_listEnd, a_owner, a_stmtEnd, a_stmtBegin, a_firstA, a_firstB, a_opAt, a_procFirst, a_inverse, a_invFirst, a_invBegin, a_symbols, a_values, a_operators)) : wpX_resetTables post (f_textCap, f_stackCap, f_depthCap, f_ready, f_size, f_stackTop, f_point, f_frameCount, f_symbolTop, f_pos, f_list, f_open, f_errorKind, f_errorPos, f_valueTop, f_operatorTop, a_text, a_cells, a_stack, a_frames, a_listOf, a_listEnd, a_owner, a_stmtEnd, a_stmtBegin, a_firstA, a_firstB, a_opAt, a_procFirst, a_inverse, a_invFirst, a_invBegin, a_symbols, a_values, a_operators) := by
  unfold wpX_resetTables
  exact ⟨202, xz_2 H a_procFirst 201 0 _ _ _ _ _ _ _ _ rfl (fun j hj => by omega) 202 (by omega)⟩
end
section
variable {f_textCap f_stackCap f_depthCap f_ready f_size f_stackTop f_point f_frameCount f_symbolTop f_pos f_list f_open f_errorKind f_errorPos f_valueTop f_operatorTop : Int32} {a_text a_cells a_stack a_frames a_listOf a_listEnd a_owner a_stmtEnd a_stmtBegin a_firstA a_firstB a_opAt a_procFirst a_inverse a_invFirst a_invBegin a_symbols a_values a_operators : Nat → Int32}
variable {t : Nat → Nat} {n : Nat} {post : SX → Prop}
theorem xa_parse (hn : n ≤ 200) (H : xp_W post t n [76, 80] 0 f_textCap f_stackCap f_depthCap f_ready f_stackTop f_point f_frameCount 0 (-1) f_valueTop f_operatorTop a_cells a_stack a_frames a_listOf a_listEnd a_owner a_stmtEnd a_stmtBegin a_firstA a_firstB a_opAt a_procFirst a_inverse a_invFirst a_invBegin a_values a_operators) : wpX_parse post (f_textCap, f_stackCap, f_depthCap, f_ready, nI n, f_stackTop, f_point, f_frameCount, f_symbolTop, f_pos, f_list, f_open, 0, -1, f_valueTop, f_operatorTop, fun j => nI (t j), a_cells, a_stack, a_frames, a_listOf, a_listEnd, a_owner, a_stmtEnd, a_stmtBegin, a_firstA, a_firstB, a_opAt, a_procFirst, a_inverse, a_invFirst, a_invBegin, a_symbols, a_values, a_operators) := by
  unfold wpX_parse
  refine xh_push (s := 80) (st := []) rfl trivial (by decide) (fun s1 h1 => ?_)
  refine xh_push (s := 76) (st := [80]) rfl h1 (by decide) (fun s2 h2 => ?_)
  have hf : gr_fi 10 3 n [76, 80] 0 = 2 + 10 * n + 3 := rfl
  exact ⟨2040, H s2 0 2040 h2 (by omega) (by omega)⟩
/-- the tables as they are laid -/
theorem xt_init {lo le ow se sb fa fb op : Nat → Int32} (h : ∀ j, j < 201 → xz_ok lo le ow se sb fa fb op j) : ∃ T : Nat → Nat → Int32, T 0 = lo ∧ T 1 = le ∧ T 2 = ow ∧ T 3 = se ∧ T 4 = sb ∧ T 5 = fa ∧ T 6 = fb ∧ T 7 = op ∧ (∀ t n, xt_Z t n T) ∧ xt_F T 0 := by
  refine ⟨fun k => if k = 0 then lo else if k = 1 then le else if k = 2 then ow else if k = 3 then se else if k = 4 then sb else if k = 5 then fa else if k = 6 then fb else op, rfl, rfl, rfl, rfl, rfl, rfl, rfl, rfl, fun t n k i hk hi e => ?_, fun i _ hi => ?_⟩
  · obtain ⟨h0, h1, h2, h3, h4, h5, h6, h7⟩ := h i (by omega)
    rw [e]
    rcases hk with rfl | rfl | rfl
    · exact h2
    · exact h3
    · exact h7
  · exact (h i (by omega)).2.2.2.2.2.1
/-- analyse of a text of wrong syntax -/
theorem xa_bad (X : xp_tx t n) {k : Nat} (her : gr_er t n 2006 [76, 80] 0 k)
    (H : ∀ f_symbolTop f_pos f_list f_open a_listOf a_listEnd a_owner a_stmtEnd a_stmtBegin a_firstA a_firstB a_opAt a_procFirst a_symbols, post (f_textCap, f_stackCap, f_depthCap, f_ready, nI n, f_stackTop, f_point, f_frameCount, f_symbolTop, f_pos, f_list, f_open, 1, nI k, f_valueTop, f_operatorTop, fun j => nI (t j), a_cells, a_stack, a_frames, a_listOf, a_listEnd, a_owner, a_stmtEnd, a_stmtBegin, a_firstA, a_firstB, a_opAt, a_procFirst, a_inverse, a_invFirst, a_invBegin, a_symbols, a_values, a_operators)) :
    wpX_analyse post (f_textCap, f_stackCap, f_depthCap, f_ready, nI n, f_stackTop, f_point, f_frameCount, f_symbolTop, f_pos, f_list, f_open, f_errorKind, f_errorPos, f_valueTop, f_operatorTop, fun j => nI (t j), a_cells, a_stack, a_frames, a_listOf, a_listEnd, a_owner, a_stmtEnd, a_stmtBegin, a_firstA, a_firstB, a_opAt, a_procFirst, a_inverse, a_invFirst, a_invBegin, a_symbols, a_values, a_operators) := by
  unfold wpX_analyse
  refine xz_reset (fun lo le ow se sb fa fb op pf hok hpf => ?_)
  refine xa_parse X.1 (xp_er X.1 X.2.1 X.2.2 (k := k) (fun _ _ _ _ _ _ _ _ _ _ _ _ _ _ => ?_) 2006 [76, 80] 0 0 (-1) lo le ow se sb fa fb op pf her (Nat.zero_le _) ?_ ?_ ?_)
  · exact br_f (by decide) (H _ _ _ _ _ _ _ _ _ _ _ _ _ _)
  · intro s hs
    rcases List.mem_cons.mp hs with rfl | hs
    · exact Or.inl rfl
    · rw [List.mem_singleton.mp hs]; unfold xp_kn; omega
  · exact ⟨⟨0, by omega, rfl⟩, Or.inl rfl, fun i hi => ⟨0, by omega, (hok i (by omega)).1⟩, fun i hi => Or.inl (hok i (by omega)).2.2.1⟩
  · refine Or.inl (fun s hs => ?_)
    rcases List.mem_cons.mp hs with rfl | hs
    · decide
    · rw [List.mem_singleton.mp hs]; decide
end
end
section
/-! names, counts, aliases: pure -/
def sm_ok (t : Nat → Nat) (x y : Nat) : Prop := ∀ i, x ≤ i → i < y → (gr_nm (t i) → x < i ∧ (t (i - 1) = 33 ∨ t (i - 1) = 126)) ∧ (t i = 33 ∨ t i = 126 → i + 1 < y ∧ gr_nm (t (i + 1)))
theorem sm_ok_app {t : Nat → Nat} {x y z : Nat} (hxy : x ≤ y) (hyz : y ≤ z) (h1 : sm_ok t x y) (h2 : sm_ok t y z) : sm_ok t x z := by
  intro i a b
  rcases Nat.lt_or_ge i y with h | h
  · obtain ⟨c, d⟩ := h1 i a h
    exact ⟨c, fun z => ⟨by have := (d z).1; omega, (d z).2⟩⟩
  · obtain ⟨c, d⟩ := h2 i h b
    exact ⟨fun z => ⟨by have := (c z).1; omega, (c z).2⟩, d⟩
theorem sm_ok_no {t : Nat → Nat} {x y : Nat} (h : ∀ i, x ≤ i → i < y → ¬ gr_nm (t i) ∧ t i ≠ 33 ∧ t i ≠ 126) : sm_ok t x y := fun i a b => ⟨fun z => ((h i a b).1 z).elim, fun z => by have := h i a b; omega⟩
theorem sm_xc {c : Nat} (h : gr_xc c) : ¬ gr_nm c ∧ c ≠ 33 ∧ c ≠ 126 := by unfold gr_xc at h; unfold gr_nm; omega
theorem sm_S {t : Nat → Nat} {L : Nat → Nat → Prop} (ih : ∀ x y, L x y → sm_ok t x y) {x q : Nat} (h : gr_S t L x q) : sm_ok t x (q + 1) := by
  have hxq := gr_S_lt h
  rcases h with ⟨o, hT, h59, h⟩ | ⟨hx, hT, h59⟩ | ⟨hx, hn, rfl, h59⟩ | ⟨a, ea, eb, h1, h2, h3, h4, h5, h6, h7, h8, h9, h10, h11, h12⟩
  · refine sm_ok_no (fun i a b => ?_)
    rcases Nat.lt_or_ge i o with i1 | i1
    · exact sm_xc (gr_T_xc hT a i1)
    · rcases Nat.lt_or_ge o i with i2 | i2
      · rcases Nat.lt_or_ge i q with i3 | i3
        · rcases h with ⟨_, hE⟩ | ⟨_, hT2⟩
          · exact sm_xc (gr_E_xc hE i2 i3)
          · exact sm_xc (gr_T_xc hT2 i2 i3)
        · have : i = q := by omega
          subst this; unfold gr_nm; omega
      · have : i = o := by omega
        subst this
        rcases h with ⟨ho, _⟩ | ⟨ho, _⟩
        · have := ex_lv_at (k := t i) (by omega); unfold gr_nm; omega
        · unfold gr_nm; omega
  · refine sm_ok_no (fun i a b => ?_)
    rcases Nat.lt_or_ge x i with i1 | i1
    · rcases Nat.lt_or_ge i q with i3 | i3
      · exact sm_xc (gr_T_xc hT i1 i3)
      · have : i = q := by omega
        subst this; unfold gr_nm; omega
    · have : i = x := by omega
      subst this; unfold gr_nm; omega
  · intro i a b
    rcases Nat.lt_or_ge x i with i1 | i1
    · rcases Nat.lt_or_ge i (x + 2) with i3 | i3
      · have : i = x + 1 := by omega
        subst this
        refine ⟨fun _ => ⟨by omega, by rw [Nat.add_sub_cancel]; exact hx⟩, fun z => ?_⟩
        unfold gr_nm at hn; omega
      · have : i = x + 2 := by omega
        subst this
        exact ⟨fun z => by unfold gr_nm at z; omega, fun z => by omega⟩
    · have : i = x := by omega
      subst this
      exact ⟨fun z => by unfold gr_nm at z; omega, fun _ => ⟨by omega, hn⟩⟩
  · have l1 := gr_E_ne h2
    have l2 := gr_E_ne h11
    have s1 : sm_ok t x (a + 1) := sm_ok_no (fun i c d => by
      rcases Nat.lt_or_ge x i with h | h
      · rcases Nat.lt_or_ge i a with h' | h'
        · exact sm_xc (gr_E_xc h2 h h')
        · have : i = a := by omega
          subst this; unfold gr_nm; omega
      · have : i = x := by omega
        subst this; unfold gr_nm; omega)
    have s2 : sm_ok t ea (ea + 2) := sm_ok_no (fun i c d => by
      rcases Nat.lt_or_ge ea i with h | h
      · have : i = ea + 1 := by omega
        subst this; unfold gr_nm; omega
      · have : i = ea := by omega
        subst this; unfold gr_nm; omega)
    have s3 : sm_ok t eb (q + 1) := sm_ok_no (fun i c d => by
      rcases Nat.lt_or_ge eb i with h | h
      · rcases Nat.lt_or_ge i q with h' | h'
        · exact sm_xc (gr_E_xc h11 h h')
        · have : i = q := by omega
          subst this; unfold gr_nm; omega
      · have : i = eb := by omega
        subst this; unfold gr_nm; omega)
    exact sm_ok_app (y := a + 1) (by omega) (by omega) s1 (sm_ok_app (y := ea) (by omega) (by omega) (ih _ _ h5) (sm_ok_app (y := ea + 2) (by omega) (by omega) s2 (sm_ok_app (y := eb) (by omega) (by omega) (ih _ _ h9) s3)))
theorem sm_L {t : Nat → Nat} : ∀ f x y, gr_L t f x y → sm_ok t x y := by
  intro f
  induction f with
  | zero => intro x y h; cases h; exact fun i a b => by omega
  | succ f ih =>
    intro x y h
    have hle := gr_L_le _ _ _ h
    rcases h with rfl | ⟨q, hS, hL⟩
    · exact fun i a b => by omega
    · have := gr_S_lt hS
      have := gr_L_le _ _ _ hL
      exact sm_ok_app (by omega) (by omega) (sm_S ih hS) (ih _ _ hL)
theorem sm_l {t : Nat → Nat} {x y : Nat} (h : gr_l t x y) : sm_ok t x y := by
  obtain ⟨f, h⟩ := h; exact sm_L f x y h
/-- where names stand -/
theorem sm_name {t : Nat → Nat} {n : Nat} (hG : gr_G t n) : ∀ i, i < n → ((gr_nm (t i) → 1 ≤ i ∧ (t (i - 1) = 58 ∨ t (i - 1) = 33 ∨ t (i - 1) = 126)) ∧ (t i = 33 ∨ t i = 126 ∨ t i = 58 → i + 1 < n ∧ gr_nm (t (i + 1)))) := by
  obtain ⟨e, he, hl, f, hQ⟩ := hG
  have hq : ∀ f p, gr_Q t n f p → p ≤ n → ∀ i, p ≤ i → i < n → ((gr_nm (t i) → 1 ≤ i ∧ (t (i - 1) = 58 ∨ t (i - 1) = 33 ∨ t (i - 1) = 126)) ∧ (t i = 33 ∨ t i = 126 ∨ t i = 58 → i + 1 < n ∧ gr_nm (t (i + 1)))) := by
    intro f
    induction f with
    | zero => intro p h _ i h1 h2; have : p = n := h; omega
    | succ f ih =>
      intro p h hp i h1 h2
      rcases h with rfl | ⟨h3, h4, h5, e, he, hl, hQ⟩
      · omega
      rcases Nat.lt_or_ge p i with i1 | i1
      · rcases Nat.lt_or_ge (p + 1) i with i2 | i2
        · rcases Nat.lt_or_ge i e with i3 | i3
          · obtain ⟨c, d⟩ := sm_l hl i i2 i3
            refine ⟨fun z => ⟨by omega, Or.inr (c z).2⟩, fun z => ?_⟩
            have h58 := (sc_l hl).2.2 i i2 i3
            have := d (by omega)
            exact ⟨by omega, this.2⟩
          · exact ih e hQ he i i3 h2
        · have : i = p + 1 := by omega
          subst this
          refine ⟨fun _ => ⟨by omega, Or.inl (by rw [Nat.add_sub_cancel]; exact h4)⟩, fun z => ?_⟩
          unfold gr_nm at h5; omega
      · have : i = p := by omega
        subst this
        exact ⟨fun z => by unfold gr_nm at z; omega, fun _ => ⟨by omega, h5⟩⟩
  intro i hi
  rcases Nat.lt_or_ge i e with i3 | i3
  · obtain ⟨c, d⟩ := sm_l hl i (Nat.zero_le _) i3
    refine ⟨fun z => ⟨by have := (c z).1; omega, Or.inr (c z).2⟩, fun z => ?_⟩
    have h58 := (sc_l hl).2.2 i (Nat.zero_le _) i3
    have := d (by omega)
    exact ⟨by omega, this.2⟩
  · exact hq f e hQ he i i3 hi
/-- how often c occurs among the d characters from i on -/
def sm_ct (t : Nat → Nat) (c : Nat) : Nat → Nat → Nat
  | 0, _ => 0
  | d + 1, i => (if t i = c then 1 else 0) + sm_ct t c d (i + 1)
theorem sm_ct_le (t : Nat → Nat) (c : Nat) : ∀ d i, sm_ct t c d i ≤ d := by
  intro d
  induction d with
  | zero => intro i; exact Nat.le_refl _
  | succ d ih =>
    intro i
    have := ih (i + 1)
    rw [sm_ct]
    split <;> omega
theorem sm_ct_snoc (t : Nat → Nat) (c : Nat) : ∀ d i, t (i + d) ≠ c → sm_ct t c (d + 1) i = sm_ct t c d i := by
  intro d
  induction d with
  | zero =>
    intro i h
    have h' : t i ≠ c := h
    show (if t i = c then 1 else 0) + 0 = 0
    rw [if_neg h']
  | succ d ih =>
    intro i h
    show (if t i = c then 1 else 0) + sm_ct t c (d + 1) (i + 1) = (if t i = c then 1 else 0) + sm_ct t c d (i + 1)
    have e : i + 1 + d = i + (d + 1) := by omega
    rw [ih (i + 1) (by rw [e]; exact h)]
/-- the target's place in an atomic statement; the place behind it -/
def sm_on (t : Nat → Nat) (s : Nat) : Nat := if t s = 62 ∨ t s = 60 then s + 1 else s
def sm_nx (t : Nat → Nat) (n s : Nat) : Nat := sc_Te t n (sm_on t s)
def sm_rp (t : Nat → Nat) (s q x : Nat) : Prop := gr_vr (t x) ∧ sm_ct t (t x) (q - s) s ≠ 1
def sm_b (P : Bool) : Nat := if P then 1 else 0
def sm_id (t : Nat → Nat) (n s : Nat) : Nat := (if t (sm_on t s) = 91 then 1 else 0) + (if t (sm_nx t n s) = 36 ∧ t (sm_nx t n s + 1) = 91 then 1 else 0)
/-- the atomic statement from s to its semicolon q breaks a rule -/
def sm_al (t : Nat → Nat) (n s q : Nat) : Prop := sm_rp t s q (sm_on t s) ∨ (t (sm_nx t n s) = 36 ∧ sm_rp t s q (sm_nx t n s + 1)) ∨ (0 < sm_id t n s ∧ sm_ct t 91 (q - s) s ≠ sm_id t n s)
def sm_ac (c : Nat) : Prop := gr_vr c ∨ c = 91 ∨ c = 62 ∨ c = 60
/-- X's and Y's verdict about the place i: 0, or the error's kind -/
noncomputable def sm_me (t : Nat → Nat) (n i : Nat) : Nat :=
  @ite Nat (gr_nm (t i)) (Classical.propDecidable _) (if t (i - 1) = 58 then (if sc_Body t (t i) n = some (i + 1) then 0 else 2) else (if sc_Body t (t i) n = none then 3 else 0))
    (@ite Nat (sc_bg t i ∧ sm_ac (t i) ∧ sm_al t n i (sc_Find t n 59 i)) (Classical.propDecidable _) 4 0)
/-- the error that counts -/
def sm_cm (t : Nat → Nat) (n : Nat) (ek ep : Int32) : Prop := (∃ i, i < n ∧ (∀ j, j < i → sm_me t n j = 0) ∧ sm_me t n i ≠ 0 ∧ ek = nI (sm_me t n i) ∧ ep = nI i) ∨ ((∀ j, j < n → sm_me t n j = 0) ∧ ek = 0 ∧ ep = -1)
theorem sm_me_n {t : Nat → Nat} {n i : Nat} (h : gr_nm (t i)) : sm_me t n i = (if t (i - 1) = 58 then (if sc_Body t (t i) n = some (i + 1) then 0 else 2) else (if sc_Body t (t i) n = none then 3 else 0)) := by
  unfold sm_me; rw [if_pos h]
theorem sm_me_a {t : Nat → Nat} {n i : Nat} (h : ¬ gr_nm (t i)) (ha : sc_bg t i ∧ sm_ac (t i) ∧ sm_al t n i (sc_Find t n 59 i)) : sm_me t n i = 4 := by
  unfold sm_me; rw [if_neg h, if_pos ha]
theorem sm_me_0 {t : Nat → Nat} {n i : Nat} (h : ¬ gr_nm (t i)) (ha : ¬ (sc_bg t i ∧ sm_ac (t i) ∧ sm_al t n i (sc_Find t n 59 i))) : sm_me t n i = 0 := by
  unfold sm_me; rw [if_neg h, if_neg ha]
theorem sm_me_lt (t : Nat → Nat) (n i : Nat) : sm_me t n i < 5 := by
  unfold sm_me
  split
  · split
    · split <;> omega
    · split <;> omega
  · split <;> omega
/-- an atomic statement's parts -/
theorem sm_at {t : Nat → Nat} {n s q : Nat} (hs : gr_s t s q) (hq : q < n) (hc : sm_ac (t s)) : sc_Find t n 59 s = q ∧ (gr_vr (t (sm_on t s)) ∨ t (sm_on t s) = 91) ∧ s ≤ sm_on t s ∧ sm_on t s < sm_nx t n s ∧ sm_nx t n s ≤ q ∧ gr_T t (sm_on t s) (sm_nx t n s) ∧
    ((sm_nx t n s = q ∧ sm_on t s = s + 1) ∨ (sm_on t s = s ∧ gr_U t s (sm_nx t n s) q ∧ sm_nx t n s + 1 < q)) ∧ (t (sm_nx t n s) = 36 → gr_T t (sm_nx t n s + 1) q) := by
  unfold sm_ac gr_vr at hc
  rcases hs with ⟨o, h⟩ | h | h | ⟨a, ea, eb, h⟩
  · have hlt := gr_T_lt h.1
    have hU := h
    obtain ⟨hT, h59, hr⟩ := h
    have hoq : o + 1 < q := by
      rcases hr with ⟨_, h⟩ | ⟨_, h⟩
      · exact gr_E_ne h
      · exact gr_T_lt h
    have h62 : ¬ (t s = 62 ∨ t s = 60) := by have := gr_T_sr hT; unfold gr_vr at this; omega
    have e1 : sm_on t s = s := if_neg h62
    have e2 : sm_nx t n s = o := by unfold sm_nx; rw [e1]; exact sc_Te_val hT (by omega)
    rw [e1, e2]
    refine ⟨sc_fd_val (by omega) hq (fun i a b => (gr_U_pl hU a b).2.1) h59, gr_T_sr hT, Nat.le_refl _, hlt, by omega, hT, Or.inr ⟨rfl, hU, hoq⟩, fun h36 => ?_⟩
    rcases hr with ⟨h, _⟩ | ⟨_, h⟩
    · rw [h36] at h; exact absurd h (by decide)
    · exact h
  · have hK := h
    obtain ⟨hx, hT, h59⟩ := h
    have hlt := gr_T_lt hT
    have e1 : sm_on t s = s + 1 := if_pos hx
    have e2 : sm_nx t n s = q := by unfold sm_nx; rw [e1]; exact sc_Te_val hT (by omega)
    rw [e1, e2]
    exact ⟨sc_fd_val (by omega) hq (fun i a b => (gr_K_pl hK a b).2.1) h59, gr_T_sr hT, by omega, hlt, Nat.le_refl _, hT, Or.inl ⟨rfl, rfl⟩, fun h36 => by omega⟩
  · have := h.1; omega
  · have := h.1; omega
end
section
/-! X: the check of meaning -/
section
variable {f_textCap f_stackCap f_depthCap f_ready f_size f_stackTop f_point f_frameCount f_symbolTop f_pos f_list f_open f_errorKind f_errorPos f_valueTop f_operatorTop : Int32} {a_text a_cells a_stack a_frames a_listOf a_listEnd a_owner a_stmtEnd a_stmtBegin a_firstA a_firstB a_opAt a_procFirst a_inverse a_invFirst a_invBegin a_symbols a_values a_operators : Nat → Int32}
variable {t : Nat → Nat} {n : Nat}
theorem xm_13 {post : Int32 → Prop} {e c : Nat} (X : xp_tx t n) (he : e ≤ n) (hc : c < 127) : ∀ d i m, i + d = e → m + d ≤ 1000 → post (nI (m + sm_ct t c d i)) → ∀ k, d < k → wX_countIn_13 post (nI c) (nI e) f_textCap f_stackCap f_depthCap f_ready (nI n) f_stackTop f_point f_frameCount f_symbolTop f_pos f_list f_open f_errorKind f_errorPos f_valueTop f_operatorTop (fun j => nI (t j)) a_cells a_stack a_frames a_listOf a_listEnd a_owner a_stmtEnd a_stmtBegin a_firstA a_firstB a_opAt a_procFirst a_inverse a_invFirst a_invBegin a_symbols a_values a_operators k (nI m) (nI i) := by
  have hn := X.1
  intro d
  induction d with
  | zero =>
    intro i m hi hm hp k hk
    cases k with
    | zero => omega
    | succ k => exact br_t (nI_le (by omega) (by omega)) hp
  | succ d ih =>
    intro i m hi hm hp k hk
    cases k with
    | zero => omega
    | succ k =>
      refine br_f (nI_ge (by omega) (by omega)) (br_f (nI_ge (by omega) (by omega)) (And.intro (vp_in_nI (by omega) (by omega)) ?_))
      show (nI (t (nI i).toNatClampNeg) = nI c → _) ∧ (¬ nI (t (nI i).toNatClampNeg) = nI c → _)
      rw [nI_clamp (by omega)]
      have hti := X.2.2 i
      refine pk_eq (t i) c (fun e => nm_r (nI_1 m) (nm_r (nI_1 i) (ih (i + 1) (m + 1) (by omega) (by omega) ?_ k (by omega)))) (fun e => nm_r (nI_1 i) (ih (i + 1) m (by omega) (by omega) ?_ k (by omega))) rfl rfl (by omega) (by omega)
      · rw [sm_ct, if_pos e] at hp
        have e2 : m + 1 + sm_ct t c d (i + 1) = m + (1 + sm_ct t c d (i + 1)) := by omega
        rw [e2]; exact hp
      · rw [sm_ct, if_neg e, Nat.zero_add] at hp
        exact hp
theorem xm_count {post : Int32 → Prop} {s q c : Nat} (X : xp_tx t n) (hs : s ≤ q) (hq : q < n) (h59 : t q = 59) (hc : c < 127) (hc2 : c ≠ 59) (he : a_stmtEnd s = nI (q + 1)) (hp : post (nI (sm_ct t c (q - s) s))) : wpX_countIn post (f_textCap, f_stackCap, f_depthCap, f_ready, nI n, f_stackTop, f_point, f_frameCount, f_symbolTop, f_pos, f_list, f_open, f_errorKind, f_errorPos, f_valueTop, f_operatorTop, fun j => nI (t j), a_cells, a_stack, a_frames, a_listOf, a_listEnd, a_owner, a_stmtEnd, a_stmtBegin, a_firstA, a_firstB, a_opAt, a_procFirst, a_inverse, a_invFirst, a_invBegin, a_symbols, a_values, a_operators) (nI s) (nI c) := by
  have hn := X.1
  unfold wpX_countIn
  refine And.intro (vp_in_nI (by omega) (by omega)) (nm_r (e' := nI (q + 1)) (by rw [nI_clamp (by omega)]; exact he) ⟨q + 1 - s + 1, ?_⟩)
  refine xm_13 X (e := q + 1) (by omega) hc (q + 1 - s) s 0 (by omega) (by omega) ?_ _ (by omega)
  have e1 : q + 1 - s = (q - s) + 1 := by omega
  have e2 : s + (q - s) = q := by omega
  rw [e1, sm_ct_snoc t c (q - s) s (by rw [e2]; omega), Nat.zero_add]
  exact hp
theorem xm_vrep {post : Int32 → Prop} {s q x : Nat} (X : xp_tx t n) (hs : s ≤ q) (hx : x ≤ q) (hq : q < n) (h59 : t q = 59) (he : a_stmtEnd s = nI (q + 1)) (h1 : sm_rp t s q x → post 1) (h0 : ¬ sm_rp t s q x → post 0) : wpX_variableRepeats post (f_textCap, f_stackCap, f_depthCap, f_ready, nI n, f_stackTop, f_point, f_frameCount, f_symbolTop, f_pos, f_list, f_open, f_errorKind, f_errorPos, f_valueTop, f_operatorTop, fun j => nI (t j), a_cells, a_stack, a_frames, a_listOf, a_listEnd, a_owner, a_stmtEnd, a_stmtBegin, a_firstA, a_firstB, a_opAt, a_procFirst, a_inverse, a_invFirst, a_invBegin, a_symbols, a_values, a_operators) (nI s) (nI x) := by
  have hn := X.1
  unfold wpX_variableRepeats
  refine xh_char hn (by omega) X.2.1 ?_
  rw [gr_ch_n (by omega)]
  have ht := X.2.2 x
  refine xh_var ht (fun hv => br_f (by decide) ?_) (fun hv => br_t rfl (h0 (fun h => hv h.1)))
  have hv' := hv
  unfold gr_vr at hv'
  rw [xp_cs (by omega)]
  refine xm_count X hs hq h59 ht (by omega) he ?_
  refine pk_eq _ 1 (fun e => h0 (fun h => h.2 e)) (fun e => h1 ⟨hv, e⟩) rfl rfl ?_ (by omega)
  have := sm_ct_le t (t x) (q - s) s
  omega
theorem xm_swap {post : Int32 → Prop} {s : Nat} (X : xp_tx t n) (hs : s < n) (ho : a_opAt s = -1 ∨ ∃ o, o < n ∧ a_opAt s = nI o) (h1 : (∃ o, a_opAt s = nI o ∧ o < n ∧ t o = 36) → post 1) (h0 : ¬ (∃ o, a_opAt s = nI o ∧ o < n ∧ t o = 36) → post 0) : wpX_isSwap post (f_textCap, f_stackCap, f_depthCap, f_ready, nI n, f_stackTop, f_point, f_frameCount, f_symbolTop, f_pos, f_list, f_open, f_errorKind, f_errorPos, f_valueTop, f_operatorTop, fun j => nI (t j), a_cells, a_stack, a_frames, a_listOf, a_listEnd, a_owner, a_stmtEnd, a_stmtBegin, a_firstA, a_firstB, a_opAt, a_procFirst, a_inverse, a_invFirst, a_invBegin, a_symbols, a_values, a_operators) (nI s) := by
  have hn := X.1
  have ec : (nI s).toNatClampNeg = s := nI_clamp (by omega)
  unfold wpX_isSwap
  refine And.intro (vp_in_nI (by omega) (by omega)) ?_
  rw [ec]
  rcases ho with ho | ⟨o, ho, eo⟩
  · rw [ho]
    exact br_t (by decide) (h0 (fun ⟨o, e, h, _⟩ => xp_negl (k := o) (by omega) |> fun z => by rw [ho] at e; rw [← e] at z; exact absurd z (by decide)))
  · rw [eo]
    refine br_f (nI_pos (by omega)) (And.intro (vp_in_nI (by omega) (by omega)) ?_)
    refine xh_char hn (by omega) X.2.1 ?_
    rw [gr_ch_n ho]
    refine xp_eq 36 (X.2.2 o) (fun e => h1 ⟨o, eo, ho, e⟩) (fun e => h0 (fun ⟨o', e', h', h36⟩ => ?_))
    rw [eo] at e'
    have := (nI_eq (by omega) (by omega)).mp e'
    rw [this] at e
    exact e h36
/-- what X's tables say of the atomic statement s -/
theorem xm_alias {post : Int32 → Prop} {s q : Nat} (X : xp_tx t n) (hs : gr_s t s q) (hb : sc_bg t s) (hq : q < n) (he : a_stmtEnd s = nI (q + 1)) (ho : a_opAt s = xt_S t n 7 s) (h1 : (sm_ac (t s) ∧ sm_al t n s q) → post 1) (h0 : ¬ (sm_ac (t s) ∧ sm_al t n s q) → post 0) : wpX_hasAlias post (f_textCap, f_stackCap, f_depthCap, f_ready, nI n, f_stackTop, f_point, f_frameCount, f_symbolTop, f_pos, f_list, f_open, f_errorKind, f_errorPos, f_valueTop, f_operatorTop, fun j => nI (t j), a_cells, a_stack, a_frames, a_listOf, a_listEnd, a_owner, a_stmtEnd, a_stmtBegin, a_firstA, a_firstB, a_opAt, a_procFirst, a_inverse, a_invFirst, a_invBegin, a_symbols, a_values, a_operators) (nI s) := by
  have hn := X.1
  have hlt := gr_S_lt hs
  have h59 := gr_s_59 hs
  have hts := X.2.2 s
  have h33 := X.2.1 s (by omega)
  unfold wpX_hasAlias
  refine And.intro (vp_in_nI (by omega) (by omega)) (nm_r (e' := nI (t s)) (by show nI (t (nI s).toNatClampNeg) = _; rw [nI_clamp (by omega)]) ?_)
  have na : ∀ c, t s = c → ¬ sm_ac c → post 0 := fun c e h => h0 (fun z => h (e ▸ z.1))
  refine pk_eq (t s) 63 (fun e => na 63 e (by unfold sm_ac gr_vr; omega)) (fun n1 => pk_eq (t s) 64 (fun e => na 64 e (by unfold sm_ac gr_vr; omega)) (fun n2 => pk_eq (t s) 33 (fun e => na 33 e (by unfold sm_ac gr_vr; omega)) (fun n3 => pk_eq (t s) 126 (fun e => na 126 e (by unfold sm_ac gr_vr; omega)) (fun n4 => ?_) rfl rfl (by omega) (by omega)) rfl rfl (by omega) (by omega)) rfl rfl (by omega) (by omega)) rfl rfl (by omega) (by omega)
  have hac : sm_ac (t s) := by
    have := gr_S_sr hs
    unfold sc_sr at this; unfold sm_ac
    rcases this with h | h
    · exact Or.inl h
    · right; omega
  obtain ⟨a1, a2, a3, a4, a5, a6, a7, a8⟩ := sm_at hs hq hac
  -- the swap test
  have hop : a_opAt s = -1 ∧ sm_nx t n s = q ∨ a_opAt s = nI (sm_nx t n s) := by
    rw [ho, xt_S7]
    rcases a7 with ⟨e1, e2⟩ | ⟨e1, hU, _⟩
    · left
      refine ⟨xt_if_f (fun h => ?_), e1⟩
      have h62 : t s = 62 ∨ t s = 60 := by
        by_cases h : t s = 62 ∨ t s = 60
        · exact h
        · unfold sm_on at e2; rw [if_neg h] at e2; omega
      have := h.2.2; unfold gr_vr at this; omega
    · right
      rw [xt_if_t ⟨hb, ⟨by omega, gr_S_sr hs⟩, gr_T_sr hU.1⟩]
      unfold sm_nx; rw [e1]
  have hsw : (∃ o, a_opAt s = nI o ∧ o < n ∧ t o = 36) ↔ t (sm_nx t n s) = 36 := by
    constructor
    · rintro ⟨o, e, h2, h3⟩
      rcases hop with ⟨e', _⟩ | e'
      · rw [e'] at e
        have := xp_negl (k := o) (by omega)
        rw [← e] at this
        exact absurd this (by decide)
      · rw [e'] at e
        have := (nI_eq (by omega) (by omega)).mp e
        rw [this]; exact h3
    · intro h
      rcases hop with ⟨_, e'⟩ | e'
      · rw [e'] at h; omega
      · exact ⟨_, e', by omega, h⟩
  have h125 : ∀ idx, idx = sm_id t n s → ¬ sm_rp t s q (sm_on t s) → ¬ (t (sm_nx t n s) = 36 ∧ sm_rp t s q (sm_nx t n s + 1)) → wX_hasAlias_125 post (nI s) (nI idx) f_textCap f_stackCap f_depthCap f_ready (nI n) f_stackTop f_point f_frameCount f_symbolTop f_pos f_list f_open f_errorKind f_errorPos f_valueTop f_operatorTop (fun j => nI (t j)) a_cells a_stack a_frames a_listOf a_listEnd a_owner a_stmtEnd a_stmtBegin a_firstA a_firstB a_opAt a_procFirst a_inverse a_invFirst a_invBegin a_symbols a_values a_operators := by
    intro idx ei g1 g2
    have hid : idx < 3 := by rw [ei]; unfold sm_id; split <;> split <;> omega
    have hal : sm_al t n s q ↔ (0 < idx ∧ sm_ct t 91 (q - s) s ≠ idx) := by
      rw [ei]
      constructor
      · rintro (h | h | h)
        · exact (g1 h).elim
        · exact (g2 h).elim
        · exact h
      · exact fun h => Or.inr (Or.inr h)
    unfold wX_hasAlias_125
    refine pk_le idx 0 (fun h => h0 (fun z => by have := (hal.mp z.2).1; omega)) (fun h => ?_) rfl rfl (by omega) (by omega)
    refine xm_count (c := 91) X (by omega) hq h59 (by omega) (by omega) he ?_
    have := sm_ct_le t 91 (q - s) s
    refine pk_eq _ idx (fun e => h0 (fun z => (hal.mp z.2).2 e)) (fun e => h1 ⟨hac, hal.mpr ⟨h, e⟩⟩) rfl rfl (by omega) (by omega)
  have h79 : ∀ i1, i1 = (if t (sm_on t s) = 91 then 1 else 0) → ¬ sm_rp t s q (sm_on t s) → wX_hasAlias_79 post (nI s) (nI i1) f_textCap f_stackCap f_depthCap f_ready (nI n) f_stackTop f_point f_frameCount f_symbolTop f_pos f_list f_open f_errorKind f_errorPos f_valueTop f_operatorTop (fun j => nI (t j)) a_cells a_stack a_frames a_listOf a_listEnd a_owner a_stmtEnd a_stmtBegin a_firstA a_firstB a_opAt a_procFirst a_inverse a_invFirst a_invBegin a_symbols a_values a_operators := by
    intro i1 e1 g1
    unfold wX_hasAlias_79
    refine xm_swap X (by omega) ?_ (fun h => br_f (by decide) ?_) (fun h => br_t rfl (h125 i1 ?_ g1 (fun z => h (hsw.mpr z.1))))
    · rcases hop with ⟨e', _⟩ | e'
      · exact Or.inl e'
      · exact Or.inr ⟨_, by omega, e'⟩
    · have h36 := hsw.mp h
      have hT2 := a8 h36
      have hlt2 := gr_T_lt hT2
      have eo : a_opAt s = nI (sm_nx t n s) := by
        rcases hop with ⟨_, e'⟩ | e'
        · rw [e'] at h36; omega
        · exact e'
      refine And.intro (vp_in_nI (by omega) (by omega)) (nm_r (e' := nI (sm_nx t n s + 1)) (by rw [nI_clamp (by omega), eo, nI_1]) ?_)
      refine xm_vrep X (by omega) (by omega) hq h59 he (fun g => br_f (by decide) (h1 ⟨hac, Or.inr (Or.inl ⟨h36, g⟩)⟩)) (fun g => br_t rfl ?_)
      refine xh_char hn (by omega) X.2.1 ?_
      rw [gr_ch_n (by omega)]
      refine xp_eq 91 (X.2.2 _) (fun e => nm_r (nI_1 i1) (h125 (i1 + 1) ?_ g1 (fun z => g z.2))) (fun e => h125 i1 ?_ g1 (fun z => g z.2))
      · unfold sm_id; rw [← e1, if_pos ⟨h36, e⟩]
      · unfold sm_id; rw [← e1, if_neg (fun z => e z.2)]; rfl
    · have h36 : ¬ t (sm_nx t n s) = 36 := fun z => h (hsw.mpr z)
      unfold sm_id; rw [← e1, if_neg (fun z => h36 z.1)]; rfl
  have h52 : wX_hasAlias_52 post (nI s) (nI (sm_on t s)) f_textCap f_stackCap f_depthCap f_ready (nI n) f_stackTop f_point f_frameCount f_symbolTop f_pos f_list f_open f_errorKind f_errorPos f_valueTop f_operatorTop (fun j => nI (t j)) a_cells a_stack a_frames a_listOf a_listEnd a_owner a_stmtEnd a_stmtBegin a_firstA a_firstB a_opAt a_procFirst a_inverse a_invFirst a_invBegin a_symbols a_values a_operators := by
    unfold wX_hasAlias_52
    refine xm_vrep X (by omega) (by omega) hq h59 he (fun g => br_f (by decide) (h1 ⟨hac, Or.inl g⟩)) (fun g => br_t rfl ?_)
    refine xh_char hn (by omega) X.2.1 ?_
    rw [gr_ch_n (by omega)]
    exact xp_eq 91 (X.2.2 _) (fun e => h79 1 (by rw [if_pos e]) g) (fun e => h79 0 (by rw [if_neg e]) g)
  refine pk_eq (t s) 62 (fun e => ?_) (fun n5 => pk_eq (t s) 60 (fun e => ?_) (fun n6 => ?_) rfl rfl (by omega) (by omega)) rfl rfl (by omega) (by omega)
  · have e1 : sm_on t s = s + 1 := if_pos (Or.inl e)
    rw [e1] at h52
    unfold wX_hasAlias_45
    rw [nI_1]; exact h52
  · have e1 : sm_on t s = s + 1 := if_pos (Or.inr e)
    rw [e1] at h52
    unfold wX_hasAlias_45
    rw [nI_1]; exact h52
  · have e1 : sm_on t s = s := if_neg (by omega)
    rw [e1] at h52
    exact h52
theorem xm_name {post : Int32 → Prop} {i : Nat} (X : xp_tx t n) (hi : i < n) (hn' : gr_nm (t i)) (h1 : 1 ≤ i) (hpr : xp_pr t a_procFirst n) (H : post (nI (sm_me t n i))) : wpX_nameError post (f_textCap, f_stackCap, f_depthCap, f_ready, nI n, f_stackTop, f_point, f_frameCount, f_symbolTop, f_pos, f_list, f_open, f_errorKind, f_errorPos, f_valueTop, f_operatorTop, fun j => nI (t j), a_cells, a_stack, a_frames, a_listOf, a_listEnd, a_owner, a_stmtEnd, a_stmtBegin, a_firstA, a_firstB, a_opAt, a_procFirst, a_inverse, a_invFirst, a_invBegin, a_symbols, a_values, a_operators) (nI i) := by
  have hn := X.1
  have hnm := hn'
  unfold gr_nm at hnm
  have ec : (nI i).toNatClampNeg = i := nI_clamp (by omega)
  have e1 : nI (t (nI i).toNatClampNeg) - 65 = nI (t i - 65) := by
    rw [ec]; exact pk_sub (a := t i) (b := 65) (by omega)
  have hm1 : nI i - 1 = nI (i - 1) := pk_sub (a := i) (b := 1) h1
  unfold wpX_nameError
  refine And.intro (vp_in_nI (by omega) (by omega)) (And.intro ?_ (nm_r (e' := xp_op (sc_Body t (t i) n)) ?_ ?_))
  · show vp_in (nI (t (nI i).toNatClampNeg) - 65) 4
    rw [e1]; exact vp_in_nI (by omega) (by omega)
  · show a_procFirst (nI (t (nI i).toNatClampNeg) - 65).toNatClampNeg = _
    rw [e1, nI_clamp (by omega)]; exact hpr _ hn'
  rw [hm1]
  refine xh_char hn (by omega) X.2.1 ?_
  rw [gr_ch_n (by omega)]
  rw [sm_me_n hn'] at H
  have hbd : ∀ v, sc_Body t (t i) n = some v → v < 2 ^ 31 := by
    intro v hv
    have hb : ∀ d k, sc_bo t (t i) d k = some v → v ≤ k + d + 1 := by
      intro d
      induction d with
      | zero => intro k h; cases h
      | succ d ih =>
        intro k h
        rw [sc_bo] at h
        by_cases hk : t k = 58 ∧ t (k + 1) = t i
        · rw [if_pos hk] at h; cases h; omega
        · rw [if_neg hk] at h; have := ih _ h; omega
    have := hb _ _ hv
    omega
  refine xp_eq 58 (X.2.2 _) (fun e => ?_) (fun e => ?_)
  · rw [if_pos e] at H
    rw [nI_1]
    cases hB : sc_Body t (t i) n with
    | none =>
      rw [hB, if_neg (by intro h; cases h)] at H
      refine br_f (fun h2 => ?_) H
      have h2' : (-1 : Int32) = nI (i + 1) := h2
      have h3 := xp_negl (k := i + 1) (by omega)
      rw [← h2'] at h3
      exact absurd h3 (by decide)
    | some v =>
      rw [hB] at H
      have hv := hbd v hB
      by_cases hv1 : v = i + 1
      · rw [hv1, if_pos rfl] at H
        exact br_t (by rw [hv1]; rfl) H
      · rw [if_neg (fun h => hv1 (Option.some.inj h))] at H
        exact br_f (fun h => hv1 ((nI_eq hv (by omega)).mp h)) H
  · rw [if_neg e] at H
    cases hB : sc_Body t (t i) n with
    | none =>
      rw [hB, if_pos rfl] at H
      exact br_f (show ¬ (0 : Int32) ≤ -1 by decide) H
    | some v =>
      rw [hB, if_neg (by intro h; cases h)] at H
      exact br_t (show (0 : Int32) ≤ nI v from nI_pos' (hbd v hB)) H
end
end
section
/-! X: analyse as a whole -/
section
variable {f_textCap f_stackCap f_depthCap f_ready f_size f_stackTop f_point f_frameCount f_symbolTop f_pos f_list f_open f_errorKind f_errorPos f_valueTop f_operatorTop : Int32} {a_text a_cells a_stack a_frames a_listOf a_listEnd a_owner a_stmtEnd a_stmtBegin a_firstA a_firstB a_opAt a_procFirst a_inverse a_invFirst a_invBegin a_symbols a_values a_operators : Nat → Int32}
variable {t : Nat → Nat} {n : Nat} {post : SX → Prop}
theorem xm_loop {T : Nat → Nat → Int32} (X : xp_tx t n) (hG : gr_G t n) (hT : xt_T t n T) (hpr : xp_pr t a_procFirst n)
    (H : ∀ ek ep, sm_cm t n ek ep → post (f_textCap, f_stackCap, f_depthCap, f_ready, nI n, f_stackTop, f_point, f_frameCount, f_symbolTop, f_pos, f_list, f_open, ek, ep, f_valueTop, f_operatorTop, fun j => nI (t j), a_cells, a_stack, a_frames, a_listOf, a_listEnd, a_owner, T 3, a_stmtBegin, a_firstA, a_firstB, T 7, a_procFirst, a_inverse, a_invFirst, a_invBegin, a_symbols, a_values, a_operators)) :
    ∀ d i, i + d = n → (∀ j, j < i → sm_me t n j = 0) → ∀ k, d < k → wX_checkMeaning_2 post f_textCap f_stackCap f_depthCap f_ready (nI n) f_stackTop f_point f_frameCount f_symbolTop f_pos f_list f_open f_valueTop f_operatorTop (fun j => nI (t j)) a_cells a_stack a_frames a_listOf a_listEnd a_owner (T 3) a_stmtBegin a_firstA a_firstB (T 7) a_procFirst a_inverse a_invFirst a_invBegin a_symbols a_values a_operators k (nI i) 0 (-1) := by
  have hn := X.1
  intro d
  induction d with
  | zero =>
    intro i hi hm k hk
    cases k with
    | zero => omega
    | succ k => exact br_t (nI_le (by omega) (by omega)) (H _ _ (Or.inr ⟨fun j hj => hm j (by omega), rfl, rfl⟩))
  | succ d ih =>
    intro i hi hm k hk
    cases k with
    | zero => omega
    | succ k =>
      have hlt := sm_me_lt t n i
      have h66 : ∀ m, m = sm_me t n i → wX_checkMeaning_66 post (wX_checkMeaning_2 post f_textCap f_stackCap f_depthCap f_ready (nI n) f_stackTop f_point f_frameCount f_symbolTop f_pos f_list f_open f_valueTop f_operatorTop (fun j => nI (t j)) a_cells a_stack a_frames a_listOf a_listEnd a_owner (T 3) a_stmtBegin a_firstA a_firstB (T 7) a_procFirst a_inverse a_invFirst a_invBegin a_symbols a_values a_operators k) (nI i) f_textCap f_stackCap f_depthCap f_ready (nI n) f_stackTop f_point f_frameCount f_symbolTop f_pos f_list f_open (nI m) (-1) f_valueTop f_operatorTop (fun j => nI (t j)) a_cells a_stack a_frames a_listOf a_listEnd a_owner (T 3) a_stmtBegin a_firstA a_firstB (T 7) a_procFirst a_inverse a_invFirst a_invBegin a_symbols a_values a_operators := by
        intro m em
        unfold wX_checkMeaning_66
        refine pk_eq m 0 (fun e => nm_r (nI_1 i) ?_) (fun e => nm_r (nI_1 i) ?_) rfl rfl (by omega) (by omega)
        · rw [e]
          exact ih (i + 1) (by omega) (fun j hj => by
            rcases Nat.lt_or_ge j i with h | h
            · exact hm j h
            · have : j = i := by omega
              rw [this]; omega) k (by omega)
        · cases k with
          | zero => omega
          | succ k =>
            have hp := H (nI m) (nI i) (Or.inl ⟨i, by omega, hm, by omega, by rw [em], rfl⟩)
            exact br_c (fun _ => hp) (fun _ => br_f (fun h => e ((nI_eq (a := m) (b := 0) (by omega) (by omega)).mp h)) hp)
      refine br_f (nI_ge (by omega) (by omega)) (br_t rfl (And.intro (vp_in_nI (by omega) (by omega)) (nm_r (e' := xp_c (t i)) (by show nI (t (nI i).toNatClampNeg) = _; rw [nI_clamp (by omega), xp_cs (by have := X.2.1 i (by omega); omega)]) ?_)))
      refine xh_nam (X.2.2 i) (fun hnm => br_f (by decide) ?_) (fun hnm => br_t rfl (And.intro (vp_in_nI (by omega) (by omega)) ?_))
      · have h1 := ((sm_name hG i (by omega)).1 hnm).1
        exact xm_name X (by omega) hnm h1 hpr (h66 _ rfl)
      · rw [nI_clamp (by omega)]
        rcases Classical.em (sc_bg t i ∧ sc_ss t n i) with hb | hb
        · obtain ⟨l, e, hpt⟩ := sc_pts hG i (by omega) hb.1
          rcases sc_pt_cases hpt with ⟨_, h⟩ | ⟨q, hs, hq, _, _⟩
          · exact (h hb.2).elim
          have hen := hpt.2.2.1
          have e3 : T 3 i = nI (q + 1) := by
            rw [hT.2 3 i (by omega) ⟨hb.1, Or.inr (Or.inr (Or.inr (Or.inr (Or.inl ⟨Or.inl rfl, hb.2⟩))))⟩, xt_S3, xt_if_t hb, sc_Af_val hs (by omega)]
          have e7 : T 7 i = xt_S t n 7 i := hT.2 7 i (by omega) ⟨hb.1, Or.inr (Or.inr (Or.inr (Or.inr (Or.inl ⟨Or.inr rfl, hb.2⟩))))⟩
          refine br_f (by rw [e3]; exact nI_pos (by omega)) ?_
          refine xm_alias X hs hb.1 (by omega) e3 e7 (fun h => br_f (by decide) (h66 4 ?_)) (fun h => br_t rfl (h66 0 ?_))
          · rw [sm_me_a hnm ⟨hb.1, h.1, by rw [(sm_at hs (by omega) h.1).1]; exact h.2⟩]
          · rw [sm_me_0 hnm (fun z => h ⟨z.2.1, by rw [← (sm_at hs (n := n) (by omega) z.2.1).1]; exact z.2.2⟩)]
        · have e3 : T 3 i = -1 := by
            have : xt_S t n 3 i = -1 := by rw [xt_S3]; exact xt_if_f hb
            rw [hT.1 3 i (by omega) (by omega) this, this]
          refine br_t (by rw [e3]; decide) (h66 0 ?_)
          rw [sm_me_0 hnm (fun z => hb ⟨z.1, by omega, ?_⟩)]
          have := z.2.1
          unfold sm_ac at this; unfold sc_sr
          rcases this with h | h
          · exact Or.inl h
          · right; omega
/-- analyse of a text of right syntax -/
theorem xa_good (X : xp_tx t n) (hG : gr_G t n)
    (H : ∀ (T : Nat → Nat → Int32) f_pos f_list f_open a_procFirst a_symbols ek ep, xt_T t n T → xp_pr t a_procFirst n → sm_cm t n ek ep → post (f_textCap, f_stackCap, f_depthCap, f_ready, nI n, f_stackTop, f_point, f_frameCount, 0, f_pos, f_list, f_open, ek, ep, f_valueTop, f_operatorTop, fun j => nI (t j), a_cells, a_stack, a_frames, T 0, T 1, T 2, T 3, T 4, T 5, T 6, T 7, a_procFirst, a_inverse, a_invFirst, a_invBegin, a_symbols, a_values, a_operators)) :
    wpX_analyse post (f_textCap, f_stackCap, f_depthCap, f_ready, nI n, f_stackTop, f_point, f_frameCount, f_symbolTop, f_pos, f_list, f_open, f_errorKind, f_errorPos, f_valueTop, f_operatorTop, fun j => nI (t j), a_cells, a_stack, a_frames, a_listOf, a_listEnd, a_owner, a_stmtEnd, a_stmtBegin, a_firstA, a_firstB, a_opAt, a_procFirst, a_inverse, a_invFirst, a_invBegin, a_symbols, a_values, a_operators) := by
  unfold wpX_analyse
  refine xz_reset (fun lo le ow se sb fa fb op pf hok hpf => ?_)
  obtain ⟨T, rfl, rfl, rfl, rfl, rfl, rfl, rfl, rfl, hZ, hF⟩ := xt_init hok
  refine xa_parse X.1 (xr_G X hG (fun l o T' pf' sym hT hpr => ?_) (hZ t n) hF hpf)
  refine br_t rfl ?_
  unfold wpX_checkMeaning
  exact ⟨n + 1, xm_loop X hG hT hpr (fun ek ep h => H T' _ _ _ _ _ ek ep hT hpr h) n 0 (by omega) (fun j hj => by omega) (n + 1) (by omega)⟩
end
end
section
/-! Y: the small helpers and the scans -/
section
variable {g_textLimit g_stackLimit g_depthLimit g_length g_stackSize g_depth g_place g_ready g_top g_errorPos : Int32} {b_text b_cells b_stack b_frames b_wants b_inverse b_kinds b_values : Nat → Int32}
variable {t : Nat → Nat} {n : Nat} {post : Int32 → Prop}
theorem yh_var {c : Nat} (hc : c < 127) (h1 : gr_vr c → post 1) (h0 : ¬ gr_vr c → post 0) : wpY_variable post (g_textLimit, g_stackLimit, g_depthLimit, g_length, g_stackSize, g_depth, g_place, g_ready, g_top, g_errorPos, b_text, b_cells, b_stack, b_frames, b_wants, b_inverse, b_kinds, b_values) (nI c) :=
  pk_lt c 97 (fun h => h0 (fun z => by unfold gr_vr at z; omega)) (fun h => pk_lt 104 c (fun h' => h0 (fun z => by unfold gr_vr at z; omega)) (fun h' => h1 ⟨h, h'⟩) rfl rfl (by omega) (by omega)) rfl rfl (by omega) (by omega)
theorem yh_atomic {c : Nat} (hc : c < 127) (h1 : sm_ac c → post 1) (h0 : ¬ sm_ac c → post 0) : wpY_atomic post (g_textLimit, g_stackLimit, g_depthLimit, g_length, g_stackSize, g_depth, g_place, g_ready, g_top, g_errorPos, b_text, b_cells, b_stack, b_frames, b_wants, b_inverse, b_kinds, b_values) (nI c) := by
  unfold wpY_atomic
  refine yh_var hc (fun hv => br_f (by decide) (h1 (Or.inl hv))) (fun hv => br_t rfl ?_)
  exact pk_eq c 91 (fun e => h1 (Or.inr (Or.inl e))) (fun n1 => pk_eq c 62 (fun e => h1 (Or.inr (Or.inr (Or.inl e)))) (fun n2 => pk_eq c 60 (fun e => h1 (Or.inr (Or.inr (Or.inr e)))) (fun n3 => h0 (fun z => z.elim hv (fun z => by omega))) rfl rfl (by omega) (by omega)) rfl rfl (by omega) (by omega)) rfl rfl (by omega) (by omega)
theorem yh_starts {c : Nat} (hc : c < 127) (h1 : sc_sr c → post 1) (h0 : ¬ sc_sr c → post 0) : wpY_starts post (g_textLimit, g_stackLimit, g_depthLimit, g_length, g_stackSize, g_depth, g_place, g_ready, g_top, g_errorPos, b_text, b_cells, b_stack, b_frames, b_wants, b_inverse, b_kinds, b_values) (nI c) := by
  unfold wpY_starts
  refine yh_atomic hc (fun hv => br_f (by decide) (h1 ?_)) (fun hv => br_t rfl ?_)
  · unfold sm_ac at hv; unfold sc_sr
    rcases hv with h | h
    · exact Or.inl h
    · right; omega
  · refine pk_eq c 63 (fun e => h1 (by unfold sc_sr; omega)) (fun n1 => pk_eq c 64 (fun e => h1 (by unfold sc_sr; omega)) (fun n2 => pk_eq c 33 (fun e => h1 (by unfold sc_sr; omega)) (fun n3 => pk_eq c 126 (fun e => h1 (by unfold sc_sr; omega)) (fun n4 => h0 (fun z => hv ?_)) rfl rfl (by omega) (by omega)) rfl rfl (by omega) (by omega)) rfl rfl (by omega) (by omega)) rfl rfl (by omega) (by omega)
    unfold sc_sr at z; unfold sm_ac
    rcases z with h | h
    · exact Or.inl h
    · right; omega
/-- the reference's level: 1 binds most -/
def yh_lv (c : Nat) : Nat := if ex_lv c = 0 then 0 else 4 - ex_lv c
theorem yh_lev {c : Nat} (hc : c < 127) (h : post (nI (yh_lv c))) : wpY_level post (g_textLimit, g_stackLimit, g_depthLimit, g_length, g_stackSize, g_depth, g_place, g_ready, g_top, g_errorPos, b_text, b_cells, b_stack, b_frames, b_wants, b_inverse, b_kinds, b_values) (nI c) := by
  refine pk_eq c 42 (fun e => ?_) (fun n1 => pk_eq c 38 (fun e => ?_) (fun n2 => pk_eq c 43 (fun e => ?_) (fun n3 => pk_eq c 45 (fun e => ?_) (fun n4 => pk_eq c 94 (fun e => ?_) (fun n5 => pk_eq c 61 (fun e => ?_) (fun n6 => pk_eq c 60 (fun e => ?_) (fun n7 => ?_) rfl rfl (by omega) (by omega)) rfl rfl (by omega) (by omega)) rfl rfl (by omega) (by omega)) rfl rfl (by omega) (by omega)) rfl rfl (by omega) (by omega)) rfl rfl (by omega) (by omega)) rfl rfl (by omega) (by omega)
  · subst e; exact h
  · subst e; exact h
  · subst e; exact h
  · subst e; exact h
  · subst e; exact h
  · subst e; exact h
  · subst e; exact h
  · have e : ex_lv c = 0 := by
      unfold ex_lv
      rw [if_neg (by omega), if_neg (by omega), if_neg (by omega)]
    have e2 : yh_lv c = 0 := by unfold yh_lv; rw [if_pos e]
    rw [e2] at h; exact h
theorem ys_find2 {c : Nat} (X : xp_tx t n) (hc : c < 127) : ∀ d i, n - i = d → i < 2 ^ 31 → post (nI (sc_fd t n c d i)) → ∀ k, d < k → wY_find_2 post (nI c) g_textLimit g_stackLimit g_depthLimit (nI n) g_stackSize g_depth g_place g_ready g_top g_errorPos (fun j => nI (t j)) b_cells b_stack b_frames b_wants b_inverse b_kinds b_values k (nI i) := by
  have hn := X.1
  intro d
  induction d with
  | zero =>
    intro i hi hi2 hp k hk
    cases k with
    | zero => omega
    | succ k => exact br_t (nI_le (by omega) (by omega)) hp
  | succ d ih =>
    intro i hi hi2 hp k hk
    cases k with
    | zero => omega
    | succ k =>
      refine br_f (nI_ge (by omega) (by omega)) (And.intro (vp_in_nI (by omega) (by omega)) ?_)
      show (nI (t (nI i).toNatClampNeg) = nI c → _) ∧ (¬ nI (t (nI i).toNatClampNeg) = nI c → _)
      rw [nI_clamp (by omega)]
      have hti := X.2.2 i
      rw [sc_fd] at hp
      refine pk_eq (t i) c (fun e => ?_) (fun e => nm_r (nI_1 i) (ih (i + 1) (by omega) (by omega) ?_ k (by omega))) rfl rfl (by omega) (by omega)
      · rw [if_pos e] at hp; exact hp
      · rw [if_neg e] at hp; exact hp
theorem ys_find {c x : Nat} {C : Int32} (X : xp_tx t n) (hc : c < 127) (hx : x < 2 ^ 31) (hC : C = nI c) (h : post (nI (sc_Find t n c x))) : wpY_find post (g_textLimit, g_stackLimit, g_depthLimit, nI n, g_stackSize, g_depth, g_place, g_ready, g_top, g_errorPos, fun j => nI (t j), b_cells, b_stack, b_frames, b_wants, b_inverse, b_kinds, b_values) C (nI x) := by
  subst hC
  unfold wpY_find
  exact ⟨n - x + 1, ys_find2 X hc (n - x) x rfl hx h _ (by omega)⟩
theorem sc_fd_le {t : Nat → Nat} {n c : Nat} : ∀ d i, i + d ≤ n → sc_fd t n c d i ≤ n := by
  intro d
  induction d with
  | zero => intro i _; exact Nat.le_refl _
  | succ d ih =>
    intro i h
    rw [sc_fd]
    split
    · omega
    · exact ih (i + 1) (by omega)
theorem sc_Find_le {t : Nat → Nat} {n c x : Nat} : sc_Find t n c x ≤ n := by
  unfold sc_Find
  rcases Nat.lt_or_ge x n with h | h
  · exact sc_fd_le _ _ (by omega)
  · have : n - x = 0 := by omega
    rw [this]; exact Nat.le_refl _
theorem ys_end4 (X : xp_tx t n) : ∀ d i m, n - i = d → i < 2 ^ 31 → m + d ≤ 1000 → post (nI (sc_en t n d m i)) → ∀ k, d < k → wY_endOf_4 post g_textLimit g_stackLimit g_depthLimit (nI n) g_stackSize g_depth g_place g_ready g_top g_errorPos (fun j => nI (t j)) b_cells b_stack b_frames b_wants b_inverse b_kinds b_values k (nI m) (nI i) := by
  have hn := X.1
  intro d
  induction d with
  | zero =>
    intro i m hi hi2 hm hp k hk
    cases k with
    | zero => omega
    | succ k => exact br_t (nI_le (by omega) (by omega)) hp
  | succ d ih =>
    intro i m hi hi2 hm hp k hk
    cases k with
    | zero => omega
    | succ k =>
      have ec : (nI i).toNatClampNeg = i := nI_clamp (by omega)
      have hv : vp_in (nI i) 200 := vp_in_nI (by omega) (by omega)
      have hti := X.2.2 i
      have h40 : ∀ m', m' + d ≤ 1000 + (if t i = 125 then 0 else 0) → True := fun _ _ => trivial
      refine br_f (nI_ge (by omega) (by omega)) (And.intro hv ?_)
      show (nI (t (nI i).toNatClampNeg) = 58 → _) ∧ (¬ nI (t (nI i).toNatClampNeg) = 58 → _)
      rw [ec]
      rw [sc_en] at hp
      refine pk_eq (t i) 58 (fun e => ?_) (fun n58 => And.intro hv ?_) rfl rfl (by omega) (by omega)
      · rw [if_pos e] at hp; exact hp
      rw [if_neg n58] at hp
      refine pk_eq (t i) 125 (fun e => ?_) (fun n125 => ?_) rfl rfl (by omega) (by omega)
      · refine pk_eq m 0 (fun em => ?_) (fun em => ?_) rfl rfl (by omega) (by omega)
        · rw [if_pos ⟨e, em⟩] at hp; exact hp
        · rw [if_neg (fun z => em z.2), if_neg (by omega), if_pos e] at hp
          unfold wY_endOf_40
          refine And.intro hv ?_
          show (nI (t (nI i).toNatClampNeg) = 123 → _) ∧ (¬ nI (t (nI i).toNatClampNeg) = 123 → _)
          rw [ec]
          refine pk_eq (t i) 123 (fun e' => by omega) (fun _ => And.intro hv ?_) rfl rfl (by omega) (by omega)
          refine pk_eq (t i) 125 (fun _ => nm_r (e' := nI (m - 1)) ?_ (nm_r (nI_1 i) (ih (i + 1) (m - 1) (by omega) (by omega) (by omega) hp k (by omega)))) (fun e' => (e' e).elim) rfl rfl (by omega) (by omega)
          obtain ⟨m', rfl⟩ : ∃ m', m = m' + 1 := ⟨m - 1, by omega⟩
          exact pk_m1 m'
      · rw [if_neg (fun z => n125 z.1)] at hp
        unfold wY_endOf_40
        refine And.intro hv ?_
        show (nI (t (nI i).toNatClampNeg) = 123 → _) ∧ (¬ nI (t (nI i).toNatClampNeg) = 123 → _)
        rw [ec]
        refine pk_eq (t i) 123 (fun e' => ?_) (fun n123 => And.intro hv ?_) rfl rfl (by omega) (by omega)
        · rw [if_pos e'] at hp
          exact nm_r (nI_1 m) (nm_r (nI_1 i) (ih (i + 1) (m + 1) (by omega) (by omega) (by omega) hp k (by omega)))
        · rw [if_neg n123, if_neg n125] at hp
          refine pk_eq (t i) 125 (fun e' => (n125 e').elim) (fun _ => nm_r (e' := nI m) (Int32.add_zero _) (nm_r (nI_1 i) (ih (i + 1) m (by omega) (by omega) (by omega) hp k (by omega)))) rfl rfl (by omega) (by omega)
theorem ys_end {p : Nat} (X : xp_tx t n) (hp : p < 2 ^ 31) (h : post (nI (sc_End t n p))) : wpY_endOf post (g_textLimit, g_stackLimit, g_depthLimit, nI n, g_stackSize, g_depth, g_place, g_ready, g_top, g_errorPos, fun j => nI (t j), b_cells, b_stack, b_frames, b_wants, b_inverse, b_kinds, b_values) (nI p) := by
  have hn := X.1
  unfold wpY_endOf
  exact ⟨n - p + 1, ys_end4 X (n - p) p 0 rfl hp (by omega) h _ (by omega)⟩
theorem sc_en_le {t : Nat → Nat} {n : Nat} : ∀ d k i, i + d ≤ n → sc_en t n d k i ≤ n := by
  intro d
  induction d with
  | zero => intro k i _; exact Nat.le_refl _
  | succ d ih =>
    intro k i h
    rw [sc_en]
    split
    · omega
    · split
      · omega
      · exact ih _ (i + 1) (by omega)
theorem sc_End_le {t : Nat → Nat} {n p : Nat} : sc_End t n p ≤ n := by
  unfold sc_End
  rcases Nat.lt_or_ge p n with h | h
  · exact sc_en_le _ _ _ (by omega)
  · have : n - p = 0 := by omega
    rw [this]; exact Nat.le_refl _
def ys_i (i : Nat) : Int32 := match i with
  | 0 => -1
  | i + 1 => nI i
theorem ys_i_m (i : Nat) : nI i + (-1) = ys_i i := by
  match i with
  | 0 => rfl
  | i + 1 => exact pk_m1 i
theorem ys_i_s (i : Nat) : nI i - 1 = ys_i i := by
  match i with
  | 0 => rfl
  | i + 1 => exact nI_pred i
theorem ys_fst6 (X : xp_tx t n) : ∀ i m, i ≤ n → m + i ≤ 1000 → post (nI (sc_fo t i m)) → ∀ k, i < k → wY_firstOf_6 post g_textLimit g_stackLimit g_depthLimit (nI n) g_stackSize g_depth g_place g_ready g_top g_errorPos (fun j => nI (t j)) b_cells b_stack b_frames b_wants b_inverse b_kinds b_values k (nI m) (ys_i i) := by
  have hn := X.1
  intro i
  induction i with
  | zero =>
    intro m hi hm hp k hk
    cases k with
    | zero => omega
    | succ k => exact br_t (show (-1 : Int32) < 0 by decide) hp
  | succ i ih =>
    intro m hi hm hp k hk
    cases k with
    | zero => omega
    | succ k =>
      have ec : (nI i).toNatClampNeg = i := nI_clamp (by omega)
      have hv : vp_in (nI i) 200 := vp_in_nI (by omega) (by omega)
      have hti := X.2.2 i
      show wY_firstOf_6 post g_textLimit g_stackLimit g_depthLimit (nI n) g_stackSize g_depth g_place g_ready g_top g_errorPos (fun j => nI (t j)) b_cells b_stack b_frames b_wants b_inverse b_kinds b_values (k + 1) (nI m) (nI i)
      refine br_f (nI_pos (by omega)) (And.intro hv ?_)
      show (nI (t (nI i).toNatClampNeg) = 58 → _) ∧ (¬ nI (t (nI i).toNatClampNeg) = 58 → _)
      rw [ec]
      rw [sc_fo] at hp
      refine pk_eq (t i) 58 (fun e => ?_) (fun n58 => And.intro hv ?_) rfl rfl (by omega) (by omega)
      · rw [if_pos e] at hp
        have e2 : nI i + 2 = nI (i + 2) := nI_add i 2
        rw [e2]; exact hp
      rw [if_neg n58] at hp
      refine pk_eq (t i) 123 (fun e => ?_) (fun n123 => ?_) rfl rfl (by omega) (by omega)
      · refine pk_eq m 0 (fun em => ?_) (fun em => ?_) rfl rfl (by omega) (by omega)
        · rw [if_pos ⟨e, em⟩] at hp; rw [nI_1]; exact hp
        · rw [if_neg (fun z => em z.2), if_neg (by omega), if_pos e] at hp
          unfold wY_firstOf_44
          refine And.intro hv ?_
          show (nI (t (nI i).toNatClampNeg) = 125 → _) ∧ (¬ nI (t (nI i).toNatClampNeg) = 125 → _)
          rw [ec]
          refine pk_eq (t i) 125 (fun e' => by omega) (fun _ => And.intro hv ?_) rfl rfl (by omega) (by omega)
          refine pk_eq (t i) 123 (fun _ => nm_r (e' := nI (m - 1)) ?_ (nm_r (ys_i_m i) (ih (m - 1) (by omega) (by omega) hp k (by omega)))) (fun e' => (e' e).elim) rfl rfl (by omega) (by omega)
          obtain ⟨m', rfl⟩ : ∃ m', m = m' + 1 := ⟨m - 1, by omega⟩
          exact pk_m1 m'
      · rw [if_neg (fun z => n123 z.1)] at hp
        unfold wY_firstOf_44
        refine And.intro hv ?_
        show (nI (t (nI i).toNatClampNeg) = 125 → _) ∧ (¬ nI (t (nI i).toNatClampNeg) = 125 → _)
        rw [ec]
        refine pk_eq (t i) 125 (fun e' => ?_) (fun n125 => And.intro hv ?_) rfl rfl (by omega) (by omega)
        · rw [if_pos e'] at hp
          exact nm_r (nI_1 m) (nm_r (ys_i_m i) (ih (m + 1) (by omega) (by omega) hp k (by omega)))
        · rw [if_neg n125, if_neg n123] at hp
          refine pk_eq (t i) 123 (fun e' => (n123 e').elim) (fun _ => nm_r (e' := nI m) (Int32.add_zero _) (nm_r (ys_i_m i) (ih m (by omega) (by omega) hp k (by omega)))) rfl rfl (by omega) (by omega)
theorem ys_fst {p : Nat} (X : xp_tx t n) (hp : p ≤ n) (h : post (nI (sc_Fst t p))) : wpY_firstOf post (g_textLimit, g_stackLimit, g_depthLimit, nI n, g_stackSize, g_depth, g_place, g_ready, g_top, g_errorPos, fun j => nI (t j), b_cells, b_stack, b_frames, b_wants, b_inverse, b_kinds, b_values) (nI p) := by
  have hn := X.1
  unfold wpY_firstOf
  exact nm_r (ys_i_s p) ⟨p + 1, ys_fst6 X p 0 hp (by omega) h _ (by omega)⟩
theorem sc_fo_le {t : Nat → Nat} : ∀ i k, sc_fo t i k ≤ i + 1 := by
  intro i
  induction i with
  | zero => intro k; exact Nat.zero_le _
  | succ i ih =>
    intro k
    rw [sc_fo]
    split
    · omega
    · split
      · omega
      · have := ih (if t i = 125 then k + 1 else if t i = 123 then k - 1 else k); omega
theorem ys_te4 (X : xp_tx t n) : ∀ d i m, n - i = d → i < 2 ^ 31 → m + d ≤ 1000 → (m = 0 → i < n → t i ≠ 93) → post (nI (sc_te t n d m i)) → ∀ k, d < k → wY_targetEnd_4 post g_textLimit g_stackLimit g_depthLimit (nI n) g_stackSize g_depth g_place g_ready g_top g_errorPos (fun j => nI (t j)) b_cells b_stack b_frames b_wants b_inverse b_kinds b_values k (nI m) (nI i) := by
  have hn := X.1
  intro d
  induction d with
  | zero =>
    intro i m hi hi2 hm _ hp k hk
    cases k with
    | zero => omega
    | succ k => exact br_t (nI_le (by omega) (by omega)) hp
  | succ d ih =>
    intro i m hi hi2 hm h93 hp k hk
    cases k with
    | zero => omega
    | succ k =>
      have ec : (nI i).toNatClampNeg = i := nI_clamp (by omega)
      have hv : vp_in (nI i) 200 := vp_in_nI (by omega) (by omega)
      have hti := X.2.2 i
      have h44 : ∀ (z : Int32) m', nI m + z = nI m' → m' + d ≤ 1000 → m' = (if t i = 91 then m + 1 else if t i = 93 then m - 1 else m) → wY_targetEnd_44 post (wY_targetEnd_4 post g_textLimit g_stackLimit g_depthLimit (nI n) g_stackSize g_depth g_place g_ready g_top g_errorPos (fun j => nI (t j)) b_cells b_stack b_frames b_wants b_inverse b_kinds b_values k) (nI i) z (nI m) g_textLimit g_stackLimit g_depthLimit (nI n) g_stackSize g_depth g_place g_ready g_top g_errorPos (fun j => nI (t j)) b_cells b_stack b_frames b_wants b_inverse b_kinds b_values := by
        intro z m' ez hm' em'
        unfold wY_targetEnd_44
        rw [sc_te, ← em'] at hp
        refine nm_r ez (pk_eq m' 0 (fun e0 => ?_) (fun e0 => nm_r (nI_1 i) (ih (i + 1) m' (by omega) (by omega) hm' (fun z => (e0 z).elim) ?_ k (by omega))) rfl rfl (by omega) (by omega))
        · rw [if_pos e0] at hp; rw [nI_1]; exact hp
        · rw [if_neg e0] at hp; exact hp
      refine br_f (nI_ge (by omega) (by omega)) (And.intro hv ?_)
      show (nI (t (nI i).toNatClampNeg) = 91 → _) ∧ (¬ nI (t (nI i).toNatClampNeg) = 91 → _)
      rw [ec]
      refine pk_eq (t i) 91 (fun e => h44 1 (m + 1) (nI_1 m) (by omega) (by rw [if_pos e])) (fun n91 => And.intro hv ?_) rfl rfl (by omega) (by omega)
      refine pk_eq (t i) 93 (fun e => ?_) (fun n93 => h44 0 m (Int32.add_zero _) (by omega) (by rw [if_neg n91, if_neg n93])) rfl rfl (by omega) (by omega)
      have hm0 : m ≠ 0 := fun z => h93 z (by omega) e
      obtain ⟨m', rfl⟩ : ∃ m', m = m' + 1 := ⟨m - 1, by omega⟩
      exact h44 (-1) m' (pk_m1 m') (by omega) (by rw [if_neg n91, if_pos e, Nat.add_sub_cancel])
theorem ys_te {x : Nat} (X : xp_tx t n) (hx : x < 2 ^ 31) (h93 : x < n → t x ≠ 93) (h : post (nI (sc_Te t n x))) : wpY_targetEnd post (g_textLimit, g_stackLimit, g_depthLimit, nI n, g_stackSize, g_depth, g_place, g_ready, g_top, g_errorPos, fun j => nI (t j), b_cells, b_stack, b_frames, b_wants, b_inverse, b_kinds, b_values) (nI x) := by
  have hn := X.1
  unfold wpY_targetEnd
  exact ⟨n - x + 1, ys_te4 X (n - x) x 0 rfl hx (by omega) (fun _ => h93) h _ (by omega)⟩
theorem ys_bo2 {c lim : Nat} (X : xp_tx t n) (hc : c < 127) (hl : lim ≤ n) : ∀ d i, lim - 1 - i = d → i < 1000 → post (xp_op (sc_bo t c d i)) → ∀ k, d < k → wY_bodyOf_2 post (nI c) (nI lim) g_textLimit g_stackLimit g_depthLimit (nI n) g_stackSize g_depth g_place g_ready g_top g_errorPos (fun j => nI (t j)) b_cells b_stack b_frames b_wants b_inverse b_kinds b_values k (nI i) := by
  have hn := X.1
  intro d
  induction d with
  | zero =>
    intro i hi hi2 hp k hk
    cases k with
    | zero => omega
    | succ k => exact br_t (by rw [nI_1]; exact nI_le (by omega) (by omega)) hp
  | succ d ih =>
    intro i hi hi2 hp k hk
    cases k with
    | zero => omega
    | succ k =>
      have ec : (nI i).toNatClampNeg = i := nI_clamp (by omega)
      have ec1 : (nI i + 1).toNatClampNeg = i + 1 := by rw [nI_1, nI_clamp (by omega)]
      have hti := X.2.2 i
      have hti1 := X.2.2 (i + 1)
      refine br_f (by rw [nI_1]; exact nI_ge (by omega) (by omega)) (And.intro (vp_in_nI (by omega) (by omega)) ?_)
      show (nI (t (nI i).toNatClampNeg) = 58 → _) ∧ (¬ nI (t (nI i).toNatClampNeg) = 58 → _)
      rw [ec]
      rw [sc_bo] at hp
      refine pk_eq (t i) 58 (fun e => And.intro (by rw [nI_1]; exact vp_in_nI (by omega) (by omega)) ?_) (fun e => nm_r (nI_1 i) (ih (i + 1) (by omega) (by omega) ?_ k (by omega))) rfl rfl (by omega) (by omega)
      · show (nI (t (nI i + 1).toNatClampNeg) = nI c → _) ∧ (¬ nI (t (nI i + 1).toNatClampNeg) = nI c → _)
        rw [ec1]
        refine pk_eq (t (i + 1)) c (fun e' => ?_) (fun e' => nm_r (nI_1 i) (ih (i + 1) (by omega) (by omega) ?_ k (by omega))) rfl rfl (by omega) (by omega)
        · rw [if_pos ⟨e, e'⟩] at hp
          have e2 : nI i + 2 = nI (i + 2) := nI_add i 2
          rw [e2]; exact hp
        · rw [if_neg (fun z => e' z.2)] at hp; exact hp
      · rw [if_neg (fun z => e z.1)] at hp; exact hp
theorem ys_body {c lim : Nat} (X : xp_tx t n) (hc : c < 127) (hl : lim ≤ n) (h : post (xp_op (sc_Body t c lim))) : wpY_bodyOf post (g_textLimit, g_stackLimit, g_depthLimit, nI n, g_stackSize, g_depth, g_place, g_ready, g_top, g_errorPos, fun j => nI (t j), b_cells, b_stack, b_frames, b_wants, b_inverse, b_kinds, b_values) (nI c) (nI lim) := by
  have hn := X.1
  unfold wpY_bodyOf
  exact ⟨lim - 1 + 1, ys_bo2 X hc hl (lim - 1) 0 rfl (by omega) h _ (by omega)⟩
theorem ys_bg {p : Nat} (X : xp_tx t n) (hp : p ≤ n) (h1 : sc_bg t p → post 1) (h0 : ¬ sc_bg t p → post 0) : wpY_begins post (g_textLimit, g_stackLimit, g_depthLimit, nI n, g_stackSize, g_depth, g_place, g_ready, g_top, g_errorPos, fun j => nI (t j), b_cells, b_stack, b_frames, b_wants, b_inverse, b_kinds, b_values) (nI p) := by
  have hn := X.1
  unfold wpY_begins
  refine pk_eq p 0 (fun e => h1 (Or.inl e)) (fun e => ?_) rfl rfl (by omega) (by omega)
  have e1 : nI p - 1 = nI (p - 1) := pk_sub (a := p) (b := 1) (by omega)
  have hv : vp_in (nI (p - 1)) 200 := vp_in_nI (by omega) (by omega)
  have ec : (nI (p - 1)).toNatClampNeg = p - 1 := nI_clamp (by omega)
  have ht1 := X.2.2 (p - 1)
  have ht2 := X.2.2 (p - 2)
  rw [e1]
  refine And.intro hv ?_
  show (nI (t (nI (p - 1)).toNatClampNeg) = 59 → _) ∧ (¬ nI (t (nI (p - 1)).toNatClampNeg) = 59 → _)
  rw [ec]
  refine pk_eq (t (p - 1)) 59 (fun e' => h1 (Or.inr (Or.inl ⟨by omega, Or.inl e'⟩))) (fun n59 => And.intro hv ?_) rfl rfl (by omega) (by omega)
  refine pk_eq (t (p - 1)) 123 (fun e' => h1 (Or.inr (Or.inl ⟨by omega, Or.inr e'⟩))) (fun n123 => ?_) rfl rfl (by omega) (by omega)
  refine pk_le p 1 (fun h => h0 (sc_nbg (by omega) n59 n123 (fun z => by omega))) (fun h => ?_) rfl rfl (by omega) (by omega)
  have e2 : nI p - 2 = nI (p - 2) := pk_sub (a := p) (b := 2) (by omega)
  rw [e2]
  refine And.intro (vp_in_nI (by omega) (by omega)) ?_
  show (nI (t (nI (p - 2)).toNatClampNeg) = 58 → _) ∧ (¬ nI (t (nI (p - 2)).toNatClampNeg) = 58 → _)
  rw [nI_clamp (by omega)]
  exact pk_eq (t (p - 2)) 58 (fun e' => h1 (Or.inr (Or.inr ⟨by omega, e'⟩))) (fun n58 => h0 (sc_nbg (by omega) n59 n123 (fun _ => n58))) rfl rfl (by omega) (by omega)
theorem ys_ct5 {c q : Nat} (X : xp_tx t n) (hc : c < 127) (hq : q < n) (h59 : t q = 59) : ∀ d i m, i + d = q → m + d ≤ 1000 → (∀ j, i ≤ j → j < q → t j ≠ 59) → post (nI (m + sm_ct t c d i)) → ∀ k, d < k → wY_count_5 post (nI c) g_textLimit g_stackLimit g_depthLimit (nI n) g_stackSize g_depth g_place g_ready g_top g_errorPos (fun j => nI (t j)) b_cells b_stack b_frames b_wants b_inverse b_kinds b_values k (nI m) (nI i) := by
  have hn := X.1
  intro d
  induction d with
  | zero =>
    intro i m hi hm _ hp k hk
    cases k with
    | zero => omega
    | succ k =>
      refine br_f (nI_ge (by omega) (by omega)) (And.intro (vp_in_nI (by omega) (by omega)) ?_)
      show (nI (t (nI i).toNatClampNeg) = 59 → _) ∧ (¬ nI (t (nI i).toNatClampNeg) = 59 → _)
      rw [nI_clamp (by omega)]
      have : i = q := by omega
      subst this
      rw [h59]
      exact br_t rfl hp
  | succ d ih =>
    intro i m hi hm h59' hp k hk
    cases k with
    | zero => omega
    | succ k =>
      have ec : (nI i).toNatClampNeg = i := nI_clamp (by omega)
      have hv : vp_in (nI i) 200 := vp_in_nI (by omega) (by omega)
      have hti := X.2.2 i
      refine br_f (nI_ge (by omega) (by omega)) (And.intro hv ?_)
      show (nI (t (nI i).toNatClampNeg) = 59 → _) ∧ (¬ nI (t (nI i).toNatClampNeg) = 59 → _)
      rw [ec]
      refine pk_eq (t i) 59 (fun e => (h59' i (Nat.le_refl _) (by omega) e).elim) (fun _ => And.intro hv ?_) rfl rfl (by omega) (by omega)
      refine pk_eq (t i) c (fun e => nm_r (nI_1 m) (nm_r (nI_1 i) (ih (i + 1) (m + 1) (by omega) (by omega) (fun j a b => h59' j (by omega) b) ?_ k (by omega)))) (fun e => nm_r (e' := nI m) (Int32.add_zero _) (nm_r (nI_1 i) (ih (i + 1) m (by omega) (by omega) (fun j a b => h59' j (by omega) b) ?_ k (by omega)))) rfl rfl (by omega) (by omega)
      · rw [sm_ct, if_pos e] at hp
        have e2 : m + 1 + sm_ct t c d (i + 1) = m + (1 + sm_ct t c d (i + 1)) := by omega
        rw [e2]; exact hp
      · rw [sm_ct, if_neg e, Nat.zero_add] at hp
        exact hp
theorem ys_count {c s q : Nat} (X : xp_tx t n) (hc : c < 127) (hs : s ≤ q) (hq : q < n) (h59 : t q = 59) (h59' : ∀ j, s ≤ j → j < q → t j ≠ 59) (h : post (nI (sm_ct t c (q - s) s))) : wpY_count post (g_textLimit, g_stackLimit, g_depthLimit, nI n, g_stackSize, g_depth, g_place, g_ready, g_top, g_errorPos, fun j => nI (t j), b_cells, b_stack, b_frames, b_wants, b_inverse, b_kinds, b_values) (nI c) (nI s) := by
  have hn := X.1
  unfold wpY_count
  exact ⟨q - s + 1, ys_ct5 X hc hq h59 (q - s) s 0 (by omega) (by omega) h59' (by rw [Nat.zero_add]; exact h) _ (by omega)⟩
theorem ys_fa {s : Nat} (X : xp_tx t n) (hs : s < 2 ^ 31) (h : post (nI (sc_Fa t n s))) : wpY_firstA post (g_textLimit, g_stackLimit, g_depthLimit, nI n, g_stackSize, g_depth, g_place, g_ready, g_top, g_errorPos, fun j => nI (t j), b_cells, b_stack, b_frames, b_wants, b_inverse, b_kinds, b_values) (nI s) := by
  unfold wpY_firstA
  refine ys_find (c := 123) X (by omega) hs rfl ?_
  rw [nI_1]; exact h
theorem ys_fb {s : Nat} (X : xp_tx t n) (hs : s < 2 ^ 31) (h : post (nI (sc_Fb t n s))) : wpY_firstB post (g_textLimit, g_stackLimit, g_depthLimit, nI n, g_stackSize, g_depth, g_place, g_ready, g_top, g_errorPos, fun j => nI (t j), b_cells, b_stack, b_frames, b_wants, b_inverse, b_kinds, b_values) (nI s) := by
  have hn := X.1
  unfold wpY_firstB
  refine ys_fa X hs (ys_end X (by have := sc_Find_le (t := t) (n := n) (c := 123) (x := s); unfold sc_Fa; omega) ?_)
  have e2 : nI (sc_End t n (sc_Fa t n s)) + 2 = nI (sc_End t n (sc_Fa t n s) + 2) := nI_add _ 2
  rw [e2]; exact h
theorem ys_tl {s : Nat} (X : xp_tx t n) (hs : s < 2 ^ 31) (h : post (nI (sc_Tl t n s))) : wpY_tail post (g_textLimit, g_stackLimit, g_depthLimit, nI n, g_stackSize, g_depth, g_place, g_ready, g_top, g_errorPos, fun j => nI (t j), b_cells, b_stack, b_frames, b_wants, b_inverse, b_kinds, b_values) (nI s) := by
  have hn := X.1
  unfold wpY_tail
  refine ys_fb X hs (ys_end X (by have := sc_End_le (t := t) (n := n) (p := sc_Fa t n s); unfold sc_Fb; omega) ?_)
  rw [nI_1]; exact h
theorem ys_af {s : Nat} (X : xp_tx t n) (hs : s < n) (h : post (nI (sc_Af t n s))) : wpY_after post (g_textLimit, g_stackLimit, g_depthLimit, nI n, g_stackSize, g_depth, g_place, g_ready, g_top, g_errorPos, fun j => nI (t j), b_cells, b_stack, b_frames, b_wants, b_inverse, b_kinds, b_values) (nI s) := by
  have hn := X.1
  have ec : (nI s).toNatClampNeg = s := nI_clamp (by omega)
  have hts := X.2.2 s
  have h31 : ∀ z, z < 2 ^ 31 → z = (if t s = 63 ∨ t s = 64 then sc_Tl t n s else s) → wY_after_31 post (nI z) g_textLimit g_stackLimit g_depthLimit (nI n) g_stackSize g_depth g_place g_ready g_top g_errorPos (fun j => nI (t j)) b_cells b_stack b_frames b_wants b_inverse b_kinds b_values := by
    intro z hz ez
    unfold wY_after_31
    refine ys_find (c := 59) X (by omega) hz rfl ?_
    rw [nI_1]
    unfold sc_Af at h
    rw [← ez] at h; exact h
  have h22 : t s = 63 ∨ t s = 64 → wY_after_22 post (nI s) g_textLimit g_stackLimit g_depthLimit (nI n) g_stackSize g_depth g_place g_ready g_top g_errorPos (fun j => nI (t j)) b_cells b_stack b_frames b_wants b_inverse b_kinds b_values := by
    intro e
    unfold wY_after_22
    exact ys_tl X (by omega) (h31 _ (by have := sc_End_le (t := t) (n := n) (p := sc_Fb t n s); unfold sc_Tl; omega) (by rw [if_pos e]))
  unfold wpY_after
  refine And.intro (vp_in_nI (by omega) (by omega)) ?_
  show (nI (t (nI s).toNatClampNeg) = 63 → _) ∧ (¬ nI (t (nI s).toNatClampNeg) = 63 → _)
  rw [ec]
  refine pk_eq (t s) 63 (fun e => h22 (Or.inl e)) (fun n63 => And.intro (vp_in_nI (by omega) (by omega)) ?_) rfl rfl (by omega) (by omega)
  exact pk_eq (t s) 64 (fun e => h22 (Or.inr e)) (fun n64 => h31 s (by omega) (by rw [if_neg (by omega)])) rfl rfl (by omega) (by omega)
end
end
section
/-! Y: one symbol of the syntax check -/
section
variable {g_textLimit g_stackLimit g_depthLimit g_length g_stackSize g_depth g_place g_ready g_top g_errorPos : Int32} {b_text b_cells b_stack b_frames b_wants b_inverse b_kinds b_values : Nat → Int32}
variable {wants : Nat → Int32} {ys : List Nat}
theorem yh_p0 {post : SY → Prop} (H : post (g_textLimit, g_stackLimit, g_depthLimit, g_length, g_stackSize, g_depth, g_place, g_ready, g_top, g_errorPos, b_text, b_cells, b_stack, b_frames, b_wants, b_inverse, b_kinds, b_values)) : wpY_push post (g_textLimit, g_stackLimit, g_depthLimit, g_length, g_stackSize, g_depth, g_place, g_ready, g_top, g_errorPos, b_text, b_cells, b_stack, b_frames, b_wants, b_inverse, b_kinds, b_values) 0 := br_t rfl H
theorem yh_push {post : SY → Prop} {w : Nat} {S : Int32} (hS : S = nI w) (hw0 : w ≠ 0) (hw : w < 2 ^ 31) (hs : sk_N wants ys) (hl : ys.length < 6000) (H : ∀ wants', sk_N wants' (w :: ys) → post (g_textLimit, g_stackLimit, g_depthLimit, g_length, g_stackSize, g_depth, g_place, g_ready, nI (w :: ys).length, g_errorPos, b_text, b_cells, b_stack, b_frames, wants', b_inverse, b_kinds, b_values)) : wpY_push post (g_textLimit, g_stackLimit, g_depthLimit, g_length, g_stackSize, g_depth, g_place, g_ready, nI ys.length, g_errorPos, b_text, b_cells, b_stack, b_frames, wants, b_inverse, b_kinds, b_values) S := by
  subst hS
  refine br_f (nI_ne0 (by omega) hw) (pk_le 6000 ys.length (fun h => by omega) (fun _ => And.intro (vp_in_nI hl (by omega)) (nm_e (nm_r (nI_1 _) (H _ ?_)))) rfl rfl (by omega) (by omega))
  rw [nI_clamp (by omega)]
  exact sk_N_push hs
theorem yh_w2 {post : SY → Prop} {a b : Nat} {A B : Int32} (hA : A = nI a) (hB : B = nI b) (ha : 0 < a ∧ a < 127) (hb : 0 < b ∧ b < 127) (hs : sk_N wants ys) (hl : ys.length + 6 < 6000) (H : ∀ wants', sk_N wants' (a :: b :: ys) → post (g_textLimit, g_stackLimit, g_depthLimit, g_length, g_stackSize, g_depth, g_place, g_ready, nI (a :: b :: ys).length, g_errorPos, b_text, b_cells, b_stack, b_frames, wants', b_inverse, b_kinds, b_values)) : wpY_want post (g_textLimit, g_stackLimit, g_depthLimit, g_length, g_stackSize, g_depth, g_place, g_ready, nI ys.length, g_errorPos, b_text, b_cells, b_stack, b_frames, wants, b_inverse, b_kinds, b_values) A B 0 0 0 0 := by
  unfold wpY_want
  exact yh_p0 (yh_p0 (yh_p0 (yh_p0 (yh_push hB (by omega) (by omega) hs (by omega) (fun s1 h1 => yh_push hA (by omega) (by omega) h1 (by simp only [List.length_cons]; omega) H)))))
theorem yh_w3 {post : SY → Prop} {a b c : Nat} {A B C : Int32} (hA : A = nI a) (hB : B = nI b) (hC : C = nI c) (ha : 0 < a ∧ a < 127) (hb : 0 < b ∧ b < 127) (hc : 0 < c ∧ c < 127) (hs : sk_N wants ys) (hl : ys.length + 6 < 6000) (H : ∀ wants', sk_N wants' (a :: b :: c :: ys) → post (g_textLimit, g_stackLimit, g_depthLimit, g_length, g_stackSize, g_depth, g_place, g_ready, nI (a :: b :: c :: ys).length, g_errorPos, b_text, b_cells, b_stack, b_frames, wants', b_inverse, b_kinds, b_values)) : wpY_want post (g_textLimit, g_stackLimit, g_depthLimit, g_length, g_stackSize, g_depth, g_place, g_ready, nI ys.length, g_errorPos, b_text, b_cells, b_stack, b_frames, wants, b_inverse, b_kinds, b_values) A B C 0 0 0 := by
  unfold wpY_want
  exact yh_p0 (yh_p0 (yh_p0 (yh_push hC (by omega) (by omega) hs (by omega) (fun s1 h1 => yh_push hB (by omega) (by omega) h1 (by simp only [List.length_cons]; omega) (fun s2 h2 => yh_push hA (by omega) (by omega) h2 (by simp only [List.length_cons]; omega) H)))))
theorem yh_w4 {post : SY → Prop} {a b c d : Nat} {A B C D : Int32} (hA : A = nI a) (hB : B = nI b) (hC : C = nI c) (hD : D = nI d) (ha : 0 < a ∧ a < 127) (hb : 0 < b ∧ b < 127) (hc : 0 < c ∧ c < 127) (hd : 0 < d ∧ d < 127) (hs : sk_N wants ys) (hl : ys.length + 6 < 6000) (H : ∀ wants', sk_N wants' (a :: b :: c :: d :: ys) → post (g_textLimit, g_stackLimit, g_depthLimit, g_length, g_stackSize, g_depth, g_place, g_ready, nI (a :: b :: c :: d :: ys).length, g_errorPos, b_text, b_cells, b_stack, b_frames, wants', b_inverse, b_kinds, b_values)) : wpY_want post (g_textLimit, g_stackLimit, g_depthLimit, g_length, g_stackSize, g_depth, g_place, g_ready, nI ys.length, g_errorPos, b_text, b_cells, b_stack, b_frames, wants, b_inverse, b_kinds, b_values) A B C D 0 0 := by
  unfold wpY_want
  exact yh_p0 (yh_p0 (yh_push hD (by omega) (by omega) hs (by omega) (fun s1 h1 => yh_push hC (by omega) (by omega) h1 (by simp only [List.length_cons]; omega) (fun s2 h2 => yh_push hB (by omega) (by omega) h2 (by simp only [List.length_cons]; omega) (fun s3 h3 => yh_push hA (by omega) (by omega) h3 (by simp only [List.length_cons]; omega) H)))))
theorem yh_w6 {post : SY → Prop} {a b c d e f : Nat} {A B C D E F : Int32} (hA : A = nI a) (hB : B = nI b) (hC : C = nI c) (hD : D = nI d) (hE : E = nI e) (hF : F = nI f) (ha : 0 < a ∧ a < 127) (hb : 0 < b ∧ b < 127) (hc : 0 < c ∧ c < 127) (hd : 0 < d ∧ d < 127) (he : 0 < e ∧ e < 127) (hf : 0 < f ∧ f < 127) (hs : sk_N wants ys) (hl : ys.length + 6 < 6000) (H : ∀ wants', sk_N wants' (a :: b :: c :: d :: e :: f :: ys) → post (g_textLimit, g_stackLimit, g_depthLimit, g_length, g_stackSize, g_depth, g_place, g_ready, nI (a :: b :: c :: d :: e :: f :: ys).length, g_errorPos, b_text, b_cells, b_stack, b_frames, wants', b_inverse, b_kinds, b_values)) : wpY_want post (g_textLimit, g_stackLimit, g_depthLimit, g_length, g_stackSize, g_depth, g_place, g_ready, nI ys.length, g_errorPos, b_text, b_cells, b_stack, b_frames, wants, b_inverse, b_kinds, b_values) A B C D E F := by
  unfold wpY_want
  exact yh_push hF (by omega) (by omega) hs (by omega) (fun s1 h1 => yh_push hE (by omega) (by omega) h1 (by simp only [List.length_cons]; omega) (fun s2 h2 => yh_push hD (by omega) (by omega) h2 (by simp only [List.length_cons]; omega) (fun s3 h3 => yh_push hC (by omega) (by omega) h3 (by simp only [List.length_cons]; omega) (fun s4 h4 => yh_push hB (by omega) (by omega) h4 (by simp only [List.length_cons]; omega) (fun s5 h5 => yh_push hA (by omega) (by omega) h5 (by simp only [List.length_cons]; omega) H)))))
/-- what the symbol w takes -/
def yh_fi (w c : Nat) : Prop := w = c ∨ (w = 10 ∧ gr_nm c) ∨ ((w = 5 ∨ w = 8) ∧ gr_vr c) ∨ (w = 8 ∧ 48 ≤ c ∧ c ≤ 57)
theorem yh_fits {post : Int32 → Prop} {w c : Nat} (hw : w < 127) (hc : c < 127) (h1 : yh_fi w c → post 1) (h0 : ¬ yh_fi w c → post 0) : wpY_fits post (g_textLimit, g_stackLimit, g_depthLimit, g_length, g_stackSize, g_depth, g_place, g_ready, g_top, g_errorPos, b_text, b_cells, b_stack, b_frames, b_wants, b_inverse, b_kinds, b_values) (nI w) (nI c) := by
  have h42 : (¬ yh_fi w c ∨ (w = 8 ∧ 48 ≤ c ∧ c ≤ 57) ∨ True) → (w = c → False) → ((w = 10 ∧ gr_nm c) → False) → (((w = 5 ∨ w = 8) ∧ gr_vr c) → False) → wY_fits_42 post (nI w) (nI c) g_textLimit g_stackLimit g_depthLimit g_length g_stackSize g_depth g_place g_ready g_top g_errorPos b_text b_cells b_stack b_frames b_wants b_inverse b_kinds b_values := by
    intro _ g1 g2 g3
    unfold wY_fits_42
    refine pk_eq w 8 (fun e => pk_lt c 48 (fun h => h0 ?_) (fun h => pk_lt 57 c (fun h' => h0 ?_) (fun h' => h1 (Or.inr (Or.inr (Or.inr ⟨e, h, h'⟩)))) rfl rfl (by omega) (by omega)) rfl rfl (by omega) (by omega)) (fun e => h0 ?_) rfl rfl (by omega) (by omega)
    · rintro (z | z | z | z)
      · exact g1 z
      · exact g2 z
      · exact g3 z
      · omega
    · rintro (z | z | z | z)
      · exact g1 z
      · exact g2 z
      · exact g3 z
      · omega
    · rintro (z | z | z | z)
      · exact g1 z
      · exact g2 z
      · exact g3 z
      · omega
  have h34 : (w = 5 ∨ w = 8) → (w = c → False) → ((w = 10 ∧ gr_nm c) → False) → wY_fits_34 post (nI w) (nI c) g_textLimit g_stackLimit g_depthLimit g_length g_stackSize g_depth g_place g_ready g_top g_errorPos b_text b_cells b_stack b_frames b_wants b_inverse b_kinds b_values := by
    intro e g1 g2
    unfold wY_fits_34
    exact yh_var hc (fun hv => br_f (by decide) (h1 (Or.inr (Or.inr (Or.inl ⟨e, hv⟩))))) (fun hv => br_t rfl (h42 (Or.inr (Or.inr trivial)) g1 g2 (fun z => hv z.2)))
  have h23 : (w = c → False) → ((w = 10 ∧ gr_nm c) → False) → wY_fits_23 post (nI w) (nI c) g_textLimit g_stackLimit g_depthLimit g_length g_stackSize g_depth g_place g_ready g_top g_errorPos b_text b_cells b_stack b_frames b_wants b_inverse b_kinds b_values := by
    intro g1 g2
    unfold wY_fits_23
    exact pk_eq w 5 (fun e => h34 (Or.inl e) g1 g2) (fun n5 => pk_eq w 8 (fun e => h34 (Or.inr e) g1 g2) (fun n8 => h42 (Or.inr (Or.inr trivial)) g1 g2 (fun z => by omega)) rfl rfl (by omega) (by omega)) rfl rfl (by omega) (by omega)
  unfold wpY_fits
  refine pk_eq w c (fun e => h1 (Or.inl e)) (fun g1 => pk_eq w 10 (fun e => pk_lt c 65 (fun h => h23 g1 (fun z => by unfold gr_nm at z; omega)) (fun h => pk_le c 68 (fun h' => h1 (Or.inr (Or.inl ⟨e, h, h'⟩))) (fun h' => h23 g1 (fun z => by unfold gr_nm at z; omega)) rfl rfl (by omega) (by omega)) rfl rfl (by omega) (by omega)) (fun e => h23 g1 (fun z => e z.1)) rfl rfl (by omega) (by omega)) rfl rfl (by omega) (by omega)
end
section
variable {g_textLimit g_stackLimit g_depthLimit g_length g_stackSize g_depth g_place g_ready g_top g_errorPos : Int32} {b_text b_cells b_stack b_frames b_wants b_inverse b_kinds b_values : Nat → Int32}
variable {wants : Nat → Int32} {ys : List Nat} {post : Int32 → SY → Prop} {J : Int32 → Int32 → Int32 → Int32 → Int32 → Int32 → Int32 → Int32 → Int32 → Int32 → Int32 → Int32 → (Nat → Int32) → (Nat → Int32) → (Nat → Int32) → (Nat → Int32) → (Nat → Int32) → (Nat → Int32) → (Nat → Int32) → (Nat → Int32) → Prop} {p m c : Nat}
/-- the last three branches: taken, empty, or an error -/
theorem yz_445 {w : Nat} (hw : w < 127) (hc : c < 127) (h1 : yh_fi w c → J (nI (p + 1)) (nI (m + 1)) g_textLimit g_stackLimit g_depthLimit g_length g_stackSize g_depth g_place g_ready g_top g_errorPos b_text b_cells b_stack b_frames b_wants b_inverse b_kinds b_values) (h2 : ¬ yh_fi w c → (w = 1 ∨ w = 2 ∨ w = 7) → J (nI p) (nI (m + 1)) g_textLimit g_stackLimit g_depthLimit g_length g_stackSize g_depth g_place g_ready g_top g_errorPos b_text b_cells b_stack b_frames b_wants b_inverse b_kinds b_values) (h3 : ¬ yh_fi w c → ¬ (w = 1 ∨ w = 2 ∨ w = 7) → post (nI p) (g_textLimit, g_stackLimit, g_depthLimit, g_length, g_stackSize, g_depth, g_place, g_ready, g_top, g_errorPos, b_text, b_cells, b_stack, b_frames, b_wants, b_inverse, b_kinds, b_values)) : wY_syntaxError_445 post J (nI p) (nI m) (nI w) (nI c) g_textLimit g_stackLimit g_depthLimit g_length g_stackSize g_depth g_place g_ready g_top g_errorPos b_text b_cells b_stack b_frames b_wants b_inverse b_kinds b_values := by
  unfold wY_syntaxError_445
  exact yh_fits hw hc (fun h => br_f (by decide) (nm_r (nI_1 p) (nm_r (nI_1 m) (h1 h)))) (fun h => br_t rfl (pk_eq w 1 (fun e => nm_r (nI_1 m) (h2 h (by omega))) (fun n1 => pk_eq w 2 (fun e => nm_r (nI_1 m) (h2 h (by omega))) (fun n2 => pk_eq w 7 (fun e => nm_r (nI_1 m) (h2 h (by omega))) (fun n7 => h3 h (by omega)) rfl rfl (by omega) (by omega)) rfl rfl (by omega) (by omega)) rfl rfl (by omega) (by omega)))
/-- LIST -/
theorem yz_1s (hc : c < 127) (h : sc_sr c) (hs : sk_N wants ys) (hl : ys.length + 6 < 6000) (H : ∀ wants', sk_N wants' (3 :: 1 :: ys) → J (nI p) (nI (m + 1)) g_textLimit g_stackLimit g_depthLimit g_length g_stackSize g_depth g_place g_ready (nI (3 :: 1 :: ys).length) g_errorPos b_text b_cells b_stack b_frames wants' b_inverse b_kinds b_values) : wY_syntaxError_71 post J (nI p) (nI m) (nI 1) (nI c) g_textLimit g_stackLimit g_depthLimit g_length g_stackSize g_depth g_place g_ready (nI ys.length) g_errorPos b_text b_cells b_stack b_frames wants b_inverse b_kinds b_values := by
  unfold wY_syntaxError_71
  exact br_t rfl (yh_starts hc (fun _ => br_f (by decide) (yh_w2 (a := 3) (b := 1) rfl rfl (by omega) (by omega) hs hl (fun w hw => nm_r (nI_1 m) (H w hw)))) (fun h' => (h' h).elim))
theorem yz_1e (hc : c < 127) (h : ¬ sc_sr c) (hc0 : c ≠ 1) (H : J (nI p) (nI (m + 1)) g_textLimit g_stackLimit g_depthLimit g_length g_stackSize g_depth g_place g_ready g_top g_errorPos b_text b_cells b_stack b_frames b_wants b_inverse b_kinds b_values) : wY_syntaxError_71 post J (nI p) (nI m) (nI 1) (nI c) g_textLimit g_stackLimit g_depthLimit g_length g_stackSize g_depth g_place g_ready g_top g_errorPos b_text b_cells b_stack b_frames b_wants b_inverse b_kinds b_values := by
  unfold wY_syntaxError_71
  refine br_t rfl (yh_starts hc (fun h' => (h h').elim) (fun _ => br_t rfl ?_))
  unfold wY_syntaxError_100
  refine br_f (by decide) ?_
  unfold wY_syntaxError_127
  refine br_f (by decide) ?_
  unfold wY_syntaxError_161
  refine br_f (by decide) ?_
  unfold wY_syntaxError_199
  refine br_f (by decide) ?_
  unfold wY_syntaxError_234
  refine br_f (by decide) (br_f (by decide) ?_)
  unfold wY_syntaxError_279
  refine br_f (by decide) ?_
  unfold wY_syntaxError_309
  refine br_f (by decide) (br_f (by decide) ?_)
  unfold wY_syntaxError_361
  refine br_f (by decide) (br_f (by decide) (br_f (by decide) ?_))
  unfold wY_syntaxError_416
  refine br_f (by decide) ?_
  exact yz_445 (w := 1) (by omega) hc (fun z => by unfold yh_fi at z; omega) (fun _ _ => H) (fun _ z => by omega)
/-- any symbol from 4 on reaches 279 or later -/
theorem yz_t234 {w : Nat} (hw : w < 127) (hw3 : 3 < w) (hc : c < 127) (H : wY_syntaxError_234 post J (nI p) (nI m) (nI w) (nI c) g_textLimit g_stackLimit g_depthLimit g_length g_stackSize g_depth g_place g_ready g_top g_errorPos b_text b_cells b_stack b_frames b_wants b_inverse b_kinds b_values) : wY_syntaxError_71 post J (nI p) (nI m) (nI w) (nI c) g_textLimit g_stackLimit g_depthLimit g_length g_stackSize g_depth g_place g_ready g_top g_errorPos b_text b_cells b_stack b_frames b_wants b_inverse b_kinds b_values := by
  have e1 : ¬ nI w = 1 := fun h => by have := (nI_eq (a := w) (b := 1) (by omega) (by omega)).mp h; omega
  have e2 : ¬ nI w = 2 := fun h => by have := (nI_eq (a := w) (b := 2) (by omega) (by omega)).mp h; omega
  have e3 : ¬ nI w = 3 := fun h => by have := (nI_eq (a := w) (b := 3) (by omega) (by omega)).mp h; omega
  unfold wY_syntaxError_71
  refine br_f e1 ?_
  unfold wY_syntaxError_100
  refine br_f e2 ?_
  unfold wY_syntaxError_127
  refine br_f e3 ?_
  unfold wY_syntaxError_161
  refine br_f e3 ?_
  unfold wY_syntaxError_199
  exact br_f e3 H
theorem yz_t361 {w : Nat} (hw : w < 127) (hw3 : 7 < w) (hc : c < 127) (H : wY_syntaxError_361 post J (nI p) (nI m) (nI w) (nI c) g_textLimit g_stackLimit g_depthLimit g_length g_stackSize g_depth g_place g_ready g_top g_errorPos b_text b_cells b_stack b_frames b_wants b_inverse b_kinds b_values) : wY_syntaxError_71 post J (nI p) (nI m) (nI w) (nI c) g_textLimit g_stackLimit g_depthLimit g_length g_stackSize g_depth g_place g_ready g_top g_errorPos b_text b_cells b_stack b_frames b_wants b_inverse b_kinds b_values := by
  have e3 : ¬ nI w = 3 := fun h => by have := (nI_eq (a := w) (b := 3) (by omega) (by omega)).mp h; omega
  have e4 : ¬ nI w = 4 := fun h => by have := (nI_eq (a := w) (b := 4) (by omega) (by omega)).mp h; omega
  have e6 : ¬ nI w = 6 := fun h => by have := (nI_eq (a := w) (b := 6) (by omega) (by omega)).mp h; omega
  have e7 : ¬ nI w = 7 := fun h => by have := (nI_eq (a := w) (b := 7) (by omega) (by omega)).mp h; omega
  refine yz_t234 hw (by omega) hc ?_
  unfold wY_syntaxError_234
  refine br_f e3 (br_f e4 ?_)
  unfold wY_syntaxError_279
  refine br_f e4 ?_
  unfold wY_syntaxError_309
  exact br_f e6 (br_f e7 H)
/-- a terminal or NAME -/
theorem yz_tm {w : Nat} (hw : w < 127) (hw3 : 10 ≤ w) (hc : c < 127) (h1 : yh_fi w c → J (nI (p + 1)) (nI (m + 1)) g_textLimit g_stackLimit g_depthLimit g_length g_stackSize g_depth g_place g_ready g_top g_errorPos b_text b_cells b_stack b_frames b_wants b_inverse b_kinds b_values) (h3 : ¬ yh_fi w c → post (nI p) (g_textLimit, g_stackLimit, g_depthLimit, g_length, g_stackSize, g_depth, g_place, g_ready, g_top, g_errorPos, b_text, b_cells, b_stack, b_frames, b_wants, b_inverse, b_kinds, b_values)) : wY_syntaxError_71 post J (nI p) (nI m) (nI w) (nI c) g_textLimit g_stackLimit g_depthLimit g_length g_stackSize g_depth g_place g_ready g_top g_errorPos b_text b_cells b_stack b_frames b_wants b_inverse b_kinds b_values := by
  have e5 : ¬ nI w = 5 := fun h => by have := (nI_eq (a := w) (b := 5) (by omega) (by omega)).mp h; omega
  have e8 : ¬ nI w = 8 := fun h => by have := (nI_eq (a := w) (b := 8) (by omega) (by omega)).mp h; omega
  have e9 : ¬ nI w = 9 := fun h => by have := (nI_eq (a := w) (b := 9) (by omega) (by omega)).mp h; omega
  refine yz_t361 hw (by omega) hc ?_
  unfold wY_syntaxError_361
  refine br_f e9 (br_f e5 (br_f e8 ?_))
  unfold wY_syntaxError_416
  exact br_f e8 (yz_445 hw hc h1 (fun _ z => by omega) (fun z _ => h3 z))
/-- BLOCK -/
theorem yz_9 (hc : c < 127) (hs : sk_N wants ys) (hl : ys.length + 6 < 6000) (H : ∀ wants', sk_N wants' (123 :: 1 :: 125 :: ys) → J (nI p) (nI (m + 1)) g_textLimit g_stackLimit g_depthLimit g_length g_stackSize g_depth g_place g_ready (nI (123 :: 1 :: 125 :: ys).length) g_errorPos b_text b_cells b_stack b_frames wants' b_inverse b_kinds b_values) : wY_syntaxError_71 post J (nI p) (nI m) (nI 9) (nI c) g_textLimit g_stackLimit g_depthLimit g_length g_stackSize g_depth g_place g_ready (nI ys.length) g_errorPos b_text b_cells b_stack b_frames wants b_inverse b_kinds b_values := by
  refine yz_t361 (by omega) (by omega) hc ?_
  unfold wY_syntaxError_361
  exact br_t rfl (yh_w3 (a := 123) (b := 1) (c := 125) rfl rfl rfl (by omega) (by omega) (by omega) hs hl (fun w hw => nm_r (nI_1 m) (H w hw)))
/-- TARGET and PRIMARY with a bracket -/
theorem yz_5b {w : Nat} (hw : w = 5 ∨ w = 8) (hs : sk_N wants ys) (hl : ys.length + 6 < 6000) (H : ∀ wants', sk_N wants' (91 :: 6 :: 93 :: ys) → J (nI p) (nI (m + 1)) g_textLimit g_stackLimit g_depthLimit g_length g_stackSize g_depth g_place g_ready (nI (91 :: 6 :: 93 :: ys).length) g_errorPos b_text b_cells b_stack b_frames wants' b_inverse b_kinds b_values) : wY_syntaxError_71 post J (nI p) (nI m) (nI w) (nI 91) g_textLimit g_stackLimit g_depthLimit g_length g_stackSize g_depth g_place g_ready (nI ys.length) g_errorPos b_text b_cells b_stack b_frames wants b_inverse b_kinds b_values := by
  have h393 : wY_syntaxError_393 post J (nI p) (nI m) (nI w) (nI 91) g_textLimit g_stackLimit g_depthLimit g_length g_stackSize g_depth g_place g_ready (nI ys.length) g_errorPos b_text b_cells b_stack b_frames wants b_inverse b_kinds b_values := by
    unfold wY_syntaxError_393
    exact br_t rfl (yh_w3 (a := 91) (b := 6) (c := 93) rfl rfl rfl (by omega) (by omega) (by omega) hs hl (fun w hw => nm_r (nI_1 m) (H w hw)))
  rcases hw with rfl | rfl
  · refine yz_t234 (by omega) (by omega) (by omega) ?_
    unfold wY_syntaxError_234
    refine br_f (by decide) (br_f (by decide) ?_)
    unfold wY_syntaxError_279
    refine br_f (by decide) ?_
    unfold wY_syntaxError_309
    refine br_f (by decide) (br_f (by decide) ?_)
    unfold wY_syntaxError_361
    exact br_f (by decide) (br_t rfl h393)
  · refine yz_t361 (by omega) (by omega) (by omega) ?_
    unfold wY_syntaxError_361
    exact br_f (by decide) (br_f (by decide) (br_t rfl h393))
theorem yz_8p (hs : sk_N wants ys) (hl : ys.length + 6 < 6000) (H : ∀ wants', sk_N wants' (40 :: 6 :: 41 :: ys) → J (nI p) (nI (m + 1)) g_textLimit g_stackLimit g_depthLimit g_length g_stackSize g_depth g_place g_ready (nI (40 :: 6 :: 41 :: ys).length) g_errorPos b_text b_cells b_stack b_frames wants' b_inverse b_kinds b_values) : wY_syntaxError_71 post J (nI p) (nI m) (nI 8) (nI 40) g_textLimit g_stackLimit g_depthLimit g_length g_stackSize g_depth g_place g_ready (nI ys.length) g_errorPos b_text b_cells b_stack b_frames wants b_inverse b_kinds b_values := by
  refine yz_t361 (by omega) (by omega) (by omega) ?_
  unfold wY_syntaxError_361
  refine br_f (by decide) (br_f (by decide) (br_t rfl ?_))
  unfold wY_syntaxError_393
  refine br_f (by decide) ?_
  unfold wY_syntaxError_416
  exact br_t rfl (br_t rfl (yh_w3 (a := 40) (b := 6) (c := 41) rfl rfl rfl (by omega) (by omega) (by omega) hs hl (fun w hw => nm_r (nI_1 m) (H w hw))))
theorem yz_58 {w : Nat} (hw : w = 5 ∨ w = 8) (hc : c < 127) (hc91 : c ≠ 91) (hc40 : w = 8 → c ≠ 40) (h1 : yh_fi w c → J (nI (p + 1)) (nI (m + 1)) g_textLimit g_stackLimit g_depthLimit g_length g_stackSize g_depth g_place g_ready g_top g_errorPos b_text b_cells b_stack b_frames b_wants b_inverse b_kinds b_values) (h3 : ¬ yh_fi w c → post (nI p) (g_textLimit, g_stackLimit, g_depthLimit, g_length, g_stackSize, g_depth, g_place, g_ready, g_top, g_errorPos, b_text, b_cells, b_stack, b_frames, b_wants, b_inverse, b_kinds, b_values)) : wY_syntaxError_71 post J (nI p) (nI m) (nI w) (nI c) g_textLimit g_stackLimit g_depthLimit g_length g_stackSize g_depth g_place g_ready g_top g_errorPos b_text b_cells b_stack b_frames b_wants b_inverse b_kinds b_values := by
  have e91 : ¬ nI c = 91 := fun h => hc91 ((nI_eq (a := c) (b := 91) (by omega) (by omega)).mp h)
  have h445 : wY_syntaxError_445 post J (nI p) (nI m) (nI w) (nI c) g_textLimit g_stackLimit g_depthLimit g_length g_stackSize g_depth g_place g_ready g_top g_errorPos b_text b_cells b_stack b_frames b_wants b_inverse b_kinds b_values := yz_445 (by omega) hc h1 (fun _ z => by omega) (fun z _ => h3 z)
  have h393 : wY_syntaxError_393 post J (nI p) (nI m) (nI w) (nI c) g_textLimit g_stackLimit g_depthLimit g_length g_stackSize g_depth g_place g_ready g_top g_errorPos b_text b_cells b_stack b_frames b_wants b_inverse b_kinds b_values := by
    unfold wY_syntaxError_393
    refine br_f e91 ?_
    unfold wY_syntaxError_416
    rcases hw with rfl | rfl
    · exact br_f (by decide) h445
    · exact br_t rfl (br_f (fun h => hc40 rfl ((nI_eq (a := c) (b := 40) (by omega) (by omega)).mp h)) h445)
  rcases hw with rfl | rfl
  · refine yz_t234 (by omega) (by omega) (by omega) ?_
    unfold wY_syntaxError_234
    refine br_f (by decide) (br_f (by decide) ?_)
    unfold wY_syntaxError_279
    refine br_f (by decide) ?_
    unfold wY_syntaxError_309
    refine br_f (by decide) (br_f (by decide) ?_)
    unfold wY_syntaxError_361
    exact br_f (by decide) (br_t rfl h393)
  · refine yz_t361 (by omega) (by omega) (by omega) ?_
    unfold wY_syntaxError_361
    exact br_f (by decide) (br_f (by decide) (br_t rfl h393))
/-- EXPR, REST, CHANGE -/
theorem yz_6 (hc : c < 127) (hs : sk_N wants ys) (hl : ys.length + 6 < 6000) (H : ∀ wants', sk_N wants' (8 :: 7 :: ys) → J (nI p) (nI (m + 1)) g_textLimit g_stackLimit g_depthLimit g_length g_stackSize g_depth g_place g_ready (nI (8 :: 7 :: ys).length) g_errorPos b_text b_cells b_stack b_frames wants' b_inverse b_kinds b_values) : wY_syntaxError_71 post J (nI p) (nI m) (nI 6) (nI c) g_textLimit g_stackLimit g_depthLimit g_length g_stackSize g_depth g_place g_ready (nI ys.length) g_errorPos b_text b_cells b_stack b_frames wants b_inverse b_kinds b_values := by
  refine yz_t234 (by omega) (by omega) hc ?_
  unfold wY_syntaxError_234
  refine br_f (by decide) (br_f (by decide) ?_)
  unfold wY_syntaxError_279
  refine br_f (by decide) ?_
  unfold wY_syntaxError_309
  exact br_t rfl (yh_w2 (a := 8) (b := 7) rfl rfl (by omega) (by omega) hs hl (fun w hw => nm_r (nI_1 m) (H w hw)))
theorem yh_lv0 {c : Nat} : (nI (yh_lv c) ≤ 0 ↔ ex_lv c = 0) ∧ (nI (yh_lv c) = 2 ↔ ex_lv c = 2) ∧ yh_lv c ≤ 3 := by
  have h := ex_lv_le c
  rcases h with h | h | h | h
  · have e : yh_lv c = 0 := by unfold yh_lv; rw [if_pos h]
    rw [e, h]; exact ⟨by decide, by decide, by omega⟩
  · have e : yh_lv c = 3 := by unfold yh_lv; rw [if_neg (by omega), h]
    rw [e, h]; exact ⟨by decide, by decide, by omega⟩
  · have e : yh_lv c = 2 := by unfold yh_lv; rw [if_neg (by omega), h]
    rw [e, h]; exact ⟨by decide, by decide, by omega⟩
  · have e : yh_lv c = 1 := by unfold yh_lv; rw [if_neg (by omega), h]
    rw [e, h]; exact ⟨by decide, by decide, by omega⟩
theorem yz_7s (hc : c < 127) (h : 0 < ex_lv c) (hs : sk_N wants ys) (hl : ys.length + 6 < 6000) (H : ∀ wants', sk_N wants' (c :: 8 :: 7 :: ys) → J (nI p) (nI (m + 1)) g_textLimit g_stackLimit g_depthLimit g_length g_stackSize g_depth g_place g_ready (nI (c :: 8 :: 7 :: ys).length) g_errorPos b_text b_cells b_stack b_frames wants' b_inverse b_kinds b_values) : wY_syntaxError_71 post J (nI p) (nI m) (nI 7) (nI c) g_textLimit g_stackLimit g_depthLimit g_length g_stackSize g_depth g_place g_ready (nI ys.length) g_errorPos b_text b_cells b_stack b_frames wants b_inverse b_kinds b_values := by
  have hc0 := ex_lv_at h
  refine yz_t234 (by omega) (by omega) hc ?_
  unfold wY_syntaxError_234
  refine br_f (by decide) (br_f (by decide) ?_)
  unfold wY_syntaxError_279
  refine br_f (by decide) ?_
  unfold wY_syntaxError_309
  exact br_f (by decide) (br_t rfl (yh_lev hc (br_f (fun z => by have := yh_lv0.1.mp z; omega) (yh_w3 (a := c) (b := 8) (c := 7) rfl rfl rfl (by omega) (by omega) (by omega) hs hl (fun w hw => nm_r (nI_1 m) (H w hw))))))
theorem yz_7e (hc : c < 127) (h : ex_lv c = 0) (hc7 : c ≠ 7) (H : J (nI p) (nI (m + 1)) g_textLimit g_stackLimit g_depthLimit g_length g_stackSize g_depth g_place g_ready g_top g_errorPos b_text b_cells b_stack b_frames b_wants b_inverse b_kinds b_values) : wY_syntaxError_71 post J (nI p) (nI m) (nI 7) (nI c) g_textLimit g_stackLimit g_depthLimit g_length g_stackSize g_depth g_place g_ready g_top g_errorPos b_text b_cells b_stack b_frames b_wants b_inverse b_kinds b_values := by
  refine yz_t234 (by omega) (by omega) hc ?_
  unfold wY_syntaxError_234
  refine br_f (by decide) (br_f (by decide) ?_)
  unfold wY_syntaxError_279
  refine br_f (by decide) ?_
  unfold wY_syntaxError_309
  refine br_f (by decide) (br_t rfl (yh_lev hc (br_t (yh_lv0.1.mpr h) ?_)))
  unfold wY_syntaxError_361
  refine br_f (by decide) (br_f (by decide) (br_f (by decide) ?_))
  unfold wY_syntaxError_416
  refine br_f (by decide) ?_
  exact yz_445 (w := 7) (by omega) hc (fun z => by unfold yh_fi at z; omega) (fun _ _ => H) (fun _ z => by omega)
theorem yz_4d (hs : sk_N wants ys) (hl : ys.length + 6 < 6000) (H : ∀ wants', sk_N wants' (36 :: 5 :: ys) → J (nI p) (nI (m + 1)) g_textLimit g_stackLimit g_depthLimit g_length g_stackSize g_depth g_place g_ready (nI (36 :: 5 :: ys).length) g_errorPos b_text b_cells b_stack b_frames wants' b_inverse b_kinds b_values) : wY_syntaxError_71 post J (nI p) (nI m) (nI 4) (nI 36) g_textLimit g_stackLimit g_depthLimit g_length g_stackSize g_depth g_place g_ready (nI ys.length) g_errorPos b_text b_cells b_stack b_frames wants b_inverse b_kinds b_values := by
  refine yz_t234 (by omega) (by omega) (by omega) ?_
  unfold wY_syntaxError_234
  exact br_f (by decide) (br_t rfl (br_t rfl (yh_w2 (a := 36) (b := 5) rfl rfl (by omega) (by omega) hs hl (fun w hw => nm_r (nI_1 m) (H w hw)))))
theorem yz_4u (hc : c < 127) (h : ex_lv c = 2) (hs : sk_N wants ys) (hl : ys.length + 6 < 6000) (H : ∀ wants', sk_N wants' (c :: 6 :: ys) → J (nI p) (nI (m + 1)) g_textLimit g_stackLimit g_depthLimit g_length g_stackSize g_depth g_place g_ready (nI (c :: 6 :: ys).length) g_errorPos b_text b_cells b_stack b_frames wants' b_inverse b_kinds b_values) : wY_syntaxError_71 post J (nI p) (nI m) (nI 4) (nI c) g_textLimit g_stackLimit g_depthLimit g_length g_stackSize g_depth g_place g_ready (nI ys.length) g_errorPos b_text b_cells b_stack b_frames wants b_inverse b_kinds b_values := by
  have hc0 := ex_lv_at (k := c) (by omega)
  refine yz_t234 (by omega) (by omega) hc ?_
  unfold wY_syntaxError_234
  refine br_f (by decide) (br_t rfl (br_f (fun z => by have := (nI_eq (a := c) (b := 36) (by omega) (by omega)).mp z; omega) ?_))
  unfold wY_syntaxError_279
  exact br_t rfl (yh_lev hc (br_t (yh_lv0.2.1.mpr h) (yh_w2 (a := c) (b := 6) rfl rfl (by omega) (by omega) hs hl (fun w hw => nm_r (nI_1 m) (H w hw)))))
theorem yz_4e (hc : c < 127) (h : ex_lv c ≠ 2) (hc36 : c ≠ 36) (hc4 : c ≠ 4) (H : post (nI p) (g_textLimit, g_stackLimit, g_depthLimit, g_length, g_stackSize, g_depth, g_place, g_ready, g_top, g_errorPos, b_text, b_cells, b_stack, b_frames, b_wants, b_inverse, b_kinds, b_values)) : wY_syntaxError_71 post J (nI p) (nI m) (nI 4) (nI c) g_textLimit g_stackLimit g_depthLimit g_length g_stackSize g_depth g_place g_ready g_top g_errorPos b_text b_cells b_stack b_frames b_wants b_inverse b_kinds b_values := by
  refine yz_t234 (by omega) (by omega) hc ?_
  unfold wY_syntaxError_234
  refine br_f (by decide) (br_t rfl (br_f (fun z => hc36 ((nI_eq (a := c) (b := 36) (by omega) (by omega)).mp z)) ?_))
  unfold wY_syntaxError_279
  refine br_t rfl (yh_lev hc (br_f (fun z => h (yh_lv0.2.1.mp z)) ?_))
  unfold wY_syntaxError_309
  refine br_f (by decide) (br_f (by decide) ?_)
  unfold wY_syntaxError_361
  refine br_f (by decide) (br_f (by decide) (br_f (by decide) ?_))
  unfold wY_syntaxError_416
  refine br_f (by decide) ?_
  exact yz_445 (w := 4) (by omega) hc (fun z => by unfold yh_fi at z; omega) (fun _ z => by omega) (fun _ _ => H)
/-- PROCS -/
theorem yz_2s (hs : sk_N wants ys) (hl : ys.length + 6 < 6000) (H : ∀ wants', sk_N wants' (58 :: 10 :: 1 :: 2 :: ys) → J (nI p) (nI (m + 1)) g_textLimit g_stackLimit g_depthLimit g_length g_stackSize g_depth g_place g_ready (nI (58 :: 10 :: 1 :: 2 :: ys).length) g_errorPos b_text b_cells b_stack b_frames wants' b_inverse b_kinds b_values) : wY_syntaxError_71 post J (nI p) (nI m) (nI 2) (nI 58) g_textLimit g_stackLimit g_depthLimit g_length g_stackSize g_depth g_place g_ready (nI ys.length) g_errorPos b_text b_cells b_stack b_frames wants b_inverse b_kinds b_values := by
  unfold wY_syntaxError_71
  refine br_f (by decide) ?_
  unfold wY_syntaxError_100
  exact br_t rfl (br_t rfl (yh_w4 (a := 58) (b := 10) (c := 1) (d := 2) rfl rfl rfl rfl (by omega) (by omega) (by omega) (by omega) hs hl (fun w hw => nm_r (nI_1 m) (H w hw))))
theorem yz_2e (hc : c < 127) (hc58 : c ≠ 58) (hc2 : c ≠ 2) (H : J (nI p) (nI (m + 1)) g_textLimit g_stackLimit g_depthLimit g_length g_stackSize g_depth g_place g_ready g_top g_errorPos b_text b_cells b_stack b_frames b_wants b_inverse b_kinds b_values) : wY_syntaxError_71 post J (nI p) (nI m) (nI 2) (nI c) g_textLimit g_stackLimit g_depthLimit g_length g_stackSize g_depth g_place g_ready g_top g_errorPos b_text b_cells b_stack b_frames b_wants b_inverse b_kinds b_values := by
  unfold wY_syntaxError_71
  refine br_f (by decide) ?_
  unfold wY_syntaxError_100
  refine br_t rfl (br_f (fun z => hc58 ((nI_eq (a := c) (b := 58) (by omega) (by omega)).mp z)) ?_)
  unfold wY_syntaxError_127
  refine br_f (by decide) ?_
  unfold wY_syntaxError_161
  refine br_f (by decide) ?_
  unfold wY_syntaxError_199
  refine br_f (by decide) ?_
  unfold wY_syntaxError_234
  refine br_f (by decide) (br_f (by decide) ?_)
  unfold wY_syntaxError_279
  refine br_f (by decide) ?_
  unfold wY_syntaxError_309
  refine br_f (by decide) (br_f (by decide) ?_)
  unfold wY_syntaxError_361
  refine br_f (by decide) (br_f (by decide) (br_f (by decide) ?_))
  unfold wY_syntaxError_416
  refine br_f (by decide) ?_
  exact yz_445 (w := 2) (by omega) hc (fun z => by unfold yh_fi at z; omega) (fun _ _ => H) (fun _ z => by omega)
/-- STATEMENT -/
theorem yz_3k (hc : c = 62 ∨ c = 60) (hs : sk_N wants ys) (hl : ys.length + 6 < 6000) (H : ∀ wants', sk_N wants' (c :: 5 :: 59 :: ys) → J (nI p) (nI (m + 1)) g_textLimit g_stackLimit g_depthLimit g_length g_stackSize g_depth g_place g_ready (nI (c :: 5 :: 59 :: ys).length) g_errorPos b_text b_cells b_stack b_frames wants' b_inverse b_kinds b_values) : wY_syntaxError_71 post J (nI p) (nI m) (nI 3) (nI c) g_textLimit g_stackLimit g_depthLimit g_length g_stackSize g_depth g_place g_ready (nI ys.length) g_errorPos b_text b_cells b_stack b_frames wants b_inverse b_kinds b_values := by
  have h146 : wY_syntaxError_146 post J (nI p) (nI m) (nI c) g_textLimit g_stackLimit g_depthLimit g_length g_stackSize g_depth g_place g_ready (nI ys.length) g_errorPos b_text b_cells b_stack b_frames wants b_inverse b_kinds b_values := by
    unfold wY_syntaxError_146
    exact yh_w3 (a := c) (b := 5) (c := 59) rfl rfl rfl (by omega) (by omega) (by omega) hs hl (fun w hw => nm_r (nI_1 m) (H w hw))
  unfold wY_syntaxError_71
  refine br_f (by decide) ?_
  unfold wY_syntaxError_100
  refine br_f (by decide) ?_
  unfold wY_syntaxError_127
  exact br_t rfl (pk_eq c 62 (fun _ => h146) (fun n1 => pk_eq c 60 (fun _ => h146) (fun n2 => by omega) rfl rfl (by omega) (by omega)) rfl rfl (by omega) (by omega))
theorem yz_3b (hc : c = 63 ∨ c = 64) (hs : sk_N wants ys) (hl : ys.length + 6 < 6000) (H : ∀ wants', sk_N wants' (c :: 6 :: 9 :: 9 :: 6 :: 59 :: ys) → J (nI p) (nI (m + 1)) g_textLimit g_stackLimit g_depthLimit g_length g_stackSize g_depth g_place g_ready (nI (c :: 6 :: 9 :: 9 :: 6 :: 59 :: ys).length) g_errorPos b_text b_cells b_stack b_frames wants' b_inverse b_kinds b_values) : wY_syntaxError_71 post J (nI p) (nI m) (nI 3) (nI c) g_textLimit g_stackLimit g_depthLimit g_length g_stackSize g_depth g_place g_ready (nI ys.length) g_errorPos b_text b_cells b_stack b_frames wants b_inverse b_kinds b_values := by
  have h180 : wY_syntaxError_180 post J (nI p) (nI m) (nI c) g_textLimit g_stackLimit g_depthLimit g_length g_stackSize g_depth g_place g_ready (nI ys.length) g_errorPos b_text b_cells b_stack b_frames wants b_inverse b_kinds b_values := by
    unfold wY_syntaxError_180
    exact yh_w6 (a := c) (b := 6) (c := 9) (d := 9) (e := 6) (f := 59) rfl rfl rfl rfl rfl rfl (by omega) (by omega) (by omega) (by omega) (by omega) (by omega) hs hl (fun w hw => nm_r (nI_1 m) (H w hw))
  unfold wY_syntaxError_71
  refine br_f (by decide) ?_
  unfold wY_syntaxError_100
  refine br_f (by decide) ?_
  unfold wY_syntaxError_127
  refine br_t rfl (pk_eq c 62 (fun _ => by omega) (fun n1 => pk_eq c 60 (fun _ => by omega) (fun n2 => ?_) rfl rfl (by omega) (by omega)) rfl rfl (by omega) (by omega))
  unfold wY_syntaxError_161
  exact br_t rfl (pk_eq c 63 (fun _ => h180) (fun n1 => pk_eq c 64 (fun _ => h180) (fun n2 => by omega) rfl rfl (by omega) (by omega)) rfl rfl (by omega) (by omega))
theorem yz_3c (hc : c = 33 ∨ c = 126) (hs : sk_N wants ys) (hl : ys.length + 6 < 6000) (H : ∀ wants', sk_N wants' (c :: 10 :: 59 :: ys) → J (nI p) (nI (m + 1)) g_textLimit g_stackLimit g_depthLimit g_length g_stackSize g_depth g_place g_ready (nI (c :: 10 :: 59 :: ys).length) g_errorPos b_text b_cells b_stack b_frames wants' b_inverse b_kinds b_values) : wY_syntaxError_71 post J (nI p) (nI m) (nI 3) (nI c) g_textLimit g_stackLimit g_depthLimit g_length g_stackSize g_depth g_place g_ready (nI ys.length) g_errorPos b_text b_cells b_stack b_frames wants b_inverse b_kinds b_values := by
  have h218 : wY_syntaxError_218 post J (nI p) (nI m) (nI c) g_textLimit g_stackLimit g_depthLimit g_length g_stackSize g_depth g_place g_ready (nI ys.length) g_errorPos b_text b_cells b_stack b_frames wants b_inverse b_kinds b_values := by
    unfold wY_syntaxError_218
    exact yh_w3 (a := c) (b := 10) (c := 59) rfl rfl rfl (by omega) (by omega) (by omega) hs hl (fun w hw => nm_r (nI_1 m) (H w hw))
  unfold wY_syntaxError_71
  refine br_f (by decide) ?_
  unfold wY_syntaxError_100
  refine br_f (by decide) ?_
  unfold wY_syntaxError_127
  refine br_t rfl (pk_eq c 62 (fun _ => by omega) (fun n1 => pk_eq c 60 (fun _ => by omega) (fun n2 => ?_) rfl rfl (by omega) (by omega)) rfl rfl (by omega) (by omega))
  unfold wY_syntaxError_161
  refine br_t rfl (pk_eq c 63 (fun _ => by omega) (fun n1 => pk_eq c 64 (fun _ => by omega) (fun n2 => ?_) rfl rfl (by omega) (by omega)) rfl rfl (by omega) (by omega))
  unfold wY_syntaxError_199
  exact br_t rfl (pk_eq c 33 (fun _ => h218) (fun n1 => pk_eq c 126 (fun _ => h218) (fun n2 => by omega) rfl rfl (by omega) (by omega)) rfl rfl (by omega) (by omega))
theorem yz_3u (hc : c < 127) (h1 : c ≠ 62) (h2 : c ≠ 60) (h3 : c ≠ 63) (h4 : c ≠ 64) (h5 : c ≠ 33) (h6 : c ≠ 126) (hs : sk_N wants ys) (hl : ys.length + 6 < 6000) (H : ∀ wants', sk_N wants' (5 :: 4 :: 59 :: ys) → J (nI p) (nI (m + 1)) g_textLimit g_stackLimit g_depthLimit g_length g_stackSize g_depth g_place g_ready (nI (5 :: 4 :: 59 :: ys).length) g_errorPos b_text b_cells b_stack b_frames wants' b_inverse b_kinds b_values) : wY_syntaxError_71 post J (nI p) (nI m) (nI 3) (nI c) g_textLimit g_stackLimit g_depthLimit g_length g_stackSize g_depth g_place g_ready (nI ys.length) g_errorPos b_text b_cells b_stack b_frames wants b_inverse b_kinds b_values := by
  unfold wY_syntaxError_71
  refine br_f (by decide) ?_
  unfold wY_syntaxError_100
  refine br_f (by decide) ?_
  unfold wY_syntaxError_127
  refine br_t rfl (pk_eq c 62 (fun _ => by omega) (fun n1 => pk_eq c 60 (fun _ => by omega) (fun n2 => ?_) rfl rfl (by omega) (by omega)) rfl rfl (by omega) (by omega))
  unfold wY_syntaxError_161
  refine br_t rfl (pk_eq c 63 (fun _ => by omega) (fun n1 => pk_eq c 64 (fun _ => by omega) (fun n2 => ?_) rfl rfl (by omega) (by omega)) rfl rfl (by omega) (by omega))
  unfold wY_syntaxError_199
  refine br_t rfl (pk_eq c 33 (fun _ => by omega) (fun n1 => pk_eq c 126 (fun _ => by omega) (fun n2 => ?_) rfl rfl (by omega) (by omega)) rfl rfl (by omega) (by omega))
  unfold wY_syntaxError_234
  exact br_t rfl (yh_w3 (a := 5) (b := 4) (c := 59) rfl rfl rfl (by omega) (by omega) (by omega) hs hl (fun w hw => nm_r (nI_1 m) (H w hw)))
end
end
section
/-! Y's syntax check follows the machine -/
/-- Y's stack ys stands for X's stack -/
def yp_r : List Nat → List Nat → Prop
  | [], ys => ys = []
  | s :: st, ys => if s = 76 then ∃ ys', ys = 1 :: ys' ∧ yp_r st ys'
    else if s = 80 then ys = [2] ∧ st = []
    else if s = 84 then ∃ ys', ys = 5 :: ys' ∧ yp_r st ys'
    else if s = 85 then ∃ ys', ys = 4 :: 59 :: ys' ∧ yp_r st ys'
    else if s = 69 then ∃ ys', (ys = 6 :: ys' ∨ ys = 8 :: 7 :: ys') ∧ yp_r st ys'
    else if s = 79 then ∃ ys', ys = 7 :: ys' ∧ yp_r st ys'
    else if s = 78 then ∃ ys', ys = 10 :: ys' ∧ yp_r st ys'
    else if s = 68 then ∃ ys', ys = 10 :: ys' ∧ yp_r st ys'
    else if s = 123 then ∃ ys', (ys = 123 :: ys' ∧ yp_r st ys') ∨ (ys = 9 :: ys' ∧ yp_r st (1 :: 125 :: ys'))
    else ∃ ys', ys = s :: ys' ∧ yp_r st ys'
theorem yp_r_len : ∀ st ys, yp_r st ys → ys.length ≤ 2 * st.length := by
  intro st
  induction st with
  | nil => intro ys h; have : ys = [] := h; rw [this]; exact Nat.le_refl _
  | cons s st ih =>
    intro ys h
    unfold yp_r at h
    rw [List.length_cons]
    split at h
    · obtain ⟨ys', rfl, h⟩ := h; have := ih _ h; simp only [List.length_cons]; omega
    split at h
    · rw [h.1]; simp only [List.length_cons, List.length_nil]; omega
    split at h
    · obtain ⟨ys', rfl, h⟩ := h; have := ih _ h; simp only [List.length_cons]; omega
    split at h
    · obtain ⟨ys', rfl, h⟩ := h; have := ih _ h; simp only [List.length_cons]; omega
    split at h
    · obtain ⟨ys', rfl | rfl, h⟩ := h <;> (have := ih _ h; simp only [List.length_cons]; omega)
    split at h
    · obtain ⟨ys', rfl, h⟩ := h; have := ih _ h; simp only [List.length_cons]; omega
    split at h
    · obtain ⟨ys', rfl, h⟩ := h; have := ih _ h; simp only [List.length_cons]; omega
    split at h
    · obtain ⟨ys', rfl, h⟩ := h; have := ih _ h; simp only [List.length_cons]; omega
    split at h
    · rcases h with ⟨ys', ⟨rfl, h⟩ | ⟨rfl, h⟩⟩
      · have := ih _ h; simp only [List.length_cons]; omega
      · have := ih _ h; simp only [List.length_cons] at this ⊢; omega
    · obtain ⟨ys', rfl, h⟩ := h; have := ih _ h; simp only [List.length_cons]; omega
def yp_W (post : Int32 → SY → Prop) (t : Nat → Nat) (n : Nat) (st : List Nat) (p : Nat) (g_textLimit g_stackLimit g_depthLimit g_stackSize g_depth g_place g_ready g_errorPos : Int32) (b_cells b_stack b_frames b_inverse b_kinds b_values : Nat → Int32) : Prop :=
  ∀ (ys : List Nat) (wants : Nat → Int32) (m k : Nat), yp_r st ys → sk_N wants ys → m + gr_fi 13 5 n st p ≤ 2700 → gr_fi 13 5 n st p < k →
    wY_syntaxError_19 post k (nI p) (nI m) g_textLimit g_stackLimit g_depthLimit (nI n) g_stackSize g_depth g_place g_ready (nI ys.length) g_errorPos (fun j => nI (t j)) b_cells b_stack b_frames wants b_inverse b_kinds b_values
section
variable {g_textLimit g_stackLimit g_depthLimit g_stackSize g_depth g_place g_ready g_errorPos : Int32} {b_cells b_stack b_frames b_inverse b_kinds b_values : Nat → Int32}
variable {t : Nat → Nat} {n : Nat} {post : Int32 → SY → Prop}
theorem yp_rd {w p m k : Nat} {ys : List Nat} {wants : Nat → Int32} (X : xp_tx t n) (hp : p ≤ n) (hm : m < 6000) (hl : ys.length < 6000) (hs : sk_N wants (w :: ys))
    (H : wY_syntaxError_71 post (wY_syntaxError_19 post k) (nI p) (nI m) (nI w) (nI (gr_ch t n p)) g_textLimit g_stackLimit g_depthLimit (nI n) g_stackSize g_depth g_place g_ready (nI ys.length) g_errorPos (fun j => nI (t j)) b_cells b_stack b_frames wants b_inverse b_kinds b_values) :
    wY_syntaxError_19 post (k + 1) (nI p) (nI m) g_textLimit g_stackLimit g_depthLimit (nI n) g_stackSize g_depth g_place g_ready (nI (w :: ys).length) g_errorPos (fun j => nI (t j)) b_cells b_stack b_frames wants b_inverse b_kinds b_values := by
  have hn := X.1
  refine br_f (nI_ge (b := 6000) (by omega) (by omega)) (br_f (nI_nle (by rw [List.length_cons]; omega) (by rw [List.length_cons]; omega)) (nm_r (e' := nI ys.length) (nI_pred ys.length) (And.intro (vp_in_nI (by omega) (by omega)) (nm_r (e' := nI w) (by rw [nI_clamp (by omega)]; exact hs.1) ?_))))
  refine pk_le n p (fun h => ?_) (fun h => And.intro (vp_in_nI (by omega) (by omega)) ?_) rfl rfl (by omega) (by omega)
  · rw [gr_ch_e h] at H; exact H
  · rw [gr_ch_n h] at H
    show wY_syntaxError_71 post _ (nI p) (nI m) (nI w) (nI (t (nI p).toNatClampNeg)) g_textLimit g_stackLimit g_depthLimit (nI n) g_stackSize g_depth g_place g_ready (nI ys.length) g_errorPos (fun j => nI (t j)) b_cells b_stack b_frames wants b_inverse b_kinds b_values
    rw [nI_clamp (by omega)]
    exact H
theorem yp_end {p : Nat} (hn : n ≤ 200) (hp : p ≤ n) (H : ∀ g_top b_wants, post (if p < n then nI p else -1) (g_textLimit, g_stackLimit, g_depthLimit, nI n, g_stackSize, g_depth, g_place, g_ready, g_top, g_errorPos, fun j => nI (t j), b_cells, b_stack, b_frames, b_wants, b_inverse, b_kinds, b_values)) : yp_W post t n [] p g_textLimit g_stackLimit g_depthLimit g_stackSize g_depth g_place g_ready g_errorPos b_cells b_stack b_frames b_inverse b_kinds b_values := by
  intro ys wants m k hr hs hm hk
  have : ys = [] := hr
  subst this
  cases k with
  | zero => omega
  | succ k =>
    have h485 : wY_syntaxError_485 post (nI p) g_textLimit g_stackLimit g_depthLimit (nI n) g_stackSize g_depth g_place g_ready (nI ([] : List Nat).length) g_errorPos (fun j => nI (t j)) b_cells b_stack b_frames wants b_inverse b_kinds b_values := by
      unfold wY_syntaxError_485
      refine pk_le n p (fun h => ?_) (fun h => ?_) rfl rfl (by omega) (by omega)
      · have := H (nI ([] : List Nat).length) wants; rw [if_neg (by omega)] at this; exact this
      · have := H (nI ([] : List Nat).length) wants; rw [if_pos (by omega)] at this; exact this
    exact br_c (fun _ => h485) (fun _ => br_t (by decide) h485)
/-- a terminal on top that is the next character -/
theorem yp_tk {w p m k : Nat} {ys : List Nat} {wants : Nat → Int32} (X : xp_tx t n) (hp : p < n) (hm : m < 6000) (hl : ys.length < 6000) (hs : sk_N wants (w :: ys)) (hw : 10 ≤ w) (hf : yh_fi w (t p)) (hw2 : w < 127)
    (H : wY_syntaxError_19 post k (nI (p + 1)) (nI (m + 1)) g_textLimit g_stackLimit g_depthLimit (nI n) g_stackSize g_depth g_place g_ready (nI ys.length) g_errorPos (fun j => nI (t j)) b_cells b_stack b_frames wants b_inverse b_kinds b_values) :
    wY_syntaxError_19 post (k + 1) (nI p) (nI m) g_textLimit g_stackLimit g_depthLimit (nI n) g_stackSize g_depth g_place g_ready (nI (w :: ys).length) g_errorPos (fun j => nI (t j)) b_cells b_stack b_frames wants b_inverse b_kinds b_values := by
  refine yp_rd X (by omega) hm hl hs ?_
  rw [gr_ch_n hp]
  exact yz_tm hw2 hw (X.2.2 p) (fun _ => H) (fun z => (z hf).elim)
theorem yv_L1 (X : xp_tx t n) {p : Nat} {st : List Nat} (hp : p < n) (hc : gr_vr (t p) ∨ t p = 91) (H : yp_W post t n (84 :: 85 :: 76 :: st) p g_textLimit g_stackLimit g_depthLimit g_stackSize g_depth g_place g_ready g_errorPos b_cells b_stack b_frames b_inverse b_kinds b_values) : yp_W post t n (76 :: st) p g_textLimit g_stackLimit g_depthLimit g_stackSize g_depth g_place g_ready g_errorPos b_cells b_stack b_frames b_inverse b_kinds b_values := by
  have hn := X.1
  intro ys wants m k hr hs hm hk
  have hlen := yp_r_len _ _ hr
  rw [List.length_cons] at hlen
  have hfl : st.length + 1 ≤ gr_fi 13 5 n (76 :: st) p := by unfold gr_fi; rw [List.length_cons]; omega
  have hf : gr_fi 13 5 n (84 :: 85 :: 76 :: st) p + 2 ≤ gr_fi 13 5 n (76 :: st) p := by
    simp only [gr_fi, gr_bn_84, gr_bn_76, gr_bn_69, gr_bn_79, gr_bn_85, gr_bn_78, gr_bn_68, gr_bn_80, List.length_cons]
    have := gr_bn_le 5 st
    omega
  obtain ⟨ys, rfl, hr⟩ : ∃ ys', ys = 1 :: ys' ∧ yp_r st ys' := hr
  simp only [List.length_cons] at hlen
  obtain ⟨k, rfl⟩ : ∃ k', k = k' + 2 := ⟨k - 2, by omega⟩
  have hc' := hc
  unfold gr_vr at hc'
  refine yp_rd X (by omega) (by omega) (by omega) hs (yz_1s (gr_ch_lt X.2.2) ?_ hs.2 (by omega) (fun w1 h1 => ?_))
  · rw [gr_ch_n hp]; unfold sc_sr; rcases hc with h | h
    · exact Or.inl h
    · exact Or.inr (Or.inl h)
  refine yp_rd X (by omega) (by omega) (by simp only [List.length_cons]; omega) h1 ?_
  rw [gr_ch_n hp]
  refine yz_3u (X.2.2 p) (by omega) (by omega) (by omega) (by omega) (by omega) (by omega) h1.2 (by simp only [List.length_cons]; omega) (fun w2 h2 => ?_)
  exact H _ w2 (m + 2) k ⟨_, rfl, _, rfl, _, rfl, hr⟩ h2 (by omega) (by omega)
theorem yv_L2 (X : xp_tx t n) {p : Nat} {st : List Nat} (hp : p < n) (hc : t p = 62 ∨ t p = 60) (H : yp_W post t n (84 :: 59 :: 76 :: st) (p + 1) g_textLimit g_stackLimit g_depthLimit g_stackSize g_depth g_place g_ready g_errorPos b_cells b_stack b_frames b_inverse b_kinds b_values) : yp_W post t n (76 :: st) p g_textLimit g_stackLimit g_depthLimit g_stackSize g_depth g_place g_ready g_errorPos b_cells b_stack b_frames b_inverse b_kinds b_values := by
  have hn := X.1
  intro ys wants m k hr hs hm hk
  have hlen := yp_r_len _ _ hr
  rw [List.length_cons] at hlen
  have hfl : st.length + 1 ≤ gr_fi 13 5 n (76 :: st) p := by unfold gr_fi; rw [List.length_cons]; omega
  have hf : gr_fi 13 5 n (84 :: 59 :: 76 :: st) (p + 1) + 3 ≤ gr_fi 13 5 n (76 :: st) p := by
    simp only [gr_fi, gr_bn_84, gr_bn_76, gr_bn_69, gr_bn_79, gr_bn_85, gr_bn_78, gr_bn_68, gr_bn_80, List.length_cons]
    have := gr_bn_le 5 st
    omega
  obtain ⟨ys, rfl, hr⟩ : ∃ ys', ys = 1 :: ys' ∧ yp_r st ys' := hr
  simp only [List.length_cons] at hlen
  obtain ⟨k, rfl⟩ : ∃ k', k = k' + 3 := ⟨k - 3, by omega⟩
  refine yp_rd X (by omega) (by omega) (by omega) hs (yz_1s (gr_ch_lt X.2.2) ?_ hs.2 (by omega) (fun w1 h1 => ?_))
  · rw [gr_ch_n hp]; unfold sc_sr; omega
  refine yp_rd X (by omega) (by omega) (by simp only [List.length_cons]; omega) h1 ?_
  rw [gr_ch_n hp]
  refine yz_3k hc h1.2 (by simp only [List.length_cons]; omega) (fun w2 h2 => ?_)
  refine yp_tk X hp (by omega) (by simp only [List.length_cons]; omega) h2 (by omega) (Or.inl rfl) (X.2.2 p) ?_
  exact H _ w2 (m + 3) k ⟨_, rfl, _, rfl, _, rfl, hr⟩ h2.2 (by omega) (by omega)
theorem yv_L3 (X : xp_tx t n) {p : Nat} {st : List Nat} (hp : p < n) (hc : t p = 33 ∨ t p = 126) (H : yp_W post t n (78 :: 59 :: 76 :: st) (p + 1) g_textLimit g_stackLimit g_depthLimit g_stackSize g_depth g_place g_ready g_errorPos b_cells b_stack b_frames b_inverse b_kinds b_values) : yp_W post t n (76 :: st) p g_textLimit g_stackLimit g_depthLimit g_stackSize g_depth g_place g_ready g_errorPos b_cells b_stack b_frames b_inverse b_kinds b_values := by
  have hn := X.1
  intro ys wants m k hr hs hm hk
  have hlen := yp_r_len _ _ hr
  rw [List.length_cons] at hlen
  have hfl : st.length + 1 ≤ gr_fi 13 5 n (76 :: st) p := by unfold gr_fi; rw [List.length_cons]; omega
  have hf : gr_fi 13 5 n (78 :: 59 :: 76 :: st) (p + 1) + 3 ≤ gr_fi 13 5 n (76 :: st) p := by
    simp only [gr_fi, gr_bn_84, gr_bn_76, gr_bn_69, gr_bn_79, gr_bn_85, gr_bn_78, gr_bn_68, gr_bn_80, List.length_cons]
    have := gr_bn_le 5 st
    omega
  obtain ⟨ys, rfl, hr⟩ : ∃ ys', ys = 1 :: ys' ∧ yp_r st ys' := hr
  simp only [List.length_cons] at hlen
  obtain ⟨k, rfl⟩ : ∃ k', k = k' + 3 := ⟨k - 3, by omega⟩
  refine yp_rd X (by omega) (by omega) (by omega) hs (yz_1s (gr_ch_lt X.2.2) ?_ hs.2 (by omega) (fun w1 h1 => ?_))
  · rw [gr_ch_n hp]; unfold sc_sr; omega
  refine yp_rd X (by omega) (by omega) (by simp only [List.length_cons]; omega) h1 ?_
  rw [gr_ch_n hp]
  refine yz_3c hc h1.2 (by simp only [List.length_cons]; omega) (fun w2 h2 => ?_)
  refine yp_tk X hp (by omega) (by simp only [List.length_cons]; omega) h2 (by omega) (Or.inl rfl) (X.2.2 p) ?_
  exact H _ w2 (m + 3) k ⟨_, rfl, _, rfl, _, rfl, hr⟩ h2.2 (by omega) (by omega)
theorem yv_L4 (X : xp_tx t n) {p : Nat} {st : List Nat} (hp : p < n) (hc : t p = 63 ∨ t p = 64) (H : yp_W post t n (69 :: 123 :: 76 :: 125 :: 123 :: 76 :: 125 :: 69 :: 59 :: 76 :: st) (p + 1) g_textLimit g_stackLimit g_depthLimit g_stackSize g_depth g_place g_ready g_errorPos b_cells b_stack b_frames b_inverse b_kinds b_values) : yp_W post t n (76 :: st) p g_textLimit g_stackLimit g_depthLimit g_stackSize g_depth g_place g_ready g_errorPos b_cells b_stack b_frames b_inverse b_kinds b_values := by
  have hn := X.1
  intro ys wants m k hr hs hm hk
  have hlen := yp_r_len _ _ hr
  rw [List.length_cons] at hlen
  have hfl : st.length + 1 ≤ gr_fi 13 5 n (76 :: st) p := by unfold gr_fi; rw [List.length_cons]; omega
  have hf : gr_fi 13 5 n (69 :: 123 :: 76 :: 125 :: 123 :: 76 :: 125 :: 69 :: 59 :: 76 :: st) (p + 1) + 3 ≤ gr_fi 13 5 n (76 :: st) p := by
    simp only [gr_fi, gr_bn_84, gr_bn_76, gr_bn_69, gr_bn_79, gr_bn_85, gr_bn_78, gr_bn_68, gr_bn_80, List.length_cons]
    have := gr_bn_le 5 st
    omega
  obtain ⟨ys, rfl, hr⟩ : ∃ ys', ys = 1 :: ys' ∧ yp_r st ys' := hr
  simp only [List.length_cons] at hlen
  obtain ⟨k, rfl⟩ : ∃ k', k = k' + 3 := ⟨k - 3, by omega⟩
  refine yp_rd X (by omega) (by omega) (by omega) hs (yz_1s (gr_ch_lt X.2.2) ?_ hs.2 (by omega) (fun w1 h1 => ?_))
  · rw [gr_ch_n hp]; unfold sc_sr; omega
  refine yp_rd X (by omega) (by omega) (by simp only [List.length_cons]; omega) h1 ?_
  rw [gr_ch_n hp]
  refine yz_3b hc h1.2 (by simp only [List.length_cons]; omega) (fun w2 h2 => ?_)
  refine yp_tk X hp (by omega) (by simp only [List.length_cons]; omega) h2 (by omega) (Or.inl rfl) (X.2.2 p) ?_
  exact H _ w2 (m + 3) k ⟨_, Or.inl rfl, _, Or.inr ⟨rfl, _, rfl, _, rfl, _, Or.inr ⟨rfl, _, rfl, _, rfl, _, Or.inl rfl, _, rfl, _, rfl, hr⟩⟩⟩ h2.2 (by omega) (by omega)
theorem yv_L5 (X : xp_tx t n) {p : Nat} {st : List Nat} (hp : p ≤ n) (hc : ¬ sc_ss t n p) (H : yp_W post t n (st) p g_textLimit g_stackLimit g_depthLimit g_stackSize g_depth g_place g_ready g_errorPos b_cells b_stack b_frames b_inverse b_kinds b_values) : yp_W post t n (76 :: st) p g_textLimit g_stackLimit g_depthLimit g_stackSize g_depth g_place g_ready g_errorPos b_cells b_stack b_frames b_inverse b_kinds b_values := by
  have hn := X.1
  intro ys wants m k hr hs hm hk
  have hlen := yp_r_len _ _ hr
  rw [List.length_cons] at hlen
  have hfl : st.length + 1 ≤ gr_fi 13 5 n (76 :: st) p := by unfold gr_fi; rw [List.length_cons]; omega
  have hf : gr_fi 13 5 n (st) p + 1 ≤ gr_fi 13 5 n (76 :: st) p := by
    simp only [gr_fi, gr_bn_84, gr_bn_76, gr_bn_69, gr_bn_79, gr_bn_85, gr_bn_78, gr_bn_68, gr_bn_80, List.length_cons]
    have := gr_bn_le 5 st
    omega
  obtain ⟨ys, rfl, hr⟩ : ∃ ys', ys = 1 :: ys' ∧ yp_r st ys' := hr
  simp only [List.length_cons] at hlen
  obtain ⟨k, rfl⟩ : ∃ k', k = k' + 1 := ⟨k - 1, by omega⟩
  have hc' : ¬ sc_sr (gr_ch t n p) ∧ gr_ch t n p ≠ 1 := by
    rcases Nat.lt_or_ge p n with h | h
    · rw [gr_ch_n h]; exact ⟨fun h2 => hc ⟨h, h2⟩, by have := X.2.1 p h; omega⟩
    · rw [gr_ch_e h]; unfold sc_sr gr_vr; omega
  refine yp_rd X hp (by omega) (by omega) hs (yz_1e (gr_ch_lt X.2.2) hc'.1 hc'.2 ?_)
  exact H _ wants (m + 1) k hr hs.2 (by omega) (by omega)
theorem yv_E1 (X : xp_tx t n) {p : Nat} {st : List Nat} (hp : p < n) (hc : ex_at (t p)) (H : yp_W post t n (79 :: st) (p + 1) g_textLimit g_stackLimit g_depthLimit g_stackSize g_depth g_place g_ready g_errorPos b_cells b_stack b_frames b_inverse b_kinds b_values) : yp_W post t n (69 :: st) p g_textLimit g_stackLimit g_depthLimit g_stackSize g_depth g_place g_ready g_errorPos b_cells b_stack b_frames b_inverse b_kinds b_values := by
  have hn := X.1
  intro ys wants m k hr hs hm hk
  have hlen := yp_r_len _ _ hr
  rw [List.length_cons] at hlen
  have hfl : st.length + 1 ≤ gr_fi 13 5 n (69 :: st) p := by unfold gr_fi; rw [List.length_cons]; omega
  have hf : gr_fi 13 5 n (79 :: st) (p + 1) + 4 ≤ gr_fi 13 5 n (69 :: st) p := by
    simp only [gr_fi, gr_bn_84, gr_bn_76, gr_bn_69, gr_bn_79, gr_bn_85, gr_bn_78, gr_bn_68, gr_bn_80, List.length_cons]
    have := gr_bn_le 5 st
    omega
  have main : ∀ (m k : Nat) (ys : List Nat) (w1 : Nat → Int32), yp_r st ys → sk_N w1 (8 :: 7 :: ys) → ys.length + 50 < 6000 → m + gr_fi 13 5 n (79 :: st) (p + 1) + 1 ≤ 2700 → gr_fi 13 5 n (79 :: st) (p + 1) < k → wY_syntaxError_19 post (k + 1) (nI p) (nI m) g_textLimit g_stackLimit g_depthLimit (nI n) g_stackSize g_depth g_place g_ready (nI (8 :: 7 :: ys).length) g_errorPos (fun j => nI (t j)) b_cells b_stack b_frames w1 b_inverse b_kinds b_values := by
    intro m k ys w1 hr h1 hyl hm hk
    have hc' := hc
    unfold ex_at at hc'
    refine yp_rd X (by omega) (by omega) (by simp only [List.length_cons]; omega) h1 ?_
    rw [gr_ch_n hp]
    refine yz_58 (w := 8) (Or.inr rfl) (X.2.2 p) (by omega) (by omega) (fun _ => ?_) (fun z => (z ?_).elim)
    · exact H _ w1 (m + 1) k ⟨_, rfl, hr⟩ h1.2 (by omega) (by omega)
    · unfold yh_fi gr_vr; omega
  obtain ⟨ys, rfl | rfl, hr⟩ : ∃ ys', (ys = 6 :: ys' ∨ ys = 8 :: 7 :: ys') ∧ yp_r st ys' := hr
  · simp only [List.length_cons] at hlen
    obtain ⟨k, rfl⟩ : ∃ k', k = k' + 1 + 1 := ⟨k - 2, by omega⟩
    refine yp_rd X (by omega) (by omega) (by omega) hs (yz_6 (gr_ch_lt X.2.2) hs.2 (by omega) (fun w1 h1 => ?_))
    exact main (m + 1) k ys w1 hr h1 (by omega) (by omega) (by omega)
  · simp only [List.length_cons] at hlen
    obtain ⟨k, rfl⟩ : ∃ k', k = k' + 1 := ⟨k - 1, by omega⟩
    exact main m k ys wants hr hs (by omega) (by omega) (by omega)
theorem yv_E2 (X : xp_tx t n) {p : Nat} {st : List Nat} (hp : p < n) (hc : t p = 91) (H : yp_W post t n (69 :: 93 :: 79 :: st) (p + 1) g_textLimit g_stackLimit g_depthLimit g_stackSize g_depth g_place g_ready g_errorPos b_cells b_stack b_frames b_inverse b_kinds b_values) : yp_W post t n (69 :: st) p g_textLimit g_stackLimit g_depthLimit g_stackSize g_depth g_place g_ready g_errorPos b_cells b_stack b_frames b_inverse b_kinds b_values := by
  have hn := X.1
  intro ys wants m k hr hs hm hk
  have hlen := yp_r_len _ _ hr
  rw [List.length_cons] at hlen
  have hfl : st.length + 1 ≤ gr_fi 13 5 n (69 :: st) p := by unfold gr_fi; rw [List.length_cons]; omega
  have hf : gr_fi 13 5 n (69 :: 93 :: 79 :: st) (p + 1) + 4 ≤ gr_fi 13 5 n (69 :: st) p := by
    simp only [gr_fi, gr_bn_84, gr_bn_76, gr_bn_69, gr_bn_79, gr_bn_85, gr_bn_78, gr_bn_68, gr_bn_80, List.length_cons]
    have := gr_bn_le 5 st
    omega
  have main : ∀ (m k : Nat) (ys : List Nat) (w1 : Nat → Int32), yp_r st ys → sk_N w1 (8 :: 7 :: ys) → ys.length + 50 < 6000 → m + gr_fi 13 5 n (69 :: 93 :: 79 :: st) (p + 1) + 2 ≤ 2700 → gr_fi 13 5 n (69 :: 93 :: 79 :: st) (p + 1) < k → wY_syntaxError_19 post (k + 2) (nI p) (nI m) g_textLimit g_stackLimit g_depthLimit (nI n) g_stackSize g_depth g_place g_ready (nI (8 :: 7 :: ys).length) g_errorPos (fun j => nI (t j)) b_cells b_stack b_frames w1 b_inverse b_kinds b_values := by
    intro m k ys w1 hr h1 hyl hm hk
    refine yp_rd X (by omega) (by omega) (by simp only [List.length_cons]; omega) h1 ?_
    rw [gr_ch_n hp, hc]
    refine yz_5b (w := 8) (Or.inr rfl) h1.2 (by simp only [List.length_cons]; omega) (fun w2 h2 => ?_)
    refine yp_tk X hp (by omega) (by simp only [List.length_cons]; omega) h2 (by omega) (Or.inl hc.symm) (by omega) ?_
    exact H _ w2 (m + 2) k ⟨_, Or.inl rfl, _, rfl, _, rfl, hr⟩ h2.2 (by omega) (by omega)
  obtain ⟨ys, rfl | rfl, hr⟩ : ∃ ys', (ys = 6 :: ys' ∨ ys = 8 :: 7 :: ys') ∧ yp_r st ys' := hr
  · simp only [List.length_cons] at hlen
    obtain ⟨k, rfl⟩ : ∃ k', k = k' + 2 + 1 := ⟨k - 3, by omega⟩
    refine yp_rd X (by omega) (by omega) (by omega) hs (yz_6 (gr_ch_lt X.2.2) hs.2 (by omega) (fun w1 h1 => ?_))
    exact main (m + 1) k ys w1 hr h1 (by omega) (by omega) (by omega)
  · simp only [List.length_cons] at hlen
    obtain ⟨k, rfl⟩ : ∃ k', k = k' + 2 := ⟨k - 2, by omega⟩
    exact main m k ys wants hr hs (by omega) (by omega) (by omega)
theorem yv_E3 (X : xp_tx t n) {p : Nat} {st : List Nat} (hp : p < n) (hc : t p = 40) (H : yp_W post t n (69 :: 41 :: 79 :: st) (p + 1) g_textLimit g_stackLimit g_depthLimit g_stackSize g_depth g_place g_ready g_errorPos b_cells b_stack b_frames b_inverse b_kinds b_values) : yp_W post t n (69 :: st) p g_textLimit g_stackLimit g_depthLimit g_stackSize g_depth g_place g_ready g_errorPos b_cells b_stack b_frames b_inverse b_kinds b_values := by
  have hn := X.1
  intro ys wants m k hr hs hm hk
  have hlen := yp_r_len _ _ hr
  rw [List.length_cons] at hlen
  have hfl : st.length + 1 ≤ gr_fi 13 5 n (69 :: st) p := by unfold gr_fi; rw [List.length_cons]; omega
  have hf : gr_fi 13 5 n (69 :: 41 :: 79 :: st) (p + 1) + 4 ≤ gr_fi 13 5 n (69 :: st) p := by
    simp only [gr_fi, gr_bn_84, gr_bn_76, gr_bn_69, gr_bn_79, gr_bn_85, gr_bn_78, gr_bn_68, gr_bn_80, List.length_cons]
    have := gr_bn_le 5 st
    omega
  have main : ∀ (m k : Nat) (ys : List Nat) (w1 : Nat → Int32), yp_r st ys → sk_N w1 (8 :: 7 :: ys) → ys.length + 50 < 6000 → m + gr_fi 13 5 n (69 :: 41 :: 79 :: st) (p + 1) + 2 ≤ 2700 → gr_fi 13 5 n (69 :: 41 :: 79 :: st) (p + 1) < k → wY_syntaxError_19 post (k + 2) (nI p) (nI m) g_textLimit g_stackLimit g_depthLimit (nI n) g_stackSize g_depth g_place g_ready (nI (8 :: 7 :: ys).length) g_errorPos (fun j => nI (t j)) b_cells b_stack b_frames w1 b_inverse b_kinds b_values := by
    intro m k ys w1 hr h1 hyl hm hk
    refine yp_rd X (by omega) (by omega) (by simp only [List.length_cons]; omega) h1 ?_
    rw [gr_ch_n hp, hc]
    refine yz_8p h1.2 (by simp only [List.length_cons]; omega) (fun w2 h2 => ?_)
    refine yp_tk X hp (by omega) (by simp only [List.length_cons]; omega) h2 (by omega) (Or.inl hc.symm) (by omega) ?_
    exact H _ w2 (m + 2) k ⟨_, Or.inl rfl, _, rfl, _, rfl, hr⟩ h2.2 (by omega) (by omega)
  obtain ⟨ys, rfl | rfl, hr⟩ : ∃ ys', (ys = 6 :: ys' ∨ ys = 8 :: 7 :: ys') ∧ yp_r st ys' := hr
  · simp only [List.length_cons] at hlen
    obtain ⟨k, rfl⟩ : ∃ k', k = k' + 2 + 1 := ⟨k - 3, by omega⟩
    refine yp_rd X (by omega) (by omega) (by omega) hs (yz_6 (gr_ch_lt X.2.2) hs.2 (by omega) (fun w1 h1 => ?_))
    exact main (m + 1) k ys w1 hr h1 (by omega) (by omega) (by omega)
  · simp only [List.length_cons] at hlen
    obtain ⟨k, rfl⟩ : ∃ k', k = k' + 2 := ⟨k - 2, by omega⟩
    exact main m k ys wants hr hs (by omega) (by omega) (by omega)
theorem yv_O1 (X : xp_tx t n) {p : Nat} {st : List Nat} (hp : p < n) (hc : 0 < ex_lv (t p)) (H : yp_W post t n (69 :: st) (p + 1) g_textLimit g_stackLimit g_depthLimit g_stackSize g_depth g_place g_ready g_errorPos b_cells b_stack b_frames b_inverse b_kinds b_values) : yp_W post t n (79 :: st) p g_textLimit g_stackLimit g_depthLimit g_stackSize g_depth g_place g_ready g_errorPos b_cells b_stack b_frames b_inverse b_kinds b_values := by
  have hn := X.1
  intro ys wants m k hr hs hm hk
  have hlen := yp_r_len _ _ hr
  rw [List.length_cons] at hlen
  have hfl : st.length + 1 ≤ gr_fi 13 5 n (79 :: st) p := by unfold gr_fi; rw [List.length_cons]; omega
  have hf : gr_fi 13 5 n (69 :: st) (p + 1) + 2 ≤ gr_fi 13 5 n (79 :: st) p := by
    simp only [gr_fi, gr_bn_84, gr_bn_76, gr_bn_69, gr_bn_79, gr_bn_85, gr_bn_78, gr_bn_68, gr_bn_80, List.length_cons]
    have := gr_bn_le 5 st
    omega
  obtain ⟨ys, rfl, hr⟩ : ∃ ys', ys = 7 :: ys' ∧ yp_r st ys' := hr
  simp only [List.length_cons] at hlen
  obtain ⟨k, rfl⟩ : ∃ k', k = k' + 2 := ⟨k - 2, by omega⟩
  have hc' := ex_lv_at hc
  refine yp_rd X (by omega) (by omega) (by omega) hs ?_
  rw [gr_ch_n hp]
  refine yz_7s (X.2.2 p) hc hs.2 (by omega) (fun w1 h1 => ?_)
  refine yp_tk X hp (by omega) (by simp only [List.length_cons]; omega) h1 (by omega) (Or.inl rfl) (X.2.2 p) ?_
  exact H _ w1 (m + 2) k ⟨_, Or.inr rfl, hr⟩ h1.2 (by omega) (by omega)
theorem yv_O2 (X : xp_tx t n) {p : Nat} {st : List Nat} (hp : p ≤ n) (hc : ex_lv (gr_ch t n p) = 0) (H : yp_W post t n (st) p g_textLimit g_stackLimit g_depthLimit g_stackSize g_depth g_place g_ready g_errorPos b_cells b_stack b_frames b_inverse b_kinds b_values) : yp_W post t n (79 :: st) p g_textLimit g_stackLimit g_depthLimit g_stackSize g_depth g_place g_ready g_errorPos b_cells b_stack b_frames b_inverse b_kinds b_values := by
  have hn := X.1
  intro ys wants m k hr hs hm hk
  have hlen := yp_r_len _ _ hr
  rw [List.length_cons] at hlen
  have hfl : st.length + 1 ≤ gr_fi 13 5 n (79 :: st) p := by unfold gr_fi; rw [List.length_cons]; omega
  have hf : gr_fi 13 5 n (st) p + 1 ≤ gr_fi 13 5 n (79 :: st) p := by
    simp only [gr_fi, gr_bn_84, gr_bn_76, gr_bn_69, gr_bn_79, gr_bn_85, gr_bn_78, gr_bn_68, gr_bn_80, List.length_cons]
    have := gr_bn_le 5 st
    omega
  obtain ⟨ys, rfl, hr⟩ : ∃ ys', ys = 7 :: ys' ∧ yp_r st ys' := hr
  simp only [List.length_cons] at hlen
  obtain ⟨k, rfl⟩ : ∃ k', k = k' + 1 := ⟨k - 1, by omega⟩
  have h7 : gr_ch t n p ≠ 7 := by
    rcases Nat.lt_or_ge p n with h | h
    · rw [gr_ch_n h]; have := X.2.1 p h; omega
    · rw [gr_ch_e h]; omega
  refine yp_rd X hp (by omega) (by omega) hs (yz_7e (gr_ch_lt X.2.2) hc h7 ?_)
  exact H _ wants (m + 1) k hr hs.2 (by omega) (by omega)
theorem yv_T1 (X : xp_tx t n) {p : Nat} {st : List Nat} (hp : p < n) (hc : gr_vr (t p)) (H : yp_W post t n (st) (p + 1) g_textLimit g_stackLimit g_depthLimit g_stackSize g_depth g_place g_ready g_errorPos b_cells b_stack b_frames b_inverse b_kinds b_values) : yp_W post t n (84 :: st) p g_textLimit g_stackLimit g_depthLimit g_stackSize g_depth g_place g_ready g_errorPos b_cells b_stack b_frames b_inverse b_kinds b_values := by
  have hn := X.1
  intro ys wants m k hr hs hm hk
  have hlen := yp_r_len _ _ hr
  rw [List.length_cons] at hlen
  have hfl : st.length + 1 ≤ gr_fi 13 5 n (84 :: st) p := by unfold gr_fi; rw [List.length_cons]; omega
  have hf : gr_fi 13 5 n (st) (p + 1) + 1 ≤ gr_fi 13 5 n (84 :: st) p := by
    simp only [gr_fi, gr_bn_84, gr_bn_76, gr_bn_69, gr_bn_79, gr_bn_85, gr_bn_78, gr_bn_68, gr_bn_80, List.length_cons]
    have := gr_bn_le 5 st
    omega
  obtain ⟨ys, rfl, hr⟩ : ∃ ys', ys = 5 :: ys' ∧ yp_r st ys' := hr
  simp only [List.length_cons] at hlen
  obtain ⟨k, rfl⟩ : ∃ k', k = k' + 1 := ⟨k - 1, by omega⟩
  have hc' := hc
  unfold gr_vr at hc'
  refine yp_rd X (by omega) (by omega) (by omega) hs ?_
  rw [gr_ch_n hp]
  refine yz_58 (w := 5) (Or.inl rfl) (X.2.2 p) (by omega) (by omega) (fun _ => ?_) (fun z => (z (Or.inr (Or.inr (Or.inl ⟨Or.inl rfl, hc⟩)))).elim)
  exact H _ wants (m + 1) k hr hs.2 (by omega) (by omega)
theorem yv_T2 (X : xp_tx t n) {p : Nat} {st : List Nat} (hp : p < n) (hc : t p = 91) (H : yp_W post t n (69 :: 93 :: st) (p + 1) g_textLimit g_stackLimit g_depthLimit g_stackSize g_depth g_place g_ready g_errorPos b_cells b_stack b_frames b_inverse b_kinds b_values) : yp_W post t n (84 :: st) p g_textLimit g_stackLimit g_depthLimit g_stackSize g_depth g_place g_ready g_errorPos b_cells b_stack b_frames b_inverse b_kinds b_values := by
  have hn := X.1
  intro ys wants m k hr hs hm hk
  have hlen := yp_r_len _ _ hr
  rw [List.length_cons] at hlen
  have hfl : st.length + 1 ≤ gr_fi 13 5 n (84 :: st) p := by unfold gr_fi; rw [List.length_cons]; omega
  have hf : gr_fi 13 5 n (69 :: 93 :: st) (p + 1) + 2 ≤ gr_fi 13 5 n (84 :: st) p := by
    simp only [gr_fi, gr_bn_84, gr_bn_76, gr_bn_69, gr_bn_79, gr_bn_85, gr_bn_78, gr_bn_68, gr_bn_80, List.length_cons]
    have := gr_bn_le 5 st
    omega
  obtain ⟨ys, rfl, hr⟩ : ∃ ys', ys = 5 :: ys' ∧ yp_r st ys' := hr
  simp only [List.length_cons] at hlen
  obtain ⟨k, rfl⟩ : ∃ k', k = k' + 2 := ⟨k - 2, by omega⟩
  refine yp_rd X (by omega) (by omega) (by omega) hs ?_
  rw [gr_ch_n hp, hc]
  refine yz_5b (w := 5) (Or.inl rfl) hs.2 (by omega) (fun w1 h1 => ?_)
  refine yp_tk X hp (by omega) (by simp only [List.length_cons]; omega) h1 (by omega) (Or.inl hc.symm) (by omega) ?_
  exact H _ w1 (m + 2) k ⟨_, Or.inl rfl, _, rfl, hr⟩ h1.2 (by omega) (by omega)
theorem yv_U1 (X : xp_tx t n) {p : Nat} {st : List Nat} (hp : p < n) (hc : ex_lv (t p) = 2) (H : yp_W post t n (69 :: 59 :: st) (p + 1) g_textLimit g_stackLimit g_depthLimit g_stackSize g_depth g_place g_ready g_errorPos b_cells b_stack b_frames b_inverse b_kinds b_values) : yp_W post t n (85 :: st) p g_textLimit g_stackLimit g_depthLimit g_stackSize g_depth g_place g_ready g_errorPos b_cells b_stack b_frames b_inverse b_kinds b_values := by
  have hn := X.1
  intro ys wants m k hr hs hm hk
  have hlen := yp_r_len _ _ hr
  rw [List.length_cons] at hlen
  have hfl : st.length + 1 ≤ gr_fi 13 5 n (85 :: st) p := by unfold gr_fi; rw [List.length_cons]; omega
  have hf : gr_fi 13 5 n (69 :: 59 :: st) (p + 1) + 2 ≤ gr_fi 13 5 n (85 :: st) p := by
    simp only [gr_fi, gr_bn_84, gr_bn_76, gr_bn_69, gr_bn_79, gr_bn_85, gr_bn_78, gr_bn_68, gr_bn_80, List.length_cons]
    have := gr_bn_le 5 st
    omega
  obtain ⟨ys, rfl, hr⟩ : ∃ ys', ys = 4 :: 59 :: ys' ∧ yp_r st ys' := hr
  simp only [List.length_cons] at hlen
  obtain ⟨k, rfl⟩ : ∃ k', k = k' + 2 := ⟨k - 2, by omega⟩
  have hc' := ex_lv_at (k := t p) (by omega)
  refine yp_rd X (by omega) (by omega) (by simp only [List.length_cons]; omega) hs ?_
  rw [gr_ch_n hp]
  refine yz_4u (X.2.2 p) hc hs.2 (by simp only [List.length_cons]; omega) (fun w1 h1 => ?_)
  refine yp_tk X hp (by omega) (by simp only [List.length_cons]; omega) h1 (by omega) (Or.inl rfl) (X.2.2 p) ?_
  exact H _ w1 (m + 2) k ⟨_, Or.inl rfl, _, rfl, hr⟩ h1.2 (by omega) (by omega)
theorem yv_U2 (X : xp_tx t n) {p : Nat} {st : List Nat} (hp : p < n) (hc : t p = 36) (H : yp_W post t n (84 :: 59 :: st) (p + 1) g_textLimit g_stackLimit g_depthLimit g_stackSize g_depth g_place g_ready g_errorPos b_cells b_stack b_frames b_inverse b_kinds b_values) : yp_W post t n (85 :: st) p g_textLimit g_stackLimit g_depthLimit g_stackSize g_depth g_place g_ready g_errorPos b_cells b_stack b_frames b_inverse b_kinds b_values := by
  have hn := X.1
  intro ys wants m k hr hs hm hk
  have hlen := yp_r_len _ _ hr
  rw [List.length_cons] at hlen
  have hfl : st.length + 1 ≤ gr_fi 13 5 n (85 :: st) p := by unfold gr_fi; rw [List.length_cons]; omega
  have hf : gr_fi 13 5 n (84 :: 59 :: st) (p + 1) + 2 ≤ gr_fi 13 5 n (85 :: st) p := by
    simp only [gr_fi, gr_bn_84, gr_bn_76, gr_bn_69, gr_bn_79, gr_bn_85, gr_bn_78, gr_bn_68, gr_bn_80, List.length_cons]
    have := gr_bn_le 5 st
    omega
  obtain ⟨ys, rfl, hr⟩ : ∃ ys', ys = 4 :: 59 :: ys' ∧ yp_r st ys' := hr
  simp only [List.length_cons] at hlen
  obtain ⟨k, rfl⟩ : ∃ k', k = k' + 2 := ⟨k - 2, by omega⟩
  refine yp_rd X (by omega) (by omega) (by simp only [List.length_cons]; omega) hs ?_
  rw [gr_ch_n hp, hc]
  refine yz_4d hs.2 (by simp only [List.length_cons]; omega) (fun w1 h1 => ?_)
  refine yp_tk X hp (by omega) (by simp only [List.length_cons]; omega) h1 (by omega) (Or.inl hc.symm) (by omega) ?_
  exact H _ w1 (m + 2) k ⟨_, rfl, _, rfl, hr⟩ h1.2 (by omega) (by omega)
theorem yv_N (X : xp_tx t n) {p : Nat} {st : List Nat} (hp : p < n) (hc : gr_nm (t p)) (H : yp_W post t n (st) (p + 1) g_textLimit g_stackLimit g_depthLimit g_stackSize g_depth g_place g_ready g_errorPos b_cells b_stack b_frames b_inverse b_kinds b_values) : yp_W post t n (78 :: st) p g_textLimit g_stackLimit g_depthLimit g_stackSize g_depth g_place g_ready g_errorPos b_cells b_stack b_frames b_inverse b_kinds b_values := by
  have hn := X.1
  intro ys wants m k hr hs hm hk
  have hlen := yp_r_len _ _ hr
  rw [List.length_cons] at hlen
  have hfl : st.length + 1 ≤ gr_fi 13 5 n (78 :: st) p := by unfold gr_fi; rw [List.length_cons]; omega
  have hf : gr_fi 13 5 n (st) (p + 1) + 1 ≤ gr_fi 13 5 n (78 :: st) p := by
    simp only [gr_fi, gr_bn_84, gr_bn_76, gr_bn_69, gr_bn_79, gr_bn_85, gr_bn_78, gr_bn_68, gr_bn_80, List.length_cons]
    have := gr_bn_le 5 st
    omega
  obtain ⟨ys, rfl, hr⟩ : ∃ ys', ys = 10 :: ys' ∧ yp_r st ys' := hr
  simp only [List.length_cons] at hlen
  obtain ⟨k, rfl⟩ : ∃ k', k = k' + 1 := ⟨k - 1, by omega⟩
  refine yp_tk X hp (by omega) (by omega) hs (by omega) (Or.inr (Or.inl ⟨rfl, hc⟩)) (by omega) ?_
  exact H _ wants (m + 1) k hr hs.2 (by omega) (by omega)
theorem yv_D (X : xp_tx t n) {p : Nat} {st : List Nat} (hp : p < n) (hc : gr_nm (t p)) (H : yp_W post t n (st) (p + 1) g_textLimit g_stackLimit g_depthLimit g_stackSize g_depth g_place g_ready g_errorPos b_cells b_stack b_frames b_inverse b_kinds b_values) : yp_W post t n (68 :: st) p g_textLimit g_stackLimit g_depthLimit g_stackSize g_depth g_place g_ready g_errorPos b_cells b_stack b_frames b_inverse b_kinds b_values := by
  have hn := X.1
  intro ys wants m k hr hs hm hk
  have hlen := yp_r_len _ _ hr
  rw [List.length_cons] at hlen
  have hfl : st.length + 1 ≤ gr_fi 13 5 n (68 :: st) p := by unfold gr_fi; rw [List.length_cons]; omega
  have hf : gr_fi 13 5 n (st) (p + 1) + 1 ≤ gr_fi 13 5 n (68 :: st) p := by
    simp only [gr_fi, gr_bn_84, gr_bn_76, gr_bn_69, gr_bn_79, gr_bn_85, gr_bn_78, gr_bn_68, gr_bn_80, List.length_cons]
    have := gr_bn_le 5 st
    omega
  obtain ⟨ys, rfl, hr⟩ : ∃ ys', ys = 10 :: ys' ∧ yp_r st ys' := hr
  simp only [List.length_cons] at hlen
  obtain ⟨k, rfl⟩ : ∃ k', k = k' + 1 := ⟨k - 1, by omega⟩
  refine yp_tk X hp (by omega) (by omega) hs (by omega) (Or.inr (Or.inl ⟨rfl, hc⟩)) (by omega) ?_
  exact H _ wants (m + 1) k hr hs.2 (by omega) (by omega)
theorem yv_P1 (X : xp_tx t n) {p : Nat} {st : List Nat} (hp : p < n) (hc : t p = 58) (H : yp_W post t n (68 :: 76 :: 80 :: st) (p + 1) g_textLimit g_stackLimit g_depthLimit g_stackSize g_depth g_place g_ready g_errorPos b_cells b_stack b_frames b_inverse b_kinds b_values) : yp_W post t n (80 :: st) p g_textLimit g_stackLimit g_depthLimit g_stackSize g_depth g_place g_ready g_errorPos b_cells b_stack b_frames b_inverse b_kinds b_values := by
  have hn := X.1
  intro ys wants m k hr hs hm hk
  have hlen := yp_r_len _ _ hr
  rw [List.length_cons] at hlen
  have hfl : st.length + 1 ≤ gr_fi 13 5 n (80 :: st) p := by unfold gr_fi; rw [List.length_cons]; omega
  have hf : gr_fi 13 5 n (68 :: 76 :: 80 :: st) (p + 1) + 2 ≤ gr_fi 13 5 n (80 :: st) p := by
    simp only [gr_fi, gr_bn_84, gr_bn_76, gr_bn_69, gr_bn_79, gr_bn_85, gr_bn_78, gr_bn_68, gr_bn_80, List.length_cons]
    have := gr_bn_le 5 st
    omega
  obtain ⟨rfl, rfl⟩ : ys = [2] ∧ st = [] := hr
  obtain ⟨k, rfl⟩ : ∃ k', k = k' + 2 := ⟨k - 2, by omega⟩
  refine yp_rd X (by omega) (by omega) (by decide) hs ?_
  rw [gr_ch_n hp, hc]
  refine yz_2s hs.2 (by decide) (fun w1 h1 => ?_)
  refine yp_tk X hp (by omega) (by decide) h1 (by omega) (Or.inl hc.symm) (by omega) ?_
  exact H _ w1 (m + 2) k ⟨_, rfl, _, rfl, rfl, rfl⟩ h1.2 (by omega) (by omega)
theorem yv_P2 (X : xp_tx t n) {p : Nat} {st : List Nat} (hp : p = n) (H : yp_W post t n (st) p g_textLimit g_stackLimit g_depthLimit g_stackSize g_depth g_place g_ready g_errorPos b_cells b_stack b_frames b_inverse b_kinds b_values) : yp_W post t n (80 :: st) p g_textLimit g_stackLimit g_depthLimit g_stackSize g_depth g_place g_ready g_errorPos b_cells b_stack b_frames b_inverse b_kinds b_values := by
  have hn := X.1
  intro ys wants m k hr hs hm hk
  have hlen := yp_r_len _ _ hr
  rw [List.length_cons] at hlen
  have hfl : st.length + 1 ≤ gr_fi 13 5 n (80 :: st) p := by unfold gr_fi; rw [List.length_cons]; omega
  have hf : gr_fi 13 5 n (st) p + 1 ≤ gr_fi 13 5 n (80 :: st) p := by
    simp only [gr_fi, gr_bn_84, gr_bn_76, gr_bn_69, gr_bn_79, gr_bn_85, gr_bn_78, gr_bn_68, gr_bn_80, List.length_cons]
    have := gr_bn_le 5 st
    omega
  obtain ⟨rfl, rfl⟩ : ys = [2] ∧ st = [] := hr
  obtain ⟨k, rfl⟩ : ∃ k', k = k' + 1 := ⟨k - 1, by omega⟩
  refine yp_rd X (by omega) (by omega) (by decide) hs ?_
  rw [gr_ch_e (by omega)]
  refine yz_2e (by omega) (by omega) (by omega) ?_
  exact H _ wants (m + 1) k rfl trivial (by omega) (by omega)
theorem yv_Z (X : xp_tx t n) {p : Nat} {st : List Nat} {s : Nat} (hp : p < n) (hz : s = 125 ∨ s = 93 ∨ s = 41 ∨ s = 59) (hc : t p = s) (H : yp_W post t n (st) (p + 1) g_textLimit g_stackLimit g_depthLimit g_stackSize g_depth g_place g_ready g_errorPos b_cells b_stack b_frames b_inverse b_kinds b_values) : yp_W post t n (s :: st) p g_textLimit g_stackLimit g_depthLimit g_stackSize g_depth g_place g_ready g_errorPos b_cells b_stack b_frames b_inverse b_kinds b_values := by
  have hn := X.1
  intro ys wants m k hr hs hm hk
  have hlen := yp_r_len _ _ hr
  rw [List.length_cons] at hlen
  have hfl : st.length + 1 ≤ gr_fi 13 5 n (s :: st) p := by unfold gr_fi; rw [List.length_cons]; omega
  have hf : gr_fi 13 5 n (st) (p + 1) + 1 ≤ gr_fi 13 5 n (s :: st) p := by
    have e84 : gr_bn 5 (s :: st) = 5 := if_neg (by omega)
    simp only [gr_fi, e84, List.length_cons]
    have := gr_bn_le 5 st
    omega
  obtain ⟨ys, rfl, hr2⟩ : ∃ ys', ys = s :: ys' ∧ yp_r st ys' := by
    rcases hz with rfl | rfl | rfl | rfl <;> exact hr
  simp only [List.length_cons] at hlen
  obtain ⟨k, rfl⟩ : ∃ k', k = k' + 1 := ⟨k - 1, by omega⟩
  refine yp_tk X hp (by omega) (by omega) hs (by omega) (Or.inl hc.symm) (by omega) ?_
  exact H _ wants (m + 1) k hr2 hs.2 (by omega) (by omega)
theorem yv_ZB (X : xp_tx t n) {p : Nat} {st : List Nat} (hp : p < n) (hc : t p = 123) (H : yp_W post t n (st) (p + 1) g_textLimit g_stackLimit g_depthLimit g_stackSize g_depth g_place g_ready g_errorPos b_cells b_stack b_frames b_inverse b_kinds b_values) : yp_W post t n (123 :: st) p g_textLimit g_stackLimit g_depthLimit g_stackSize g_depth g_place g_ready g_errorPos b_cells b_stack b_frames b_inverse b_kinds b_values := by
  have hn := X.1
  intro ys wants m k hr hs hm hk
  have hlen := yp_r_len _ _ hr
  rw [List.length_cons] at hlen
  have hfl : st.length + 1 ≤ gr_fi 13 5 n (123 :: st) p := by unfold gr_fi; rw [List.length_cons]; omega
  have hf : gr_fi 13 5 n (st) (p + 1) + 2 ≤ gr_fi 13 5 n (123 :: st) p := by
    have e84 : gr_bn 5 (123 :: st) = 5 := rfl
    simp only [gr_fi, e84, List.length_cons]
    have := gr_bn_le 5 st
    omega
  obtain ⟨ys, ⟨rfl, hr⟩ | ⟨rfl, hr⟩⟩ : ∃ ys', (ys = 123 :: ys' ∧ yp_r st ys') ∨ (ys = 9 :: ys' ∧ yp_r st (1 :: 125 :: ys')) := hr
  · simp only [List.length_cons] at hlen
    obtain ⟨k, rfl⟩ : ∃ k', k = k' + 1 := ⟨k - 1, by omega⟩
    refine yp_tk X hp (by omega) (by omega) hs (by omega) (Or.inl hc.symm) (by omega) ?_
    exact H _ wants (m + 1) k hr hs.2 (by omega) (by omega)
  · simp only [List.length_cons] at hlen
    obtain ⟨k, rfl⟩ : ∃ k', k = k' + 2 := ⟨k - 2, by omega⟩
    refine yp_rd X (by omega) (by omega) (by omega) hs (yz_9 (gr_ch_lt X.2.2) hs.2 (by omega) (fun w1 h1 => ?_))
    refine yp_tk X hp (by omega) (by simp only [List.length_cons]; omega) h1 (by omega) (Or.inl hc.symm) (by omega) ?_
    exact H _ w1 (m + 2) k hr h1.2 (by omega) (by omega)
end
end
section
/-! Y's syntax check as a whole -/
def gr_fn (t : Nat → Nat) (n : Nat) : Nat → List Nat → Nat → Prop
  | 0, _, _ => False
  | _ + 1, [], p => p = n
  | m + 1, s :: st, p => ∃ ps d, gr_st s (gr_ch t n p) = some (ps, d) ∧ gr_fn t n m (ps ++ st) (p + d)
theorem gr_main2 {t : Nat → Nat} {n : Nat} (ht : ∀ i, i < n → 33 ≤ t i) : ∀ m st p, p ≤ n → gr_fi 10 3 n st p < m → gr_lp n st p → (∃ k, gr_er t n m st p k) ∨ gr_fn t n m st p := by
  intro m
  induction m with
  | zero => intro st p _ h; omega
  | succ m ih =>
    intro st p hp hm hl
    match st with
    | [] =>
      rcases hl with ⟨_, h⟩ | ⟨st', h, _⟩
      · exact Or.inr h
      · cases st' <;> cases h
    | s :: st =>
      cases h : gr_st s (gr_ch t n p) with
      | none => exact Or.inl ⟨p, Or.inl ⟨h, rfl⟩⟩
      | some r =>
        obtain ⟨ps, d⟩ := r
        have hd := gr_st_d h
        have hf := gr_st_fi 3 (by omega) (by omega) h st
        have hp' : p + d ≤ n := by
          rcases hd with rfl | ⟨rfl, hc⟩
          · exact hp
          · have := (gr_ch_in rfl hc).1; omega
        have hm' : gr_fi 10 3 n (ps ++ st) (p + d) < m := by
          unfold gr_fi at hm ⊢
          rcases hd with rfl | ⟨rfl, hc⟩
          · have := hf.1 rfl
            rw [Nat.add_zero]; omega
          · have := hf.2 rfl
            have := (gr_ch_in rfl hc).1
            omega
        obtain ⟨hl1, _⟩ := gr_lp_st ht hp h hl
        rcases ih (ps ++ st) (p + d) hp' hm' hl1 with ⟨k, hk⟩ | hD
        · exact Or.inl ⟨k, Or.inr ⟨ps, d, h, hk⟩⟩
        · exact Or.inr ⟨ps, d, h, hD⟩
theorem gr_fn_Ds {t : Nat → Nat} {n : Nat} (ht : ∀ i, i < n → 33 ≤ t i) : ∀ m st p, p ≤ n → gr_fn t n m st p → gr_Ds t n st p := by
  intro m
  induction m with
  | zero => intro st p _ h; exact h.elim
  | succ m ih =>
    intro st p hp h
    match st, h with
    | [], h => exact h
    | s :: st, ⟨ps, d, hst, h⟩ =>
      have hp' : p + d ≤ n := by
        rcases gr_st_d hst with rfl | ⟨rfl, hc⟩
        · exact hp
        · have := (gr_ch_in rfl hc).1; omega
      exact gr_sound ht st hp hst (ih _ _ hp' h)
/-- the machine stops at some place, or the text is of right syntax and the machine ends -/
theorem gr_dich2 {t : Nat → Nat} {n : Nat} (ht : ∀ i, i < n → 33 ≤ t i) (hn : n ≤ 200) : (∃ k, gr_er t n 2006 [76, 80] 0 k) ∨ (gr_fn t n 2006 [76, 80] 0 ∧ gr_G t n) := by
  rcases gr_main2 ht 2006 [76, 80] 0 (Nat.zero_le _) (by simp only [gr_fi, gr_bn, List.length_cons, List.length_nil]; rw [if_neg (by decide)]; omega)
    (Or.inr ⟨[76], rfl, by intro s hs; rw [List.mem_singleton.mp hs]; decide⟩) with h | h
  · exact Or.inl h
  · refine Or.inr ⟨h, ?_⟩
    obtain ⟨e, _, h1, hL, q, _, _, ⟨hQ, _⟩, _⟩ := gr_fn_Ds ht 2006 [76, 80] 0 (Nat.zero_le _) h
    exact ⟨e, h1, hL, hQ⟩
theorem gr_er_le {t : Nat → Nat} {n : Nat} : ∀ m st p k, p ≤ n → gr_er t n m st p k → k ≤ n := by
  intro m
  induction m with
  | zero => intro st p k _ h; exact h.elim
  | succ m ih =>
    intro st p k hp h
    match st, h with
    | [], h => exact h.elim
    | s :: st, h =>
      rcases h with ⟨_, rfl⟩ | ⟨ps, d, hst, h⟩
      · exact hp
      · have hp' : p + d ≤ n := by
          rcases gr_st_d hst with rfl | ⟨rfl, hc⟩
          · exact hp
          · have := (gr_ch_in rfl hc).1; omega
        exact ih _ _ _ hp' h
section
variable {g_textLimit g_stackLimit g_depthLimit g_stackSize g_depth g_place g_ready g_errorPos : Int32} {b_cells b_stack b_frames b_inverse b_kinds b_values : Nat → Int32}
variable {t : Nat → Nat} {n : Nat} {post : Int32 → SY → Prop}
theorem yp_step (X : xp_tx t n) {s p : Nat} {st ps : List Nat} {d : Nat} (hp : p ≤ n) (hst : gr_st s (gr_ch t n p) = some (ps, d)) (hkn : xp_kn s) (H : yp_W post t n (ps ++ st) (p + d) g_textLimit g_stackLimit g_depthLimit g_stackSize g_depth g_place g_ready g_errorPos b_cells b_stack b_frames b_inverse b_kinds b_values) : yp_W post t n (s :: st) p g_textLimit g_stackLimit g_depthLimit g_stackSize g_depth g_place g_ready g_errorPos b_cells b_stack b_frames b_inverse b_kinds b_values := by
  have hin : ∀ c, gr_ch t n p = c → c ≠ 0 → p < n ∧ t p = c := fun c e h => gr_ch_in e h
  refine gr_st_all (P := fun s c ps d => xp_kn s → gr_ch t n p = c → yp_W post t n (ps ++ st) (p + d) g_textLimit g_stackLimit g_depthLimit g_stackSize g_depth g_place g_ready g_errorPos b_cells b_stack b_frames b_inverse b_kinds b_values → yp_W post t n (s :: st) p g_textLimit g_stackLimit g_depthLimit g_stackSize g_depth g_place g_ready g_errorPos b_cells b_stack b_frames b_inverse b_kinds b_values) ?_ ?_ ?_ ?_ ?_ ?_ ?_ ?_ ?_ ?_ ?_ ?_ ?_ ?_ ?_ ?_ ?_ ?_ ?_ hst hkn rfl H
  · intro c hc _ ec H
    obtain ⟨h1, h2⟩ := hin c ec (by unfold gr_vr at hc; omega)
    rw [← h2] at hc
    exact yv_L1 X h1 hc H
  · intro c hc _ ec H
    obtain ⟨h1, h2⟩ := hin c ec (by omega)
    exact yv_L2 X h1 (by omega) H
  · intro c hc _ ec H
    obtain ⟨h1, h2⟩ := hin c ec (by omega)
    exact yv_L3 X h1 (by omega) H
  · intro c hc _ ec H
    obtain ⟨h1, h2⟩ := hin c ec (by omega)
    exact yv_L4 X h1 (by omega) H
  · intro c c1 c2 c3 c4 c5 c6 c7 c8 _ ec H
    refine yv_L5 X hp (fun z => ?_) H
    have e : t p = c := (gr_ch_n z.1).symm.trans ec
    have h := z.2
    rw [e] at h
    rcases h with h | h
    · exact c1 h
    · omega
  · intro c hc _ ec H
    obtain ⟨h1, h2⟩ := hin c ec (by unfold ex_at at hc; omega)
    rw [← h2] at hc
    exact yv_E1 X h1 hc H
  · intro _ ec H
    obtain ⟨h1, h2⟩ := hin _ ec (by omega)
    exact yv_E2 X h1 h2 H
  · intro _ ec H
    obtain ⟨h1, h2⟩ := hin _ ec (by omega)
    exact yv_E3 X h1 h2 H
  · intro c hc _ ec H
    obtain ⟨h1, h2⟩ := hin c ec (by have := ex_lv_at hc; omega)
    rw [← h2] at hc
    exact yv_O1 X h1 hc H
  · intro c hc _ ec H
    exact yv_O2 X hp (by rw [ec]; exact hc) H
  · intro c hc _ ec H
    obtain ⟨h1, h2⟩ := hin c ec (by unfold gr_vr at hc; omega)
    rw [← h2] at hc
    exact yv_T1 X h1 hc H
  · intro _ ec H
    obtain ⟨h1, h2⟩ := hin _ ec (by omega)
    exact yv_T2 X h1 h2 H
  · intro c hc _ ec H
    obtain ⟨h1, h2⟩ := hin c ec (by have := ex_lv_at (k := c) (by omega); omega)
    rw [← h2] at hc
    exact yv_U1 X h1 hc H
  · intro _ ec H
    obtain ⟨h1, h2⟩ := hin _ ec (by omega)
    exact yv_U2 X h1 h2 H
  · intro c hc _ ec H
    obtain ⟨h1, h2⟩ := hin c ec (by unfold gr_nm at hc; omega)
    rw [← h2] at hc
    exact yv_N X h1 hc H
  · intro c hc _ ec H
    obtain ⟨h1, h2⟩ := hin c ec (by unfold gr_nm at hc; omega)
    rw [← h2] at hc
    exact yv_D X h1 hc H
  · intro _ ec H
    obtain ⟨h1, h2⟩ := hin _ ec (by omega)
    exact yv_P1 X h1 h2 H
  · intro _ ec H
    have := gr_ch_0 ec X.2.1
    exact yv_P2 X (by omega) H
  · intro s h1 h2 h3 h4 h5 h6 h7 h8 h0 hkn ec H
    obtain ⟨g1, g2⟩ := hin s ec h0
    by_cases h123 : s = 123
    · subst h123
      exact yv_ZB X g1 g2 H
    · exact yv_Z X g1 (by unfold xp_kn at hkn; omega) g2 H
theorem yp_stuck (X : xp_tx t n) {s p : Nat} {st : List Nat} (hp : p ≤ n) (hst : gr_st s (gr_ch t n p) = none) (hkn : xp_kn s) (H : ∀ g_top b_wants, post (nI p) (g_textLimit, g_stackLimit, g_depthLimit, nI n, g_stackSize, g_depth, g_place, g_ready, g_top, g_errorPos, fun j => nI (t j), b_cells, b_stack, b_frames, b_wants, b_inverse, b_kinds, b_values)) : yp_W post t n (s :: st) p g_textLimit g_stackLimit g_depthLimit g_stackSize g_depth g_place g_ready g_errorPos b_cells b_stack b_frames b_inverse b_kinds b_values := by
  have hn := X.1
  intro ys wants m k hr hs hm hk
  have hlen := yp_r_len _ _ hr
  rw [List.length_cons] at hlen
  have hfl : st.length + 1 ≤ gr_fi 13 5 n (s :: st) p := by unfold gr_fi; rw [List.length_cons]; omega
  have hf5 : s ≠ 84 → st.length + 6 ≤ gr_fi 13 5 n (s :: st) p := fun h => by
    have e : gr_bn 5 (s :: st) = 5 := if_neg h
    unfold gr_fi; rw [List.length_cons, e]; omega
  have hc2 : gr_ch t n p < 127 := gr_ch_lt X.2.2
  have hcx : gr_ch t n p = 0 ∨ 33 ≤ gr_ch t n p := by
    rcases Nat.lt_or_ge p n with h | h
    · rw [gr_ch_n h]; exact Or.inr (X.2.1 p h)
    · exact Or.inl (gr_ch_e h)
  have hP2 : gr_ch t n p ≠ 0 → p < n := fun h => (gr_ch_in rfl h).1
  have hrd : ∀ (w m k : Nat) (ys : List Nat) (w1 : Nat → Int32), m < 6000 → ys.length < 6000 → sk_N w1 (w :: ys) → 0 < k → (∀ (J : Int32 → Int32 → Int32 → Int32 → Int32 → Int32 → Int32 → Int32 → Int32 → Int32 → Int32 → Int32 → (Nat → Int32) → (Nat → Int32) → (Nat → Int32) → (Nat → Int32) → (Nat → Int32) → (Nat → Int32) → (Nat → Int32) → (Nat → Int32) → Prop), wY_syntaxError_71 post J (nI p) (nI m) (nI w) (nI (gr_ch t n p)) g_textLimit g_stackLimit g_depthLimit (nI n) g_stackSize g_depth g_place g_ready (nI ys.length) g_errorPos (fun j => nI (t j)) b_cells b_stack b_frames w1 b_inverse b_kinds b_values) →
      wY_syntaxError_19 post k (nI p) (nI m) g_textLimit g_stackLimit g_depthLimit (nI n) g_stackSize g_depth g_place g_ready (nI (w :: ys).length) g_errorPos (fun j => nI (t j)) b_cells b_stack b_frames w1 b_inverse b_kinds b_values := by
    intro w m k ys w1 h1 h2 h3 h4 h5
    obtain ⟨k, rfl⟩ : ∃ k', k = k' + 1 := ⟨k - 1, by omega⟩
    exact yp_rd X hp h1 h2 h3 (h5 _)
  generalize hc : gr_ch t n p = c at hst hc2 hcx hrd hP2
  unfold gr_st at hst
  rcases hkn with rfl | rfl | rfl | rfl | rfl | rfl | rfl | rfl | hz
  · rw [if_pos rfl] at hst
    exfalso; revert hst
    repeat' split
    all_goals (intro h; cases h)
  · rw [if_neg (by decide), if_pos rfl] at hst
    have h5 := hf5 (by decide)
    by_cases h1 : (48 ≤ c ∧ c ≤ 57) ∨ (97 ≤ c ∧ c ≤ 104)
    · rw [if_pos h1] at hst; cases hst
    · rw [if_neg h1] at hst
      by_cases h2 : c = 91
      · rw [if_pos h2] at hst; cases hst
      · rw [if_neg h2] at hst
        by_cases h3 : c = 40
        · rw [if_pos h3] at hst; cases hst
        · have main : ∀ (m k : Nat) (ys : List Nat) (w1 : Nat → Int32), m < 6000 → ys.length + 10 < 6000 → sk_N w1 (8 :: 7 :: ys) → 0 < k → wY_syntaxError_19 post k (nI p) (nI m) g_textLimit g_stackLimit g_depthLimit (nI n) g_stackSize g_depth g_place g_ready (nI (8 :: 7 :: ys).length) g_errorPos (fun j => nI (t j)) b_cells b_stack b_frames w1 b_inverse b_kinds b_values :=
            fun m k ys w1 g1 g2 g3 g4 => hrd 8 m k (7 :: ys) w1 g1 (by simp only [List.length_cons]; omega) g3 g4 (fun J => yz_58 (w := 8) (Or.inr rfl) hc2 h2 (fun _ => h3) (fun z => by unfold yh_fi gr_vr at z; omega) (fun _ => H _ _))
          obtain ⟨ys, rfl | rfl, hr⟩ : ∃ ys', (ys = 6 :: ys' ∨ ys = 8 :: 7 :: ys') ∧ yp_r st ys' := hr
          · simp only [List.length_cons] at hlen
            obtain ⟨k, rfl⟩ : ∃ k', k = k' + 1 := ⟨k - 1, by omega⟩
            exact yp_rd X hp (by omega) (by omega) hs (yz_6 (gr_ch_lt X.2.2) hs.2 (by omega) (fun w1 h1 => main (m + 1) k ys w1 (by omega) (by omega) h1 (by omega)))
          · simp only [List.length_cons] at hlen
            exact main m k ys wants (by omega) (by omega) hs (by omega)
  · rw [if_neg (by decide), if_neg (by decide), if_pos rfl] at hst
    exfalso; revert hst
    split <;> (intro h; cases h)
  · rw [if_neg (by decide), if_neg (by decide), if_neg (by decide), if_pos rfl] at hst
    by_cases h1 : 97 ≤ c ∧ c ≤ 104
    · rw [if_pos h1] at hst; cases hst
    · rw [if_neg h1] at hst
      by_cases h2 : c = 91
      · rw [if_pos h2] at hst; cases hst
      · obtain ⟨ys, rfl, hr⟩ : ∃ ys', ys = 5 :: ys' ∧ yp_r st ys' := hr
        simp only [List.length_cons] at hlen
        exact hrd 5 m k ys wants (by omega) (by omega) hs (by omega) (fun J => yz_58 (w := 5) (Or.inl rfl) hc2 h2 (fun z => by omega) (fun z => by unfold yh_fi gr_vr at z; omega) (fun _ => H _ _))
  · rw [if_neg (by decide), if_neg (by decide), if_neg (by decide), if_neg (by decide), if_pos rfl] at hst
    by_cases h1 : ex_lv c = 2
    · rw [if_pos h1] at hst; cases hst
    · rw [if_neg h1] at hst
      by_cases h2 : c = 36
      · rw [if_pos h2] at hst; cases hst
      · obtain ⟨ys, rfl, hr⟩ : ∃ ys', ys = 4 :: 59 :: ys' ∧ yp_r st ys' := hr
        simp only [List.length_cons] at hlen
        exact hrd 4 m k (59 :: ys) wants (by omega) (by simp only [List.length_cons]; omega) hs (by omega) (fun J => yz_4e hc2 h1 h2 (by omega) (H _ _))
  · rw [if_neg (by decide), if_neg (by decide), if_neg (by decide), if_neg (by decide), if_neg (by decide), if_pos rfl] at hst
    by_cases h1 : 65 ≤ c ∧ c ≤ 68
    · rw [if_pos h1] at hst; cases hst
    · obtain ⟨ys, rfl, hr⟩ : ∃ ys', ys = 10 :: ys' ∧ yp_r st ys' := hr
      simp only [List.length_cons] at hlen
      exact hrd 10 m k ys wants (by omega) (by omega) hs (by omega) (fun J => yz_tm (w := 10) (by omega) (by omega) hc2 (fun z => by unfold yh_fi gr_nm at z; omega) (fun _ => H _ _))
  · rw [if_neg (by decide), if_neg (by decide), if_neg (by decide), if_neg (by decide), if_neg (by decide), if_neg (by decide), if_pos rfl] at hst
    by_cases h1 : 65 ≤ c ∧ c ≤ 68
    · rw [if_pos h1] at hst; cases hst
    · obtain ⟨ys, rfl, hr⟩ : ∃ ys', ys = 10 :: ys' ∧ yp_r st ys' := hr
      simp only [List.length_cons] at hlen
      exact hrd 10 m k ys wants (by omega) (by omega) hs (by omega) (fun J => yz_tm (w := 10) (by omega) (by omega) hc2 (fun z => by unfold yh_fi gr_nm at z; omega) (fun _ => H _ _))
  · rw [if_neg (by decide), if_neg (by decide), if_neg (by decide), if_neg (by decide), if_neg (by decide), if_neg (by decide), if_neg (by decide), if_pos rfl] at hst
    have h5 := hf5 (by decide)
    by_cases h1 : c = 58
    · rw [if_pos h1] at hst; cases hst
    · rw [if_neg h1] at hst
      by_cases h2 : c = 0
      · rw [if_pos h2] at hst; cases hst
      · obtain ⟨rfl, rfl⟩ : ys = [2] ∧ st = [] := hr
        obtain ⟨k, rfl⟩ : ∃ k', k = k' + 2 := ⟨k - 2, by omega⟩
        have hpn := hP2 h2
        refine yp_rd X hp (by omega) (by decide) hs ?_
        rw [hc]
        refine yz_2e hc2 h1 (by omega) ?_
        have h485 : wY_syntaxError_485 post (nI p) g_textLimit g_stackLimit g_depthLimit (nI n) g_stackSize g_depth g_place g_ready (nI ([] : List Nat).length) g_errorPos (fun j => nI (t j)) b_cells b_stack b_frames wants b_inverse b_kinds b_values := by
          unfold wY_syntaxError_485
          exact br_f (nI_ge (by omega) (by omega)) (H _ _)
        exact br_c (fun _ => h485) (fun _ => br_t (by decide) h485)
  · rw [if_neg (by omega), if_neg (by omega), if_neg (by omega), if_neg (by omega), if_neg (by omega), if_neg (by omega), if_neg (by omega), if_neg (by omega)] at hst
    have h5 := hf5 (by omega)
    by_cases h1 : c = s ∧ c ≠ 0
    · rw [if_pos h1] at hst; cases hst
    · have hcs : c ≠ s := by omega
      have tm : ∀ (m k : Nat) (ys : List Nat) (w1 : Nat → Int32), m < 6000 → ys.length + 10 < 6000 → sk_N w1 (s :: ys) → 0 < k → wY_syntaxError_19 post k (nI p) (nI m) g_textLimit g_stackLimit g_depthLimit (nI n) g_stackSize g_depth g_place g_ready (nI (s :: ys).length) g_errorPos (fun j => nI (t j)) b_cells b_stack b_frames w1 b_inverse b_kinds b_values :=
        fun m k ys w1 g1 g2 g3 g4 => hrd s m k ys w1 g1 (by omega) g3 g4 (fun J => yz_tm (by omega) (by omega) hc2 (fun z => by unfold yh_fi at z; omega) (fun _ => H _ _))
      by_cases h123 : s = 123
      · subst h123
        obtain ⟨ys, ⟨rfl, hr⟩ | ⟨rfl, hr⟩⟩ : ∃ ys', (ys = 123 :: ys' ∧ yp_r st ys') ∨ (ys = 9 :: ys' ∧ yp_r st (1 :: 125 :: ys')) := hr
        · simp only [List.length_cons] at hlen
          exact tm m k ys wants (by omega) (by omega) hs (by omega)
        · simp only [List.length_cons] at hlen
          obtain ⟨k, rfl⟩ : ∃ k', k = k' + 1 := ⟨k - 1, by omega⟩
          exact yp_rd X hp (by omega) (by omega) hs (yz_9 (gr_ch_lt X.2.2) hs.2 (by omega) (fun w1 h1 => tm (m + 1) k (1 :: 125 :: ys) w1 (by omega) (by simp only [List.length_cons]; omega) h1 (by omega)))
      · have hz' : s = 125 ∨ s = 93 ∨ s = 41 ∨ s = 59 := by omega
        obtain ⟨ys, rfl, hr2⟩ : ∃ ys', ys = s :: ys' ∧ yp_r st ys' := by
          rcases hz' with rfl | rfl | rfl | rfl <;> exact hr
        simp only [List.length_cons] at hlen
        exact tm m k ys wants (by omega) (by omega) hs (by omega)
theorem yp_er (X : xp_tx t n) {k : Nat} (H : ∀ g_top b_wants, post (nI k) (g_textLimit, g_stackLimit, g_depthLimit, nI n, g_stackSize, g_depth, g_place, g_ready, g_top, g_errorPos, fun j => nI (t j), b_cells, b_stack, b_frames, b_wants, b_inverse, b_kinds, b_values)) : ∀ m st p, gr_er t n m st p k → p ≤ n → (∀ s ∈ st, xp_kn s) → yp_W post t n st p g_textLimit g_stackLimit g_depthLimit g_stackSize g_depth g_place g_ready g_errorPos b_cells b_stack b_frames b_inverse b_kinds b_values := by
  intro m
  induction m with
  | zero => intro st p h; exact h.elim
  | succ m ih =>
    intro st p h hp hkn
    match st, h with
    | [], h => exact h.elim
    | s :: st, h =>
      rcases h with ⟨hst, rfl⟩ | ⟨ps, d, hst, her⟩
      · exact yp_stuck X hp hst (hkn s (List.mem_cons_self ..)) H
      · have hpd : p + d ≤ n := by
          rcases gr_st_d hst with rfl | ⟨rfl, h0⟩
          · exact hp
          · have := (gr_ch_in rfl h0).1; omega
        exact yp_step X hp hst (hkn s (List.mem_cons_self ..)) (ih (ps ++ st) (p + d) her hpd (fun x hx => (List.mem_append.mp hx).elim (xp_kn_st hst x) (fun hx => hkn x (List.mem_cons_of_mem _ hx))))
theorem yp_fn (X : xp_tx t n) (H : ∀ g_top b_wants, post (-1) (g_textLimit, g_stackLimit, g_depthLimit, nI n, g_stackSize, g_depth, g_place, g_ready, g_top, g_errorPos, fun j => nI (t j), b_cells, b_stack, b_frames, b_wants, b_inverse, b_kinds, b_values)) : ∀ m st p, gr_fn t n m st p → p ≤ n → (∀ s ∈ st, xp_kn s) → yp_W post t n st p g_textLimit g_stackLimit g_depthLimit g_stackSize g_depth g_place g_ready g_errorPos b_cells b_stack b_frames b_inverse b_kinds b_values := by
  intro m
  induction m with
  | zero => intro st p h; exact h.elim
  | succ m ih =>
    intro st p h hp hkn
    match st, h with
    | [], h =>
      have : p = n := h
      exact yp_end X.1 hp (fun a b => by rw [if_neg (by omega)]; exact H a b)
    | s :: st, ⟨ps, d, hst, her⟩ =>
      have hpd : p + d ≤ n := by
        rcases gr_st_d hst with rfl | ⟨rfl, h0⟩
        · exact hp
        · have := (gr_ch_in rfl h0).1; omega
      exact yp_step X hp hst (hkn s (List.mem_cons_self ..)) (ih (ps ++ st) (p + d) her hpd (fun x hx => (List.mem_append.mp hx).elim (xp_kn_st hst x) (fun hx => hkn x (List.mem_cons_of_mem _ hx))))
end
section
variable {g_textLimit g_stackLimit g_depthLimit g_length g_stackSize g_depth g_place g_ready g_top g_errorPos : Int32} {b_text b_cells b_stack b_frames b_wants b_inverse b_kinds b_values : Nat → Int32}
variable {t : Nat → Nat} {n : Nat} {post : Int32 → SY → Prop}
theorem ya_syn (X : xp_tx t n) (H : yp_W post t n [76, 80] 0 g_textLimit g_stackLimit g_depthLimit g_stackSize g_depth g_place g_ready g_errorPos b_cells b_stack b_frames b_inverse b_kinds b_values) : wpY_syntaxError post (g_textLimit, g_stackLimit, g_depthLimit, nI n, g_stackSize, g_depth, g_place, g_ready, g_top, g_errorPos, fun j => nI (t j), b_cells, b_stack, b_frames, b_wants, b_inverse, b_kinds, b_values) := by
  have hn := X.1
  unfold wpY_syntaxError
  refine yh_w2 (a := 1) (b := 2) (ys := []) rfl rfl (by omega) (by omega) trivial (by decide) (fun w1 h1 => ?_)
  have hf : gr_fi 13 5 n [76, 80] 0 = 2 + 13 * n + 5 := rfl
  exact ⟨2701, H [1, 2] w1 0 2701 ⟨_, rfl, rfl, rfl⟩ h1 (by omega) (by omega)⟩
theorem ya_kn : ∀ s ∈ [76, 80], xp_kn s := by
  intro s hs
  rcases List.mem_cons.mp hs with rfl | hs
  · exact Or.inl rfl
  · rw [List.mem_singleton.mp hs]; unfold xp_kn; omega
theorem ya_bad (X : xp_tx t n) {k : Nat} (her : gr_er t n 2006 [76, 80] 0 k) (H : ∀ g_top b_wants, post (nI k) (g_textLimit, g_stackLimit, g_depthLimit, nI n, g_stackSize, g_depth, g_place, g_ready, g_top, g_errorPos, fun j => nI (t j), b_cells, b_stack, b_frames, b_wants, b_inverse, b_kinds, b_values)) : wpY_syntaxError post (g_textLimit, g_stackLimit, g_depthLimit, nI n, g_stackSize, g_depth, g_place, g_ready, g_top, g_errorPos, fun j => nI (t j), b_cells, b_stack, b_frames, b_wants, b_inverse, b_kinds, b_values) :=
  ya_syn X (yp_er X H 2006 [76, 80] 0 her (Nat.zero_le _) ya_kn)
theorem ya_good (X : xp_tx t n) (hfn : gr_fn t n 2006 [76, 80] 0) (H : ∀ g_top b_wants, post (-1) (g_textLimit, g_stackLimit, g_depthLimit, nI n, g_stackSize, g_depth, g_place, g_ready, g_top, g_errorPos, fun j => nI (t j), b_cells, b_stack, b_frames, b_wants, b_inverse, b_kinds, b_values)) : wpY_syntaxError post (g_textLimit, g_stackLimit, g_depthLimit, nI n, g_stackSize, g_depth, g_place, g_ready, g_top, g_errorPos, fun j => nI (t j), b_cells, b_stack, b_frames, b_wants, b_inverse, b_kinds, b_values) :=
  ya_syn X (yp_fn X H 2006 [76, 80] 0 hfn (Nat.zero_le _) ya_kn)
end
end
section
/-! Y: the check of meaning -/
theorem sc_Body_mono {t : Nat → Nat} {c x y v : Nat} (hxy : x ≤ y) (h : sc_Body t c x = some v) : sc_Body t c y = some v := by
  unfold sc_Body at h ⊢
  have e : y - 1 = (x - 1) + (y - 1 - (x - 1)) := by omega
  rw [e, sc_bo_app, h]; rfl
theorem sc_bo_bd {t : Nat → Nat} {c v : Nat} : ∀ d k, sc_bo t c d k = some v → k + 2 ≤ v ∧ v ≤ k + d + 1 ∧ t (v - 2) = 58 ∧ t (v - 1) = c := by
  intro d
  induction d with
  | zero => intro k h; cases h
  | succ d ih =>
    intro k h
    rw [sc_bo] at h
    by_cases hk : t k = 58 ∧ t (k + 1) = c
    · rw [if_pos hk] at h; cases h
      exact ⟨by omega, by omega, hk.1, hk.2⟩
    · rw [if_neg hk] at h
      obtain ⟨a, b, c, d⟩ := ih _ h
      exact ⟨by omega, by omega, c, d⟩
theorem sc_Body_bd {t : Nat → Nat} {c v lim : Nat} (h : sc_Body t c lim = some v) : 2 ≤ v ∧ v ≤ lim ∧ t (v - 2) = 58 ∧ t (v - 1) = c := by
  obtain ⟨a, b, c, d⟩ := sc_bo_bd _ _ h
  refine ⟨by omega, ?_, c, d⟩
  unfold sc_Body at h
  cases lim with
  | zero => cases h
  | succ lim => omega
theorem sc_Body_own {t : Nat → Nat} {n i : Nat} (h1 : 1 ≤ i) (hi : i < n) (h : t (i - 1) = 58) (h58 : 2 ≤ i → t (i - 2) ≠ 58) : sc_Body t (t i) n = some (i + 1) ↔ sc_Body t (t i) i = none := by
  obtain ⟨p, rfl⟩ : ∃ p, i = p + 1 := ⟨i - 1, by omega⟩
  rw [Nat.add_sub_cancel] at h
  have h58' : 1 ≤ p → t (p - 1) ≠ 58 := fun z => by
    have := h58 (by omega)
    have e : p + 1 - 2 = p - 1 := by omega
    rw [e] at this; exact this
  have e0 : sc_Body t (t (p + 1)) (p + 1) = sc_Body t (t (p + 1)) p := sc_Body_ext (by omega) (fun j a b => by
    have : j = p - 1 := by omega
    rw [this]; exact h58' (by omega))
  have e1 := sc_Body_def (c := t (p + 1)) h h58'
  rw [if_pos rfl] at e1
  rw [e0]
  cases hB : sc_Body t (t (p + 1)) p with
  | none =>
    rw [hB] at e1
    exact ⟨fun _ => rfl, fun _ => sc_Body_mono (x := p + 2) (by omega) e1⟩
  | some v =>
    rw [sc_Body_mono (y := n) (by omega) hB]
    have := sc_Body_bd hB
    exact ⟨fun z => by have := Option.some.inj z; omega, fun z => by cases z⟩
section
variable {g_textLimit g_stackLimit g_depthLimit g_length g_stackSize g_depth g_place g_ready g_top g_errorPos : Int32} {b_text b_cells b_stack b_frames b_wants b_inverse b_kinds b_values : Nat → Int32}
variable {t : Nat → Nat} {n : Nat}
theorem ym_alias {post : Int32 → Prop} {s : Nat} (X : xp_tx t n) (hG : gr_G t n) (hs : s < n) (h1 : sc_bg t s ∧ sm_ac (t s) ∧ sm_al t n s (sc_Find t n 59 s) → post 1) (h0 : ¬ (sc_bg t s ∧ sm_ac (t s) ∧ sm_al t n s (sc_Find t n 59 s)) → post 0) : wpY_aliased post (g_textLimit, g_stackLimit, g_depthLimit, nI n, g_stackSize, g_depth, g_place, g_ready, g_top, g_errorPos, fun j => nI (t j), b_cells, b_stack, b_frames, b_wants, b_inverse, b_kinds, b_values) (nI s) := by
  have hn := X.1
  have ecs : (nI s).toNatClampNeg = s := nI_clamp (by omega)
  have hts := X.2.2 s
  unfold wpY_aliased
  refine ys_bg X (by omega) (fun hb => br_f (by decide) (And.intro (vp_in_nI (by omega) (by omega)) ?_)) (fun hb => br_t rfl (h0 (fun z => hb z.1)))
  show wpY_atomic _ _ (nI (t (nI s).toNatClampNeg))
  rw [ecs]
  refine yh_atomic hts (fun hac => br_f (by decide) (And.intro (vp_in_nI (by omega) (by omega)) ?_)) (fun hac => br_t rfl (h0 (fun z => hac z.2.1)))
  have hss : sc_ss t n s := ⟨hs, by
    unfold sm_ac at hac; unfold sc_sr
    rcases hac with h | h
    · exact Or.inl h
    · right; omega⟩
  obtain ⟨l, e, hpt⟩ := sc_pts hG s (by omega) hb
  rcases sc_pt_cases hpt with ⟨_, h⟩ | ⟨q, hst, hq, _, _⟩
  · exact (h hss).elim
  have hen := hpt.2.2.1
  obtain ⟨a1, a2, a3, a4, a5, a6, a7, a8⟩ := sm_at hst (n := n) (by omega) hac
  have h59 := gr_s_59 hst
  have hlt := gr_S_lt hst
  rw [a1] at h1 h0
  have hp59 : ∀ j, s ≤ j → j < q → t j ≠ 59 := by
    intro j j1 j2
    rcases hst with ⟨o, h⟩ | h | h | ⟨a, ea, eb, h⟩
    · exact (gr_U_pl h j1 j2).2.1
    · exact (gr_K_pl h j1 j2).2.1
    · exact (gr_C_pl h j1 j2).2.1
    · have := h.1; unfold sm_ac gr_vr at hac; omega
  have hvr : ∀ x, gr_vr (t x) ∨ t x = 91 → ¬ t x = 91 → gr_vr (t x) := fun x h h' => h.resolve_right h'
  have hct : ∀ c, sm_ct t c (q - s) s < 2 ^ 31 := fun c => by have := sm_ct_le t c (q - s) s; omega
  -- with both targets known
  have h118 : ∀ two z, two < n → (gr_vr (t two) ∨ t two = 91) → (two = sm_on t s ∧ t (sm_nx t n s) ≠ 36 ∨ t (sm_nx t n s) = 36 ∧ two = sm_nx t n s + 1) → z < 2 → (if t (sm_on t s) = 91 then 1 else 0) + z = sm_id t n s →
      wY_aliased_118 post (nI s) (nI (sm_on t s)) (nI two) (nI z) (nI (if t (sm_on t s) = 91 then 1 else 0)) g_textLimit g_stackLimit g_depthLimit (nI n) g_stackSize g_depth g_place g_ready g_top g_errorPos (fun j => nI (t j)) b_cells b_stack b_frames b_wants b_inverse b_kinds b_values := by
    intro two z htwo hv2 h2 hz hid
    have ec1 : (nI (sm_on t s)).toNatClampNeg = sm_on t s := nI_clamp (by omega)
    have ec2 : (nI two).toNatClampNeg = two := nI_clamp (by omega)
    have hid3 : sm_id t n s < 3 := by unfold sm_id; split <;> split <;> omega
    have hal2 : sm_rp t s q two → sm_al t n s q := by
      intro h
      rcases h2 with ⟨e, _⟩ | ⟨e, e'⟩
      · rw [e] at h; exact Or.inl h
      · rw [e'] at h; exact Or.inr (Or.inl ⟨e, h⟩)
    have h194 : ¬ sm_rp t s q (sm_on t s) → ¬ sm_rp t s q two → wY_aliased_194 post (nI (sm_id t n s)) (nI (sm_ct t 91 (q - s) s)) g_textLimit g_stackLimit g_depthLimit (nI n) g_stackSize g_depth g_place g_ready g_top g_errorPos (fun j => nI (t j)) b_cells b_stack b_frames b_wants b_inverse b_kinds b_values := by
      intro g1 g2
      have hal : sm_al t n s q ↔ (0 < sm_id t n s ∧ sm_ct t 91 (q - s) s ≠ sm_id t n s) := by
        constructor
        · rintro (h | ⟨h, h'⟩ | h)
          · exact (g1 h).elim
          · rcases h2 with ⟨_, e⟩ | ⟨_, e⟩
            · exact (e h).elim
            · rw [e] at g2; exact (g2 h').elim
          · exact h
        · exact fun h => Or.inr (Or.inr h)
      unfold wY_aliased_194
      exact pk_le _ 0 (fun h => h0 (fun z => by have := (hal.mp z.2.2).1; omega)) (fun h => pk_eq _ _ (fun e => h0 (fun z => (hal.mp z.2.2).2 e)) (fun e => h1 ⟨hb, hac, hal.mpr ⟨h, e⟩⟩) rfl rfl (hct 91) (by omega)) rfl rfl (by omega) (by omega)
    have h174 : ¬ sm_rp t s q (sm_on t s) → wY_aliased_174 post (nI two) (nI (sm_id t n s)) (nI (sm_ct t 91 (q - s) s)) (nI (sm_ct t (t two) (q - s) s)) g_textLimit g_stackLimit g_depthLimit (nI n) g_stackSize g_depth g_place g_ready g_top g_errorPos (fun j => nI (t j)) b_cells b_stack b_frames b_wants b_inverse b_kinds b_values := by
      intro g1
      unfold wY_aliased_174
      refine And.intro (vp_in_nI (by omega) (by omega)) ?_
      show (nI (t (nI two).toNatClampNeg) = 91 → _) ∧ (¬ nI (t (nI two).toNatClampNeg) = 91 → _)
      rw [ec2]
      have := X.2.2 two
      exact pk_eq (t two) 91 (fun e => h194 g1 (fun z => by have := z.1; unfold gr_vr at this; omega)) (fun e => pk_eq _ 1 (fun e' => h194 g1 (fun z => z.2 e')) (fun e' => h1 ⟨hb, hac, hal2 ⟨hvr _ hv2 e, e'⟩⟩) rfl rfl (hct _) (by omega)) rfl rfl (by omega) (by omega)
    unfold wY_aliased_118
    refine nm_r (e' := nI (sm_id t n s)) (by rw [nI_add, hid]) ?_
    refine ys_count (c := 91) X (by omega) (by omega) (by omega) h59 hp59 ?_
    refine And.intro (vp_in_nI (by omega) (by omega)) ?_
    show wpY_count _ _ (nI (t (nI (sm_on t s)).toNatClampNeg)) _
    rw [ec1]
    refine ys_count X (X.2.2 _) (by omega) (by omega) h59 hp59 ?_
    refine And.intro (vp_in_nI (by omega) (by omega)) ?_
    show wpY_count _ _ (nI (t (nI two).toNatClampNeg)) _
    rw [ec2]
    refine ys_count X (X.2.2 _) (by omega) (by omega) h59 hp59 ?_
    refine And.intro (vp_in_nI (by omega) (by omega)) ?_
    have := X.2.2 (sm_on t s)
    exact pk_eq (t (sm_on t s)) 91 (fun e => h174 (fun z => by have := z.1; unfold gr_vr at this; omega)) (fun e => pk_eq _ 1 (fun e' => h174 (fun z => z.2 e')) (fun e' => h1 ⟨hb, hac, Or.inl ⟨hvr _ a2 e, e'⟩⟩) rfl rfl (hct _) (by omega)) rfl rfl (by omega) (by omega)
  have h95 : ∀ two, two < n → (gr_vr (t two) ∨ t two = 91) → (two = sm_on t s ∧ t (sm_nx t n s) ≠ 36 ∨ t (sm_nx t n s) = 36 ∧ two = sm_nx t n s + 1) →
      wY_aliased_95 post (nI s) (nI (sm_on t s)) (nI two) (nI (if t (sm_on t s) = 91 then 1 else 0)) g_textLimit g_stackLimit g_depthLimit (nI n) g_stackSize g_depth g_place g_ready g_top g_errorPos (fun j => nI (t j)) b_cells b_stack b_frames b_wants b_inverse b_kinds b_values := by
    intro two htwo hv2 h2
    have ec2 : (nI two).toNatClampNeg = two := nI_clamp (by omega)
    unfold wY_aliased_95
    refine pk_eq two (sm_on t s) (fun e => ?_) (fun e => And.intro (vp_in_nI (by omega) (by omega)) ?_) rfl rfl (by omega) (by omega)
    · unfold wY_aliased_117
      refine h118 two 0 htwo hv2 h2 (by omega) ?_
      rcases h2 with ⟨_, h36⟩ | ⟨_, e'⟩
      · unfold sm_id; rw [if_neg (c := t (sm_nx t n s) = 36 ∧ t (sm_nx t n s + 1) = 91) (fun z => h36 z.1)]
      · omega
    · show (nI (t (nI two).toNatClampNeg) = 91 → _) ∧ (¬ nI (t (nI two).toNatClampNeg) = 91 → _)
      rw [ec2]
      have := X.2.2 two
      rcases h2 with ⟨e', _⟩ | ⟨h36, e'⟩
      · exact (e e').elim
      refine pk_eq (t two) 91 (fun e91 => h118 two 1 htwo hv2 (Or.inr ⟨h36, e'⟩) (by omega) ?_) (fun e91 => ?_) rfl rfl (by omega) (by omega)
      · unfold sm_id; rw [if_pos (c := t (sm_nx t n s) = 36 ∧ t (sm_nx t n s + 1) = 91) ⟨h36, by rw [← e']; exact e91⟩]
      · unfold wY_aliased_117
        refine h118 two 0 htwo hv2 (Or.inr ⟨h36, e'⟩) (by omega) ?_
        unfold sm_id; rw [if_neg (c := t (sm_nx t n s) = 36 ∧ t (sm_nx t n s + 1) = 91) (fun z => e91 (by rw [e']; exact z.2))]
  have h77 : ∀ two, two < n → (gr_vr (t two) ∨ t two = 91) → (two = sm_on t s ∧ t (sm_nx t n s) ≠ 36 ∨ t (sm_nx t n s) = 36 ∧ two = sm_nx t n s + 1) →
      wY_aliased_77 post (nI s) (nI (sm_on t s)) (nI two) g_textLimit g_stackLimit g_depthLimit (nI n) g_stackSize g_depth g_place g_ready g_top g_errorPos (fun j => nI (t j)) b_cells b_stack b_frames b_wants b_inverse b_kinds b_values := by
    intro two htwo hv2 h2
    have g := h95 two htwo hv2 h2
    unfold wY_aliased_77
    refine And.intro (vp_in_nI (by omega) (by omega)) ?_
    show (nI (t (nI (sm_on t s)).toNatClampNeg) = 91 → _) ∧ (¬ nI (t (nI (sm_on t s)).toNatClampNeg) = 91 → _)
    rw [nI_clamp (by omega)]
    have := X.2.2 (sm_on t s)
    refine pk_eq (t (sm_on t s)) 91 (fun e => ?_) (fun e => ?_) rfl rfl (by omega) (by omega)
    · rw [if_pos e] at g; exact g
    · rw [if_neg e] at g; exact g
  have h52 : wY_aliased_52 post (nI s) (nI (sm_on t s)) g_textLimit g_stackLimit g_depthLimit (nI n) g_stackSize g_depth g_place g_ready g_top g_errorPos (fun j => nI (t j)) b_cells b_stack b_frames b_wants b_inverse b_kinds b_values := by
    unfold wY_aliased_52
    refine ys_te X (by omega) (fun _ => by rcases a2 with h | h
                                           · unfold gr_vr at h; omega
                                           · omega) ?_
    show vp_in (nI (sm_nx t n s)) 200 ∧ _
    refine And.intro (vp_in_nI (by omega) (by omega)) ?_
    show (nI (t (nI (sm_nx t n s)).toNatClampNeg) = 36 → _) ∧ (¬ nI (t (nI (sm_nx t n s)).toNatClampNeg) = 36 → _)
    rw [nI_clamp (by omega)]
    have := X.2.2 (sm_nx t n s)
    refine pk_eq (t (sm_nx t n s)) 36 (fun e => ?_) (fun e => h77 _ (by omega) a2 (Or.inl ⟨rfl, e⟩)) rfl rfl (by omega) (by omega)
    have hT2 := a8 e
    have hlt2 := gr_T_lt hT2
    show wY_aliased_77 post (nI s) (nI (sm_on t s)) (nI (sm_nx t n s) + 1) _ _ _ _ _ _ _ _ _ _ _ _ _ _ _ _ _ _
    rw [nI_1]
    exact h77 _ (by omega) (gr_T_sr hT2) (Or.inr ⟨e, rfl⟩)
  refine pk_eq (t s) 60 (fun e => ?_) (fun n60 => And.intro (vp_in_nI (by omega) (by omega)) (pk_eq (t s) 62 (fun e => ?_) (fun n62 => ?_) rfl rfl (by omega) (by omega))) rfl rfl (by omega) (by omega)
  · have e1 : sm_on t s = s + 1 := if_pos (Or.inr e)
    rw [e1] at h52
    unfold wY_aliased_45
    rw [nI_1]; exact h52
  · have e1 : sm_on t s = s + 1 := if_pos (Or.inl e)
    rw [e1] at h52
    unfold wY_aliased_45
    rw [nI_1]; exact h52
  · have e1 : sm_on t s = s := if_neg (by omega)
    rw [e1] at h52
    exact h52
/-- the loop over the places -/
theorem ym_loop {post : Int32 → SY → Prop} {ek ep : Int32} (X : xp_tx t n) (hG : gr_G t n) (hcm : sm_cm t n ek ep) (H : ∀ ep', (ek ≠ 0 → ep' = ep) → post ek (g_textLimit, g_stackLimit, g_depthLimit, nI n, g_stackSize, g_depth, g_place, g_ready, g_top, ep', fun j => nI (t j), b_cells, b_stack, b_frames, b_wants, b_inverse, b_kinds, b_values)) :
    ∀ d i e, i + d = n → (∀ j, j < i → sm_me t n j = 0) → ∀ k, d < k → wY_check_19 post g_textLimit g_stackLimit g_depthLimit (nI n) g_stackSize g_depth g_place g_ready g_top (fun j => nI (t j)) b_cells b_stack b_frames b_wants b_inverse b_kinds b_values k (nI i) e := by
  have hn := X.1
  intro d
  induction d with
  | zero =>
    intro i e hi hm k hk
    cases k with
    | zero => omega
    | succ k =>
      rcases hcm with ⟨i0, h1, h2, h3, h4, h5⟩ | ⟨h1, h2, h3⟩
      · exact (h3 (hm i0 (by omega))).elim
      · subst h2
        exact br_t (nI_le (by omega) (by omega)) (H e (fun z => (z rfl).elim))
  | succ d ih =>
    intro i e hi hm k hk
    cases k with
    | zero => omega
    | succ k =>
      have ec : (nI i).toNatClampNeg = i := nI_clamp (by omega)
      have hti := X.2.2 i
      have herr : sm_me t n i ≠ 0 → post (nI (sm_me t n i)) (g_textLimit, g_stackLimit, g_depthLimit, nI n, g_stackSize, g_depth, g_place, g_ready, g_top, nI i, fun j => nI (t j), b_cells, b_stack, b_frames, b_wants, b_inverse, b_kinds, b_values) := by
        intro hne
        rcases hcm with ⟨i0, h1, h2, h3, h4, h5⟩ | ⟨h1, h2, h3⟩
        · have e1 : i0 = i := by
            rcases Nat.lt_or_ge i0 i with h | h
            · exact (h3 (hm i0 h)).elim
            · rcases Nat.lt_or_ge i i0 with h' | h'
              · exact (hne (h2 i h')).elim
              · omega
          subst e1
          rw [← h4, ← h5]
          exact H ep (fun _ => rfl)
        · exact (hne (h1 i (by omega))).elim
      have hgo : sm_me t n i = 0 → wY_check_19 post g_textLimit g_stackLimit g_depthLimit (nI n) g_stackSize g_depth g_place g_ready g_top (fun j => nI (t j)) b_cells b_stack b_frames b_wants b_inverse b_kinds b_values k (nI (i + 1)) (nI i) := by
        intro h0
        exact ih (i + 1) (nI i) (by omega) (fun j hj => by
          rcases Nat.lt_or_ge j i with h | h
          · exact hm j h
          · have : j = i := by omega
            rw [this]; exact h0) k (by omega)
      have h108 : (¬ (sc_bg t i ∧ sm_ac (t i) ∧ sm_al t n i (sc_Find t n 59 i)) → sm_me t n i = 0) → ((sc_bg t i ∧ sm_ac (t i) ∧ sm_al t n i (sc_Find t n 59 i)) → sm_me t n i = 4) → wY_check_108 post (wY_check_19 post g_textLimit g_stackLimit g_depthLimit (nI n) g_stackSize g_depth g_place g_ready g_top (fun j => nI (t j)) b_cells b_stack b_frames b_wants b_inverse b_kinds b_values k) (nI i) g_textLimit g_stackLimit g_depthLimit (nI n) g_stackSize g_depth g_place g_ready g_top (nI i) (fun j => nI (t j)) b_cells b_stack b_frames b_wants b_inverse b_kinds b_values := by
        intro m0 m4
        unfold wY_check_108
        refine ym_alias X hG (by omega) (fun h => br_f (by decide) ?_) (fun h => br_t rfl (nm_r (nI_1 i) (hgo (m0 h))))
        have := herr (by rw [m4 h]; omega)
        rw [m4 h] at this
        exact this
      have hnac : gr_nm (t i) → ¬ (sc_bg t i ∧ sm_ac (t i) ∧ sm_al t n i (sc_Find t n 59 i)) := fun h z => by
        have := z.2.1; unfold sm_ac gr_vr at this; unfold gr_nm at h; omega
      -- by the character before
      have h43 : ∀ z, z < 127 → (z = 0 ∧ i = 0 ∨ 1 ≤ i ∧ z = t (i - 1)) → wY_check_43 post (wY_check_19 post g_textLimit g_stackLimit g_depthLimit (nI n) g_stackSize g_depth g_place g_ready g_top (fun j => nI (t j)) b_cells b_stack b_frames b_wants b_inverse b_kinds b_values k) (nI i) (nI z) g_textLimit g_stackLimit g_depthLimit (nI n) g_stackSize g_depth g_place g_ready g_top e (fun j => nI (t j)) b_cells b_stack b_frames b_wants b_inverse b_kinds b_values := by
        intro z hz hzi
        unfold wY_check_43
        refine And.intro (vp_in_nI (by omega) (by omega)) ?_
        show wpY_bodyOf _ _ (nI (t (nI i).toNatClampNeg)) _
        rw [ec]
        refine ys_body X hti (by omega) (And.intro (vp_in_nI (by omega) (by omega)) ?_)
        refine ys_body X hti (Nat.le_refl _) ?_
        have hname := sm_name hG
        have h89 : z ≠ 33 ∧ z ≠ 126 → ∀ r, (¬ (sc_bg t i ∧ sm_ac (t i) ∧ sm_al t n i (sc_Find t n 59 i)) → sm_me t n i = 0) → ((sc_bg t i ∧ sm_ac (t i) ∧ sm_al t n i (sc_Find t n 59 i)) → sm_me t n i = 4) → wY_check_89 post (wY_check_19 post g_textLimit g_stackLimit g_depthLimit (nI n) g_stackSize g_depth g_place g_ready g_top (fun j => nI (t j)) b_cells b_stack b_frames b_wants b_inverse b_kinds b_values k) (nI i) (nI z) r g_textLimit g_stackLimit g_depthLimit (nI n) g_stackSize g_depth g_place g_ready g_top (nI i) (fun j => nI (t j)) b_cells b_stack b_frames b_wants b_inverse b_kinds b_values := by
          intro hz2 r m0 m4
          unfold wY_check_89
          exact pk_eq z 33 (fun h => (hz2.1 h).elim) (fun _ => pk_eq z 126 (fun h => (hz2.2 h).elim) (fun _ => h108 m0 m4) rfl rfl (by omega) (by omega)) rfl rfl (by omega) (by omega)
        refine pk_eq z 58 (fun e58 => ?_) (fun n58 => ?_) rfl rfl (by omega) (by omega)
        · obtain ⟨hi1, hz1⟩ : 1 ≤ i ∧ z = t (i - 1) := by
            rcases hzi with ⟨h, _⟩ | h
            · omega
            · exact h
          have e58' : t (i - 1) = 58 := by rw [← hz1]; exact e58
          have hnm : gr_nm (t i) := by
            have := ((hname (i - 1) (by omega)).2 (Or.inr (Or.inr e58'))).2
            have e1 : i - 1 + 1 = i := by omega
            rw [e1] at this; exact this
          have h58' : 2 ≤ i → t (i - 2) ≠ 58 := fun h2 h3 => by
            have := ((hname (i - 2) (by omega)).2 (Or.inr (Or.inr h3))).2
            have e1 : i - 2 + 1 = i - 1 := by omega
            rw [e1] at this; unfold gr_nm at this; omega
          have hown := sc_Body_own hi1 (by omega : i < n) e58' h58'
          have hme := sm_me_n (n := n) hnm
          rw [if_pos e58'] at hme
          cases hB : sc_Body t (t i) i with
          | none =>
            rw [if_pos (hown.mpr hB)] at hme
            exact br_t (show (-1 : Int32) < 0 by decide) (h89 (by omega) _ (fun _ => hme) (fun h => (hnac hnm h).elim))
          | some v =>
            rw [if_neg (fun h => by rw [hown.mp h] at hB; cases hB)] at hme
            have hv := sc_Body_bd hB
            refine br_f (show ¬ nI v < 0 from nI_pos (by omega)) ?_
            have := herr (by rw [hme]; omega)
            rw [hme] at this
            exact this
        · by_cases hbc : z = 33 ∨ z = 126
          · obtain ⟨hi1, hz1⟩ : 1 ≤ i ∧ z = t (i - 1) := by
              rcases hzi with ⟨h, _⟩ | h
              · omega
              · exact h
            have hnm : gr_nm (t i) := by
              have := ((hname (i - 1) (by omega)).2 (by omega)).2
              have e1 : i - 1 + 1 = i := by omega
              rw [e1] at this; exact this
            have hme := sm_me_n (n := n) hnm
            rw [if_neg (by omega)] at hme
            have h101 : wY_check_101 post (wY_check_19 post g_textLimit g_stackLimit g_depthLimit (nI n) g_stackSize g_depth g_place g_ready g_top (fun j => nI (t j)) b_cells b_stack b_frames b_wants b_inverse b_kinds b_values k) (nI i) (xp_op (sc_Body t (t i) n)) g_textLimit g_stackLimit g_depthLimit (nI n) g_stackSize g_depth g_place g_ready g_top (nI i) (fun j => nI (t j)) b_cells b_stack b_frames b_wants b_inverse b_kinds b_values := by
              unfold wY_check_101
              cases hB : sc_Body t (t i) n with
              | none =>
                rw [if_pos hB] at hme
                refine br_f (show ¬ (0 : Int32) ≤ -1 by decide) ?_
                have := herr (by rw [hme]; omega)
                rw [hme] at this
                exact this
              | some v =>
                rw [if_neg (by rw [hB]; intro h; cases h)] at hme
                have hv := sc_Body_bd hB
                exact br_t (show (0 : Int32) ≤ nI v from nI_pos' (by omega)) (h108 (fun _ => hme) (fun h => (hnac hnm h).elim))
            unfold wY_check_89
            exact pk_eq z 33 (fun _ => h101) (fun n33 => pk_eq z 126 (fun _ => h101) (fun n126 => by omega) rfl rfl (by omega) (by omega)) rfl rfl (by omega) (by omega)
          · have hnm : ¬ gr_nm (t i) := fun h => by
              obtain ⟨h1, h2⟩ := (hname i (by omega)).1 h
              rcases hzi with ⟨_, h3⟩ | ⟨_, h3⟩
              · omega
              · omega
            exact h89 (by omega) _ (fun h => sm_me_0 hnm h) (fun h => sm_me_a hnm h)
      refine br_f (nI_ge (by omega) (by omega)) (pk_le i 0 (fun h => h43 0 (by omega) (Or.inl ⟨rfl, by omega⟩)) (fun h => ?_) rfl rfl (by omega) (by omega))
      have e1 : nI i - 1 = nI (i - 1) := pk_sub (a := i) (b := 1) (by omega)
      rw [e1]
      refine And.intro (vp_in_nI (by omega) (by omega)) ?_
      have := h43 (t (i - 1)) (X.2.2 _) (Or.inr ⟨by omega, rfl⟩)
      show wY_check_43 post _ (nI i) (nI (t (nI (i - 1)).toNatClampNeg)) _ _ _ _ _ _ _ _ _ _ _ _ _ _ _ _ _ _
      rw [nI_clamp (by omega)]
      exact this
theorem ya_check_bad {post : Int32 → SY → Prop} (X : xp_tx t n) {k : Nat} (her : gr_er t n 2006 [76, 80] 0 k) (H : ∀ g_top b_wants, post 1 (g_textLimit, g_stackLimit, g_depthLimit, nI n, g_stackSize, g_depth, g_place, g_ready, g_top, nI k, fun j => nI (t j), b_cells, b_stack, b_frames, b_wants, b_inverse, b_kinds, b_values)) : wpY_check post (g_textLimit, g_stackLimit, g_depthLimit, nI n, g_stackSize, g_depth, g_place, g_ready, g_top, g_errorPos, fun j => nI (t j), b_cells, b_stack, b_frames, b_wants, b_inverse, b_kinds, b_values) := by
  have hk := gr_er_le _ _ _ _ (Nat.zero_le _) her
  have hn := X.1
  unfold wpY_check
  exact ya_bad X her (fun a b => br_f (nI_pos (by omega)) (H a b))
theorem ya_check_good {post : Int32 → SY → Prop} {ek ep : Int32} (X : xp_tx t n) (hfn : gr_fn t n 2006 [76, 80] 0) (hG : gr_G t n) (hcm : sm_cm t n ek ep) (H : ∀ g_top b_wants ep', (ek ≠ 0 → ep' = ep) → post ek (g_textLimit, g_stackLimit, g_depthLimit, nI n, g_stackSize, g_depth, g_place, g_ready, g_top, ep', fun j => nI (t j), b_cells, b_stack, b_frames, b_wants, b_inverse, b_kinds, b_values)) : wpY_check post (g_textLimit, g_stackLimit, g_depthLimit, nI n, g_stackSize, g_depth, g_place, g_ready, g_top, g_errorPos, fun j => nI (t j), b_cells, b_stack, b_frames, b_wants, b_inverse, b_kinds, b_values) := by
  unfold wpY_check
  exact ya_good X hfn (fun a b => br_t (by decide) ⟨n + 1, ym_loop X hG hcm (fun ep' h => H a b ep' h) n 0 (-1) (by omega) (fun j hj => by omega) (n + 1) (by omega)⟩)
end
end
section
/-! X: expressions -/
/-- the value of the expression from x to y -/
def ev_E (t : Nat → Nat) (cl : Nat → Int32) (x y : Nat) (v : Int32) : Prop := x ≤ y ∧ ∃ f v0 l, ex_X cl f false ((gr_sg t x y).map (ex_tk cl)) v0 l ∧ v = ex_fl v0 l
theorem ev_of {t : Nat → Nat} {x y : Nat} (cl : Nat → Int32) (h : gr_E t x y) : ∃ v, ev_E t cl x y v := by
  obtain ⟨h1, f, hf⟩ := h
  obtain ⟨v0, l, hX⟩ := (gr_X_val cl f).2 _ hf
  exact ⟨_, h1, f, v0, l, hX, rfl⟩
theorem ex_rd_len (m : Nat) : ∀ os vs, (ex_rd m os vs).1.length + (ex_rd m os vs).2.length ≤ os.length + vs.length ∧ (ex_rd m os vs).1.length ≤ os.length ∧ (ex_rd m os vs).2.length ≤ vs.length := by
  intro os
  induction os with
  | nil => intro vs; exact ⟨Nat.le_refl _, Nat.le_refl _, Nat.le_refl _⟩
  | cons o os ih =>
    intro vs
    match vs with
    | [] => exact ⟨Nat.le_refl _, Nat.le_refl _, Nat.le_refl _⟩
    | [_] => exact ⟨Nat.le_refl _, Nat.le_refl _, Nat.le_refl _⟩
    | r :: l :: vs =>
      by_cases h : ex_lv o < m
      · rw [ex_rd_h h]; exact ⟨Nat.le_refl _, Nat.le_refl _, Nat.le_refl _⟩
      · rw [ex_rd_s h]
        have := ih (ex_ap o l r :: vs)
        simp only [List.length_cons] at this ⊢
        omega
def xv_ok (os : List Nat) : Prop := ∀ o ∈ os, o ≠ 0 ∧ o < 127
theorem xv_rd {m : Nat} : ∀ {os : List Nat} {vs : List Int32}, xv_ok os → xv_ok (ex_rd m os vs).1 := by
  intro os
  induction os with
  | nil => intro vs h; exact h
  | cons o os ih =>
    intro vs h
    match vs with
    | [] => exact h
    | [_] => exact h
    | r :: l :: vs =>
      by_cases h' : ex_lv o < m
      · rw [ex_rd_h h']; exact h
      · rw [ex_rd_s h']
        exact ih (fun x hx => h x (List.mem_cons_of_mem _ hx))
section
variable {f_textCap f_stackCap f_depthCap f_ready f_size f_stackTop f_point f_frameCount f_symbolTop f_pos f_list f_open f_errorKind f_errorPos f_valueTop f_operatorTop : Int32} {a_text a_cells a_stack a_frames a_listOf a_listEnd a_owner a_stmtEnd a_stmtBegin a_firstA a_firstB a_opAt a_procFirst a_inverse a_invFirst a_invBegin a_symbols a_values a_operators : Nat → Int32}
theorem xh_ap {post : Int32 → Prop} {o : Nat} {x y : Int32} (ho : o < 127) (h : post (ex_ap o x y)) : wpX_apply post (f_textCap, f_stackCap, f_depthCap, f_ready, f_size, f_stackTop, f_point, f_frameCount, f_symbolTop, f_pos, f_list, f_open, f_errorKind, f_errorPos, f_valueTop, f_operatorTop, a_text, a_cells, a_stack, a_frames, a_listOf, a_listEnd, a_owner, a_stmtEnd, a_stmtBegin, a_firstA, a_firstB, a_opAt, a_procFirst, a_inverse, a_invFirst, a_invBegin, a_symbols, a_values, a_operators) (nI o) x y := by
  unfold ex_ap at h
  refine pk_eq o 43 (fun e => ?_) (fun n1 => pk_eq o 45 (fun e => ?_) (fun n2 => pk_eq o 94 (fun e => ?_) (fun n3 => pk_eq o 42 (fun e => ?_) (fun n4 => pk_eq o 38 (fun e => ?_) (fun n5 => pk_eq o 61 (fun e => ?_) (fun n6 => ?_) rfl rfl (by omega) (by omega)) rfl rfl (by omega) (by omega)) rfl rfl (by omega) (by omega)) rfl rfl (by omega) (by omega)) rfl rfl (by omega) (by omega)) rfl rfl (by omega) (by omega)
  · rw [if_pos e] at h; exact h
  · rw [if_neg n1, if_pos e] at h; exact h
  · rw [if_neg n1, if_neg n2, if_pos e] at h; exact h
  · rw [if_neg n1, if_neg n2, if_neg n3, if_pos e] at h; exact h
  · rw [if_neg n1, if_neg n2, if_neg n3, if_neg n4, if_pos e] at h; exact h
  · rw [if_neg n1, if_neg n2, if_neg n3, if_neg n4, if_neg n5, if_pos e] at h
    exact br_c (fun e' => by rw [if_pos e'] at h; exact h) (fun e' => by rw [if_neg e'] at h; exact h)
  · rw [if_neg n1, if_neg n2, if_neg n3, if_neg n4, if_neg n5, if_neg n6] at h
    exact br_c (fun e' => by rw [if_pos e'] at h; exact h) (fun e' => by rw [if_neg e'] at h; exact h)
theorem xg_5 {post : SX → Prop} {m : Nat} (hm : m < 5) : ∀ (os : List Nat) (vs : List Int32) (vals : Nat → Int32), xv_ok os → sk_N a_operators os → sk_I vals vs → os.length ≤ 200 → vs.length ≤ 200 →
    (∀ vals', sk_N a_operators (ex_rd m os vs).1 → sk_I vals' (ex_rd m os vs).2 → post (f_textCap, f_stackCap, f_depthCap, f_ready, f_size, f_stackTop, f_point, f_frameCount, f_symbolTop, f_pos, f_list, f_open, f_errorKind, f_errorPos, nI (ex_rd m os vs).2.length, nI (ex_rd m os vs).1.length, a_text, a_cells, a_stack, a_frames, a_listOf, a_listEnd, a_owner, a_stmtEnd, a_stmtBegin, a_firstA, a_firstB, a_opAt, a_procFirst, a_inverse, a_invFirst, a_invBegin, a_symbols, vals', a_operators)) →
    ∀ k, os.length < k → wX_reduce_5 post (nI m) f_textCap f_stackCap f_depthCap f_ready f_size f_stackTop f_point f_frameCount f_symbolTop f_pos f_list f_open f_errorKind f_errorPos k (nI os.length) (nI vs.length) (nI os.length) a_text a_cells a_stack a_frames a_listOf a_listEnd a_owner a_stmtEnd a_stmtBegin a_firstA a_firstB a_opAt a_procFirst a_inverse a_invFirst a_invBegin a_symbols vals a_operators := by
  intro os
  induction os with
  | nil =>
    intro vs vals _ h1 h2 _ _ H k hk
    cases k with
    | zero => omega
    | succ k => exact br_t (by decide) (H vals h1 h2)
  | cons o os ih =>
    intro vs vals hok h1 h2 hl1 hl2 H k hk
    rw [List.length_cons] at hk hl1
    have ho := hok o (List.mem_cons_self ..)
    cases k with
    | zero => omega
    | succ k =>
      have e1 : nI (o :: os).length - 1 = nI os.length := nI_pred os.length
      refine br_f (nI_nle (by rw [List.length_cons]; omega) (by rw [List.length_cons]; omega)) ?_
      rw [e1]
      refine And.intro (vp_in_nI (by omega) (by omega)) (nm_r (e' := nI o) (by rw [nI_clamp (by omega)]; exact h1.1) ?_)
      have hlv := ex_lv_le o
      rw [← xp_cs ho.1]
      refine xh_lev ho.2 (pk_lt (ex_lv o) m (fun h => ?_) (fun h => ?_) rfl rfl (by omega) (by omega))
      · rw [ex_rd_h h] at H
        exact H vals h1 h2
      · have hstop : ∀ vs, vs.length < 2 → ex_rd m (o :: os) vs = (o :: os, vs) := by
          intro vs hv
          match vs with
          | [] => rfl
          | [_] => rfl
          | _ :: _ :: _ => simp only [List.length_cons] at hv; omega
        match vs with
        | [] => rw [hstop [] (by decide)] at H; exact br_f (by decide) (H vals h1 h2)
        | [a] => rw [hstop [a] (by simp only [List.length_cons, List.length_nil]; omega)] at H; exact br_f (show ¬ (2 : Int32) ≤ nI 1 by decide) (H vals h1 h2)
        | r :: l :: vs =>
          simp only [List.length_cons] at hl2
          rw [ex_rd_s (by omega)] at H
          have e2 : nI (r :: l :: vs).length - 1 = nI (vs.length + 1) := nI_pred (vs.length + 1)
          have e3 : nI (vs.length + 1) - 1 = nI vs.length := nI_pred vs.length
          refine br_t (nI_le (a := 2) (by simp only [List.length_cons]; omega) (by simp only [List.length_cons]; omega)) (nm_e (nm_r e2 ?_))
          rw [e3]
          refine And.intro (vp_in_nI (by omega) (by omega)) (nm_r (e' := l) (by rw [nI_clamp (by omega)]; exact h2.2.1) (And.intro (vp_in_nI (by omega) (by omega)) (nm_r (e' := r) (by rw [nI_clamp (by omega)]; exact h2.1) ?_)))
          rw [xp_cs ho.1]
          refine xh_ap ho.2 (And.intro (vp_in_nI (by omega) (by omega)) (nm_r (e' := upd vals vs.length (ex_ap o l r)) (by rw [nI_clamp (by omega)]) (nm_r (e' := nI os.length) (pk_m1 os.length) ?_)))
          exact ih (ex_ap o l r :: vs) _ (fun x hx => hok x (List.mem_cons_of_mem _ hx)) h1.2 (sk_I_push h2.2.2) (by omega) (by simp only [List.length_cons]; omega) H k (by omega)
theorem xg_red {post : SX → Prop} {m : Nat} {os : List Nat} {vs : List Int32} (hm : m < 5) (hok : xv_ok os) (h1 : sk_N a_operators os) (h2 : sk_I a_values vs) (hl1 : os.length ≤ 200) (hl2 : vs.length ≤ 200)
    (H : ∀ vals', sk_N a_operators (ex_rd m os vs).1 → sk_I vals' (ex_rd m os vs).2 → post (f_textCap, f_stackCap, f_depthCap, f_ready, f_size, f_stackTop, f_point, f_frameCount, f_symbolTop, f_pos, f_list, f_open, f_errorKind, f_errorPos, nI (ex_rd m os vs).2.length, nI (ex_rd m os vs).1.length, a_text, a_cells, a_stack, a_frames, a_listOf, a_listEnd, a_owner, a_stmtEnd, a_stmtBegin, a_firstA, a_firstB, a_opAt, a_procFirst, a_inverse, a_invFirst, a_invBegin, a_symbols, vals', a_operators)) : wpX_reduce post (f_textCap, f_stackCap, f_depthCap, f_ready, f_size, f_stackTop, f_point, f_frameCount, f_symbolTop, f_pos, f_list, f_open, f_errorKind, f_errorPos, nI vs.length, nI os.length, a_text, a_cells, a_stack, a_frames, a_listOf, a_listEnd, a_owner, a_stmtEnd, a_stmtBegin, a_firstA, a_firstB, a_opAt, a_procFirst, a_inverse, a_invFirst, a_invBegin, a_symbols, a_values, a_operators) (nI m) := by
  unfold wpX_reduce
  exact ⟨os.length + 1, xg_5 hm os vs a_values hok h1 h2 hl1 hl2 H _ (by omega)⟩
theorem xg_pv {post : SX → Prop} {vs : List Int32} {v : Int32} (h2 : sk_I a_values vs) (hl : vs.length < 200) (H : ∀ vals', sk_I vals' (v :: vs) → post (f_textCap, f_stackCap, f_depthCap, f_ready, f_size, f_stackTop, f_point, f_frameCount, f_symbolTop, f_pos, f_list, f_open, f_errorKind, f_errorPos, nI (v :: vs).length, f_operatorTop, a_text, a_cells, a_stack, a_frames, a_listOf, a_listEnd, a_owner, a_stmtEnd, a_stmtBegin, a_firstA, a_firstB, a_opAt, a_procFirst, a_inverse, a_invFirst, a_invBegin, a_symbols, vals', a_operators)) : wpX_pushValue post (f_textCap, f_stackCap, f_depthCap, f_ready, f_size, f_stackTop, f_point, f_frameCount, f_symbolTop, f_pos, f_list, f_open, f_errorKind, f_errorPos, nI vs.length, f_operatorTop, a_text, a_cells, a_stack, a_frames, a_listOf, a_listEnd, a_owner, a_stmtEnd, a_stmtBegin, a_firstA, a_firstB, a_opAt, a_procFirst, a_inverse, a_invFirst, a_invBegin, a_symbols, a_values, a_operators) v := by
  refine pk_le 200 vs.length (fun h => by omega) (fun _ => And.intro (vp_in_nI hl (by omega)) (nm_e (nm_r (nI_1 _) (H _ ?_)))) rfl rfl (by omega) (by omega)
  rw [nI_clamp (by omega)]
  exact sk_I_push h2
theorem xg_po {post : SX → Prop} {os : List Nat} {o : Nat} (h1 : sk_N a_operators os) (hl : os.length < 200) (H : ∀ ops', sk_N ops' (o :: os) → post (f_textCap, f_stackCap, f_depthCap, f_ready, f_size, f_stackTop, f_point, f_frameCount, f_symbolTop, f_pos, f_list, f_open, f_errorKind, f_errorPos, f_valueTop, nI (o :: os).length, a_text, a_cells, a_stack, a_frames, a_listOf, a_listEnd, a_owner, a_stmtEnd, a_stmtBegin, a_firstA, a_firstB, a_opAt, a_procFirst, a_inverse, a_invFirst, a_invBegin, a_symbols, a_values, ops')) : wpX_pushOperator post (f_textCap, f_stackCap, f_depthCap, f_ready, f_size, f_stackTop, f_point, f_frameCount, f_symbolTop, f_pos, f_list, f_open, f_errorKind, f_errorPos, f_valueTop, nI os.length, a_text, a_cells, a_stack, a_frames, a_listOf, a_listEnd, a_owner, a_stmtEnd, a_stmtBegin, a_firstA, a_firstB, a_opAt, a_procFirst, a_inverse, a_invFirst, a_invBegin, a_symbols, a_values, a_operators) (nI o) := by
  refine pk_le 200 os.length (fun h => by omega) (fun _ => And.intro (vp_in_nI hl (by omega)) (nm_e (nm_r (nI_1 _) (H _ ?_)))) rfl rfl (by omega) (by omega)
  rw [nI_clamp (by omega)]
  exact sk_N_push h1
theorem xg_ix (x : Int32) : vp_in (8 + (x &&& 7)) 16 := by
  obtain ⟨j, hj, e⟩ := pk_andE x (m := 7) 3 (by decide)
  rw [e]
  have e2 : (8 : Int32) + nI j = nI (8 + j) := nI_add 8 j
  rw [e2]
  exact vp_in_nI (by omega) (by omega)
/-- a closing bracket -/
theorem xg_cl {Q : Int32 → SX → Prop} {os : List Nat} {vs : List Int32} (hok : xv_ok os) (h1 : sk_N a_operators os) (h2 : sk_I a_values vs) (hl1 : os.length ≤ 200) (hl2 : vs.length ≤ 200)
    {o : Nat} {os' : List Nat} {v : Int32} {vs' : List Int32} (e : ex_rd 1 os vs = (o :: os', v :: vs'))
    (H : ∀ vals', sk_N a_operators os' → sk_I vals' ((if o = 91 then ex_ix a_cells v else v) :: vs') → Q 1 (f_textCap, f_stackCap, f_depthCap, f_ready, f_size, f_stackTop, f_point, f_frameCount, f_symbolTop, f_pos, f_list, f_open, f_errorKind, f_errorPos, nI ((if o = 91 then ex_ix a_cells v else v) :: vs').length, nI os'.length, a_text, a_cells, a_stack, a_frames, a_listOf, a_listEnd, a_owner, a_stmtEnd, a_stmtBegin, a_firstA, a_firstB, a_opAt, a_procFirst, a_inverse, a_invFirst, a_invBegin, a_symbols, vals', a_operators)) : wpX_closeBracket Q (f_textCap, f_stackCap, f_depthCap, f_ready, f_size, f_stackTop, f_point, f_frameCount, f_symbolTop, f_pos, f_list, f_open, f_errorKind, f_errorPos, nI vs.length, nI os.length, a_text, a_cells, a_stack, a_frames, a_listOf, a_listEnd, a_owner, a_stmtEnd, a_stmtBegin, a_firstA, a_firstB, a_opAt, a_procFirst, a_inverse, a_invFirst, a_invBegin, a_symbols, a_values, a_operators) := by
  have hlen := ex_rd_len 1 os vs
  have hok' := xv_rd (m := 1) (vs := vs) hok
  rw [e] at hlen hok'
  simp only [List.length_cons] at hlen
  have ho := hok' o (List.mem_cons_self ..)
  unfold wpX_closeBracket
  refine xg_red (m := 1) (by omega) hok h1 h2 hl1 hl2 (fun vals' g1 g2 => ?_)
  rw [e] at g1 g2 ⊢
  have e1 : nI (o :: os').length - 1 = nI os'.length := nI_pred os'.length
  refine br_f (nI_ne0 (by rw [List.length_cons]; omega) (by rw [List.length_cons]; omega)) (nm_r e1 (And.intro (vp_in_nI (by omega) (by omega)) ?_))
  rw [nI_clamp (by omega), g1.1]
  refine pk_eq o 91 (fun e91 => br_f (nI_nle (by rw [List.length_cons]; omega) (by rw [List.length_cons]; omega)) ?_) (fun e91 => ?_) rfl rfl (by omega) (by omega)
  · have e2 : nI (v :: vs').length - 1 = nI vs'.length := nI_pred vs'.length
    show vp_in (nI (v :: vs').length - 1) 200 ∧ _
    rw [e2]
    refine And.intro (vp_in_nI (by omega) (by omega)) (nm_r (e' := v &&& 7) (by rw [nI_clamp (by omega), g2.1]) (And.intro (xg_ix v) (And.intro (vp_in_nI (by omega) (by omega)) (nm_r (e' := upd vals' vs'.length (ex_ix a_cells v)) (by rw [nI_clamp (by omega)]; rfl) ?_))))
    rw [if_pos e91] at H
    exact H _ g1.2 (sk_I_push g2.2)
  · rw [if_neg e91] at H
    exact H vals' g1.2 g2
/-- one token fed -/
theorem xg_fd {Q : Int32 → SX → Prop} {os os' : List Nat} {vs vs' : List Int32} {c : Nat} (hc : c < 127) (hok : xv_ok os) (h1 : sk_N a_operators os) (h2 : sk_I a_values vs) (hl : os.length + vs.length < 200)
    (e : ex_fd a_cells (ex_tk a_cells c) os vs = some (os', vs'))
    (H : ∀ ops' vals', sk_N ops' os' → sk_I vals' vs' → Q 1 (f_textCap, f_stackCap, f_depthCap, f_ready, f_size, f_stackTop, f_point, f_frameCount, f_symbolTop, f_pos, f_list, f_open, f_errorKind, f_errorPos, nI vs'.length, nI os'.length, a_text, a_cells, a_stack, a_frames, a_listOf, a_listEnd, a_owner, a_stmtEnd, a_stmtBegin, a_firstA, a_firstB, a_opAt, a_procFirst, a_inverse, a_invFirst, a_invBegin, a_symbols, vals', ops')) : wpX_feed Q (f_textCap, f_stackCap, f_depthCap, f_ready, f_size, f_stackTop, f_point, f_frameCount, f_symbolTop, f_pos, f_list, f_open, f_errorKind, f_errorPos, nI vs.length, nI os.length, a_text, a_cells, a_stack, a_frames, a_listOf, a_listEnd, a_owner, a_stmtEnd, a_stmtBegin, a_firstA, a_firstB, a_opAt, a_procFirst, a_inverse, a_invFirst, a_invBegin, a_symbols, a_values, a_operators) (nI c) := by
  have e' : ex_fd a_cells (c, if 97 ≤ c ∧ c ≤ 104 then a_cells (c - 97) else nI c - 48) os vs = some (os', vs') := e
  unfold ex_fd at e'
  dsimp only at e'
  have hc0 : c ≠ 0 := by
    intro h
    subst h
    simp [ex_lv] at e'
  rw [← xp_cs hc0]
  unfold wpX_feed
  refine xh_dig hc (fun hd => br_f (by decide) ?_) (fun hd => br_t rfl (xh_var hc (fun hv => br_f (by decide) ?_) (fun hv => br_t rfl ?_)))
  · rw [if_pos (Or.inl hd), if_neg (by omega)] at e'
    cases e'
    rw [xp_cs hc0]
    exact xg_pv h2 (by omega) (fun vals' g => H a_operators vals' h1 g)
  · unfold gr_vr at hv
    rw [if_pos (Or.inr hv), if_pos hv] at e'
    cases e'
    have e97 : xp_c c - 97 = nI (c - 97) := by
      rw [xp_cs hc0]; exact pk_sub (a := c) (b := 97) hv.1
    rw [e97, nI_clamp (by omega)]
    exact And.intro (vp_in_nI (by omega) (by omega)) (xg_pv h2 (by omega) (fun vals' g => H a_operators vals' h1 g))
  · unfold gr_vr at hv
    rw [if_neg (by omega)] at e'
    have h53 : (c = 40 ∨ c = 91) → wX_feed_53 Q (xp_c c) f_textCap f_stackCap f_depthCap f_ready f_size f_stackTop f_point f_frameCount f_symbolTop f_pos f_list f_open f_errorKind f_errorPos (nI vs.length) (nI os.length) a_text a_cells a_stack a_frames a_listOf a_listEnd a_owner a_stmtEnd a_stmtBegin a_firstA a_firstB a_opAt a_procFirst a_inverse a_invFirst a_invBegin a_symbols a_values a_operators := by
      intro h
      rw [if_pos h] at e'
      cases e'
      unfold wX_feed_53
      rw [xp_cs hc0]
      exact xg_po h1 (by omega) (fun ops' g => H ops' a_values g h2)
    have h72 : (c = 41 ∨ c = 93) → wX_feed_72 Q f_textCap f_stackCap f_depthCap f_ready f_size f_stackTop f_point f_frameCount f_symbolTop f_pos f_list f_open f_errorKind f_errorPos (nI vs.length) (nI os.length) a_text a_cells a_stack a_frames a_listOf a_listEnd a_owner a_stmtEnd a_stmtBegin a_firstA a_firstB a_opAt a_procFirst a_inverse a_invFirst a_invBegin a_symbols a_values a_operators := by
      intro h
      rw [if_neg (by omega), if_pos h] at e'
      unfold wX_feed_72
      cases hrd : ex_rd 1 os vs with
      | mk a b =>
        rw [hrd] at e'
        match a, b, e' with
        | [], _, e' => cases e'
        | _ :: _, [], e' => cases e'
        | o :: os2, v :: vs2, e' =>
          have e2 : (os2, (if o = 91 then ex_ix a_cells v else v) :: vs2) = (os', vs') := Option.some.inj e'
          obtain ⟨rfl, rfl⟩ := Prod.mk.inj e2
          exact xg_cl hok h1 h2 (by omega) (by omega) hrd (fun vals' g1 g2 => And.intro narrow_b1 (H a_operators vals' g1 g2))
    refine xp_eq 40 hc (fun h => h53 (Or.inl h)) (fun n40 => xp_eq 91 hc (fun h => h53 (Or.inr h)) (fun n91 => xp_eq 41 hc (fun h => h72 (Or.inl h)) (fun n41 => xp_eq 93 hc (fun h => h72 (Or.inr h)) (fun n93 => ?_))))
    rw [if_neg (by omega), if_neg (by omega)] at e'
    have hlv := ex_lv_le c
    refine xh_lev hc (pk_eq (ex_lv c) 0 (fun h => ?_) (fun h => ?_) rfl rfl (by omega) (by omega))
    · rw [if_pos h] at e'; cases e'
    · rw [if_neg h] at e'
      have e2 := Prod.mk.inj (Option.some.inj e')
      obtain ⟨rfl, rfl⟩ := e2
      have hlen := ex_rd_len (ex_lv c) os vs
      refine xg_red (by omega) hok h1 h2 (by omega) (by omega) (fun vals' g1 g2 => ?_)
      rw [xp_cs hc0]
      exact xg_po g1 (by omega) (fun ops' g => H ops' vals' g g2)
theorem ex_fd_len {cl : Nat → Int32} {q : Nat × Int32} {os os' : List Nat} {vs vs' : List Int32} (e : ex_fd cl q os vs = some (os', vs')) : os'.length + vs'.length ≤ os.length + vs.length + 1 := by
  unfold ex_fd at e
  split at e
  · cases e; simp only [List.length_cons]; omega
  · split at e
    · cases e; simp only [List.length_cons]; omega
    · split at e
      · have := ex_rd_len 1 os vs
        cases hrd : ex_rd 1 os vs with
        | mk a b =>
          rw [hrd] at e this
          match a, b, e with
          | [], _, e => cases e
          | _ :: _, [], e => cases e
          | o :: os2, v :: vs2, e =>
            have e2 := Prod.mk.inj (Option.some.inj e)
            obtain ⟨rfl, rfl⟩ := e2
            simp only [List.length_cons] at this ⊢
            omega
      · split at e
        · cases e
        · have := ex_rd_len (ex_lv q.1) os vs
          cases e
          simp only [List.length_cons]; omega
theorem ex_fd_ok {cl : Nat → Int32} {q : Nat × Int32} {os os' : List Nat} {vs vs' : List Int32} (hq : q.1 < 127) (hok : xv_ok os) (e : ex_fd cl q os vs = some (os', vs')) : xv_ok os' := by
  unfold ex_fd at e
  split at e
  · cases e; exact hok
  · split at e
    · rename_i h
      cases e
      intro x hx
      rcases List.mem_cons.mp hx with rfl | hx
      · omega
      · exact hok x hx
    · split at e
      · have := xv_rd (m := 1) (vs := vs) hok
        cases hrd : ex_rd 1 os vs with
        | mk a b =>
          rw [hrd] at e this
          match a, b, e with
          | [], _, e => cases e
          | _ :: _, [], e => cases e
          | o :: os2, v :: vs2, e =>
            have e2 := Prod.mk.inj (Option.some.inj e)
            obtain ⟨rfl, rfl⟩ := e2
            exact fun x hx => this x (List.mem_cons_of_mem _ hx)
      · split at e
        · cases e
        · rename_i h
          have := xv_rd (m := ex_lv q.1) (vs := vs) hok
          have h0 := ex_lv_at (k := q.1) (by omega)
          cases e
          intro x hx
          rcases List.mem_cons.mp hx with rfl | hx
          · omega
          · exact this x hx
end
end
section
/-! X: eval -/
section
variable {f_textCap f_stackCap f_depthCap f_ready f_stackTop f_point f_frameCount f_symbolTop f_pos f_list f_open f_errorKind f_errorPos f_valueTop f_operatorTop : Int32} {a_cells a_stack a_frames a_listOf a_listEnd a_owner a_stmtEnd a_stmtBegin a_firstA a_firstB a_opAt a_procFirst a_inverse a_invFirst a_invBegin a_symbols a_values a_operators : Nat → Int32}
variable {t : Nat → Nat} {n : Nat} {post : Int32 → SX → Prop}
theorem xg_run (X : xp_tx t n) : ∀ d i os vs os' vs' ops vals k, i + d ≤ n → ex_fa a_cells ((gr_sg t i (i + d)).map (ex_tk a_cells)) os vs = some (os', vs') → os.length + vs.length + d ≤ 200 → xv_ok os → sk_N ops os → sk_I vals vs →
    (∀ ops vals, sk_N ops os' → sk_I vals vs' → os'.length + vs'.length ≤ os.length + vs.length + d → xv_ok os' → wX_eval_22 post k 1 (nI (i + d)) f_textCap f_stackCap f_depthCap f_ready (nI n) f_stackTop f_point f_frameCount f_symbolTop f_pos f_list f_open f_errorKind f_errorPos (nI vs'.length) (nI os'.length) (fun j => nI (t j)) a_cells a_stack a_frames a_listOf a_listEnd a_owner a_stmtEnd a_stmtBegin a_firstA a_firstB a_opAt a_procFirst a_inverse a_invFirst a_invBegin a_symbols vals ops) →
    wX_eval_22 post (k + d) 1 (nI i) f_textCap f_stackCap f_depthCap f_ready (nI n) f_stackTop f_point f_frameCount f_symbolTop f_pos f_list f_open f_errorKind f_errorPos (nI vs.length) (nI os.length) (fun j => nI (t j)) a_cells a_stack a_frames a_listOf a_listEnd a_owner a_stmtEnd a_stmtBegin a_firstA a_firstB a_opAt a_procFirst a_inverse a_invFirst a_invBegin a_symbols vals ops := by
  have hn := X.1
  intro d
  induction d with
  | zero =>
    intro i os vs os' vs' ops vals k hi e hl hok h1 h2 K
    rw [Nat.add_zero, gr_sg_nil] at e
    cases e
    exact K ops vals h1 h2 (by omega) hok
  | succ d ih =>
    intro i os vs os' vs' ops vals k hi e hl hok h1 h2 K
    rw [gr_sg_cons t (by omega)] at e
    have e' : (ex_fd a_cells (ex_tk a_cells (t i)) os vs).bind (fun s => ex_fa a_cells ((gr_sg t (i + 1) (i + (d + 1))).map (ex_tk a_cells)) s.1 s.2) = some (os', vs') := e
    cases hfd : ex_fd a_cells (ex_tk a_cells (t i)) os vs with
    | none => rw [hfd] at e'; cases e'
    | some s =>
      obtain ⟨os1, vs1⟩ := s
      rw [hfd] at e'
      have e1 : i + (d + 1) = i + 1 + d := by omega
      have e2 : ex_fa a_cells ((gr_sg t (i + 1) (i + 1 + d)).map (ex_tk a_cells)) os1 vs1 = some (os', vs') := by rw [← e1]; exact e'
      have hlen := ex_fd_len hfd
      have hok1 := ex_fd_ok (X.2.2 i) hok hfd
      show wX_eval_22 post ((k + d) + 1) 1 (nI i) _ _ _ _ _ _ _ _ _ _ _ _ _ _ _ _ _ _ _ _ _ _ _ _ _ _ _ _ _ _ _ _ _ _ _
      refine br_f (by decide) (br_f (nI_ge (by omega) (by omega)) (And.intro (vp_in_nI (by omega) (by omega)) ?_))
      show wpX_feed _ _ (nI (t (nI i).toNatClampNeg))
      rw [nI_clamp (by omega)]
      refine xg_fd (X.2.2 i) hok h1 h2 (by omega) hfd (fun ops' vals' g1 g2 => nm_r (nI_1 i) ?_)
      refine ih (i + 1) os1 vs1 os' vs' ops' vals' k (by omega) e2 (by omega) hok1 g1 g2 (fun ops2 vals2 q1 q2 q3 q4 => ?_)
      have := K ops2 vals2 q1 q2 (by omega) q4
      rw [e1] at this
      exact this
theorem xg_51 {v : Int32} {os : List Nat} {vs : List Int32} (hok : xv_ok os) (h1 : sk_N a_operators os) (h2 : sk_I a_values vs) (hl1 : os.length ≤ 200) (hl2 : vs.length ≤ 200) (e : ex_rd 1 os vs = ([], [v])) {f_size : Int32} {a_text : Nat → Int32}
    (H : ∀ f_valueTop f_operatorTop a_values a_operators, post v (f_textCap, f_stackCap, f_depthCap, f_ready, f_size, f_stackTop, f_point, f_frameCount, f_symbolTop, f_pos, f_list, f_open, f_errorKind, f_errorPos, f_valueTop, f_operatorTop, a_text, a_cells, a_stack, a_frames, a_listOf, a_listEnd, a_owner, a_stmtEnd, a_stmtBegin, a_firstA, a_firstB, a_opAt, a_procFirst, a_inverse, a_invFirst, a_invBegin, a_symbols, a_values, a_operators)) : wX_eval_51 post f_textCap f_stackCap f_depthCap f_ready f_size f_stackTop f_point f_frameCount f_symbolTop f_pos f_list f_open f_errorKind f_errorPos (nI vs.length) (nI os.length) a_text a_cells a_stack a_frames a_listOf a_listEnd a_owner a_stmtEnd a_stmtBegin a_firstA a_firstB a_opAt a_procFirst a_inverse a_invFirst a_invBegin a_symbols a_values a_operators := by
  unfold wX_eval_51
  refine xg_red (m := 1) (by omega) hok h1 h2 hl1 hl2 (fun vals' g1 g2 => ?_)
  rw [e] at g1 g2 ⊢
  refine br_f (show ¬ nI 1 ≤ 0 by decide) (And.intro (show vp_in (nI 1 - 1) 200 from vp_in_nI (n := 0) (by omega) (by omega)) ?_)
  have ez : (nI ([v] : List Int32).length - 1).toNatClampNeg = 0 := by
    have : nI ([v] : List Int32).length - 1 = nI 0 := nI_pred 0
    rw [this, nI_clamp (by omega)]
  have e0 : vals' (nI ([v] : List Int32).length - 1).toNatClampNeg = v := by rw [ez]; exact g2.1
  rw [e0]
  exact H _ _ _ _
/-- the expression from x to y, where it is over -/
theorem xg_eval {x y : Nat} {v : Int32} (X : xp_tx t n) (hy : y < n) (hc : t y = 59 ∨ t y = 123 ∨ t y = 93) (hE : ev_E t a_cells x y v)
    (H : ∀ f_valueTop f_operatorTop a_values a_operators, post v (f_textCap, f_stackCap, f_depthCap, f_ready, nI n, f_stackTop, f_point, f_frameCount, f_symbolTop, f_pos, f_list, f_open, f_errorKind, f_errorPos, f_valueTop, f_operatorTop, fun j => nI (t j), a_cells, a_stack, a_frames, a_listOf, a_listEnd, a_owner, a_stmtEnd, a_stmtBegin, a_firstA, a_firstB, a_opAt, a_procFirst, a_inverse, a_invFirst, a_invBegin, a_symbols, a_values, a_operators)) : wpX_eval post (f_textCap, f_stackCap, f_depthCap, f_ready, nI n, f_stackTop, f_point, f_frameCount, f_symbolTop, f_pos, f_list, f_open, f_errorKind, f_errorPos, f_valueTop, f_operatorTop, fun j => nI (t j), a_cells, a_stack, a_frames, a_listOf, a_listEnd, a_owner, a_stmtEnd, a_stmtBegin, a_firstA, a_firstB, a_opAt, a_procFirst, a_inverse, a_invFirst, a_invBegin, a_symbols, a_values, a_operators) (nI x) := by
  have hn := X.1
  obtain ⟨hxy, f, v0, l, hX, rfl⟩ := hE
  obtain ⟨hfa, hl⟩ := (ex_X_fa a_cells f).2 _ v0 l [] [] hX
  have hgs := ex_gs_fl (O := []) (V := []) (Or.inl rfl) l v0 hl
  unfold wpX_eval
  refine br_f (nI_pos (by omega)) ⟨2 + (y - x), ?_⟩
  have e1 : x + (y - x) = y := by omega
  refine xg_run X (y - x) x [] [] (ex_gs l [] [v0]).1 (ex_gs l [] [v0]).2 a_operators a_values 2 (by omega) (by rw [e1]; exact hfa) (by simp only [List.length_nil]; omega) (fun o ho => absurd ho List.not_mem_nil) trivial trivial (fun ops vals g1 g2 g3 g4 => ?_)
  simp only [List.length_nil] at g3
  rw [e1]
  have h0 : ∀ {ops vals : Nat → Int32} {os : List Nat} {vs : List Int32} {i : Int32}, xv_ok os → sk_N ops os → sk_I vals vs → os.length ≤ 200 → vs.length ≤ 200 → ex_rd 1 os vs = ([], [ex_fl v0 l]) → wX_eval_22 post 1 0 i f_textCap f_stackCap f_depthCap f_ready (nI n) f_stackTop f_point f_frameCount f_symbolTop f_pos f_list f_open f_errorKind f_errorPos (nI vs.length) (nI os.length) (fun j => nI (t j)) a_cells a_stack a_frames a_listOf a_listEnd a_owner a_stmtEnd a_stmtBegin a_firstA a_firstB a_opAt a_procFirst a_inverse a_invFirst a_invBegin a_symbols vals ops :=
    fun q1 q2 q3 q4 q5 q6 => br_t rfl (xg_51 q1 q2 q3 q4 q5 q6 H)
  refine br_f (by decide) (br_f (nI_ge (by omega) (by omega)) (And.intro (vp_in_nI (by omega) (by omega)) ?_))
  show wpX_feed _ _ (nI (t (nI y).toNatClampNeg))
  rw [nI_clamp (by omega)]
  have hty := X.2.2 y
  rw [← xp_cs (c := t y) (by omega)]
  unfold wpX_feed
  refine xh_dig hty (fun hd => by omega) (fun hd => br_t rfl (xh_var hty (fun hv => by unfold gr_vr at hv; omega) (fun hv => br_t rfl ?_)))
  refine xp_eq 40 hty (fun h => by omega) (fun n40 => xp_eq 91 hty (fun h => by omega) (fun n91 => xp_eq 41 hty (fun h => by omega) (fun n41 => xp_eq 93 hty (fun h => ?_) (fun n93 => ?_))))
  · unfold wX_feed_72 wpX_closeBracket
    refine xg_red (m := 1) (by omega) g4 g1 g2 (by omega) (by omega) (fun vals' q1 q2 => ?_)
    rw [hgs] at q1 q2 ⊢
    refine br_t rfl (And.intro narrow_b0 (nm_e ?_))
    exact h0 (os := []) (vs := [ex_fl v0 l]) (fun o ho => absurd ho List.not_mem_nil) q1 q2 (by decide) (show 1 ≤ 200 by decide) rfl
  · have e0 : ex_lv (t y) = 0 := by
      rcases hc with h | h | h
      · rw [h]; rfl
      · rw [h]; rfl
      · exact (n93 h).elim
    refine xh_lev hty ?_
    rw [e0]
    refine br_t rfl (nm_e ?_)
    exact h0 g4 g1 g2 (by omega) (by omega) hgs
end
end
section
/-! Y: expressions in its two arrays -/
/-- the tokens w lie in the arrays from i on -/
def yt_A (K V : Nat → Int32) : Nat → List (Nat × Int32) → Prop
  | _, [] => True
  | i, q :: w => K i = nI q.1 ∧ V i = q.2 ∧ yt_A K V (i + 1) w
theorem yt_A_app {K V : Nat → Int32} : ∀ {w1 w2 : List (Nat × Int32)} {i : Nat}, yt_A K V i (w1 ++ w2) ↔ yt_A K V i w1 ∧ yt_A K V (i + w1.length) w2 := by
  intro w1
  induction w1 with
  | nil => intro w2 i; exact ⟨fun h => ⟨trivial, h⟩, fun h => h.2⟩
  | cons q w1 ih =>
    intro w2 i
    have e : i + (q :: w1).length = i + 1 + w1.length := by rw [List.length_cons]; omega
    rw [e]
    exact ⟨fun ⟨a, b, c⟩ => ⟨⟨a, b, (ih.mp c).1⟩, (ih.mp c).2⟩, fun ⟨⟨a, b, c⟩, d⟩ => ⟨a, b, ih.mpr ⟨c, d⟩⟩⟩
theorem yt_A_co {K V K' V' : Nat → Int32} : ∀ {w : List (Nat × Int32)} {i i' : Nat}, (∀ j, j < w.length → K' (i' + j) = K (i + j) ∧ V' (i' + j) = V (i + j)) → yt_A K V i w → yt_A K' V' i' w := by
  intro w
  induction w with
  | nil => intro i i' _ _; trivial
  | cons q w ih =>
    intro i i' h ⟨a, b, c⟩
    have h0 := h 0 (by rw [List.length_cons]; omega)
    rw [Nat.add_zero, Nat.add_zero] at h0
    refine ⟨h0.1.trans a, h0.2.trans b, ih (fun j hj => ?_) c⟩
    have := h (j + 1) (by rw [List.length_cons]; omega)
    have e1 : i' + 1 + j = i' + (j + 1) := by omega
    have e2 : i + 1 + j = i + (j + 1) := by omega
    rw [e1, e2]; exact this
/-- a chain of operators and values behind a value; a chain with its first value -/
def yt_G (K V : Nat → Int32) : Nat → List (Nat × Int32) → Prop
  | _, [] => True
  | i, (o, w) :: l => K i = nI o ∧ V (i + 1) = w ∧ yt_G K V (i + 2) l
def yt_F (K V : Nat → Int32) : Nat → Int32 → List (Nat × Int32) → Prop
  | p, v, [] => V p = v
  | p, v, (o, w) :: l => V p = v ∧ K (p + 1) = nI o ∧ yt_F K V (p + 2) w l
theorem yt_F_G {K V : Nat → Int32} : ∀ {l : List (Nat × Int32)} {p : Nat} {v : Int32}, yt_F K V p v l → V p = v ∧ yt_G K V (p + 1) l := by
  intro l
  induction l with
  | nil => intro p v h; exact ⟨h, trivial⟩
  | cons q l ih =>
    obtain ⟨o, w⟩ := q
    intro p v ⟨a, b, c⟩
    obtain ⟨d, e⟩ := ih c
    exact ⟨a, b, d, e⟩
theorem yt_F_of {K V : Nat → Int32} : ∀ {l u : List (Nat × Int32)} {p : Nat} {v : Int32}, ex_F u v l → yt_A K V p u → yt_F K V p v l := by
  intro l
  induction l with
  | nil =>
    rintro u p v ⟨k, rfl, _⟩ ⟨_, h, _⟩
    exact h
  | cons q l ih =>
    obtain ⟨o, w⟩ := q
    rintro u p v ⟨k, b, w', rfl, _, _, h⟩ ⟨_, h1, h2, _, h3⟩
    exact ⟨h1, h2, ih h h3⟩
theorem yt_G_co {K V K' V' : Nat → Int32} : ∀ {l : List (Nat × Int32)} {i : Nat}, (∀ j, i ≤ j → K' j = K j ∧ V' j = V j) → yt_G K V i l → yt_G K' V' i l := by
  intro l
  induction l with
  | nil => intro i _ _; trivial
  | cons q l ih =>
    obtain ⟨o, w⟩ := q
    intro i h ⟨a, b, c⟩
    exact ⟨(h i (Nat.le_refl _)).1.trans a, (h (i + 1) (by omega)).2.trans b, ih (fun j hj => h j (by omega)) c⟩
section
variable {g_textLimit g_stackLimit g_depthLimit g_length g_stackSize g_depth g_place g_ready g_top g_errorPos : Int32} {b_text b_cells b_stack b_frames b_wants b_inverse : Nat → Int32}
variable {post : Int32 → SY → Prop} {J : Int32 → Int32 → (Nat → Int32) → (Nat → Int32) → (Nat → Int32) → (Nat → Int32) → (Nat → Int32) → (Nat → Int32) → (Nat → Int32) → (Nat → Int32) → Prop}
theorem yh_ap {post : Int32 → Prop} {b_kinds b_values : Nat → Int32} {o : Nat} {x y : Int32} (ho : o < 127) (hlv : 0 < ex_lv o) (h : post (ex_ap o x y)) : wpY_apply post (g_textLimit, g_stackLimit, g_depthLimit, g_length, g_stackSize, g_depth, g_place, g_ready, g_top, g_errorPos, b_text, b_cells, b_stack, b_frames, b_wants, b_inverse, b_kinds, b_values) (nI o) x y := by
  have hl := ex_lv_at hlv
  unfold wpY_apply
  rcases hl with rfl | rfl | rfl | rfl | rfl | rfl | rfl
  · have e0 : ex_ap 61 x y = if x = y then 1 else 0 := rfl
    rw [e0] at h
    exact yh_lev (by omega) (br_f (by decide) (yh_lev (by omega) (br_f (by decide) (br_t rfl (br_c (fun e => by rw [if_pos e] at h; exact h) (fun e => by rw [if_neg e] at h; exact h))))))
  · have e0 : ex_ap 60 x y = if y ≤ x then 0 else 1 := rfl
    rw [e0] at h
    exact yh_lev (by omega) (br_f (by decide) (yh_lev (by omega) (br_f (by decide) (br_f (by decide) (br_c (fun e => by rw [if_pos e] at h; exact h) (fun e => by rw [if_neg e] at h; exact h))))))
  · exact yh_lev (by omega) (br_f (by decide) (yh_lev (by omega) (br_t rfl (br_t rfl h))))
  · exact yh_lev (by omega) (br_f (by decide) (yh_lev (by omega) (br_t rfl (br_f (by decide) (br_t rfl h)))))
  · exact yh_lev (by omega) (br_f (by decide) (yh_lev (by omega) (br_t rfl (br_f (by decide) (br_f (by decide) h)))))
  · exact yh_lev (by omega) (br_t rfl (br_t rfl h))
  · exact yh_lev (by omega) (br_t rfl (br_f (by decide) h))
/-- the last loop: what stands behind the bracket moves up -/
theorem yw_391 {sz m op cl : Nat} (hoc : op < cl) (hsz : sz ≤ 203) (hm : m < 1000) : ∀ (suf : List (Nat × Int32)) i K V, i + suf.length = sz → cl + 1 ≤ i → yt_A K V i suf →
    (∀ K' V', yt_A K' V' (op + i - cl) suf → (∀ j, j < op + i - cl → K' j = K j ∧ V' j = V j) → J (nI (sz - (cl - op))) (nI (m + 1)) b_text b_cells b_stack b_frames b_wants b_inverse K' V') →
    ∀ k, suf.length < k → wY_value_391 post J (nI sz) (nI m) (nI op) (nI cl) g_textLimit g_stackLimit g_depthLimit g_length g_stackSize g_depth g_place g_ready g_top g_errorPos k (nI i) b_text b_cells b_stack b_frames b_wants b_inverse K V := by
  intro suf
  induction suf with
  | nil =>
    intro i K V hi hc _ H k hk
    cases k with
    | zero => omega
    | succ k =>
      refine br_t (nI_le (by rw [List.length_nil] at hi; omega) (by rw [List.length_nil] at hi; omega)) (nm_r (e' := nI (sz - (cl - op))) ?_ (nm_r (nI_1 m) (H K V trivial (fun _ _ => ⟨rfl, rfl⟩))))
      rw [pk_sub (a := cl) (b := op) (by omega), pk_sub (by omega)]
  | cons q suf ih =>
    intro i K V hi hc hA H k hk
    rw [List.length_cons] at hi hk
    have hA' := hA
    obtain ⟨a1, a2, a3⟩ := hA'
    cases k with
    | zero => omega
    | succ k =>
      have ei : (nI op + nI i) - nI cl = nI (op + i - cl) := by rw [nI_add, pk_sub (by omega)]
      have hv : vp_in (nI i) 204 := vp_in_nI (by omega) (by omega)
      refine br_f (nI_ge (by omega) (by omega)) ?_
      rw [ei]
      have hv2 : vp_in (nI (op + i - cl)) 204 := vp_in_nI (by omega) (by omega)
      refine And.intro hv (And.intro hv2 (nm_r (e' := upd K (op + i - cl) (K i)) (by rw [nI_clamp (by omega), nI_clamp (by omega)]) (And.intro hv (And.intro hv2 (nm_r (e' := upd V (op + i - cl) (V i)) (by rw [nI_clamp (by omega), nI_clamp (by omega)]) (nm_r (nI_1 i) ?_))))))
      have e1 : op + (i + 1) - cl = op + i - cl + 1 := by omega
      refine ih (i + 1) _ _ (by omega) (by omega) (yt_A_co (fun j hj => ⟨pk_un (by omega), pk_un (by omega)⟩) a3) (fun K' V' g1 g2 => H K' V' ?_ (fun j hj => ?_)) k (by omega)
      · rw [e1] at g1 g2
        obtain ⟨c1, c2⟩ := g2 (op + i - cl) (by omega)
        rw [pk_us] at c1 c2
        exact ⟨c1.trans a1, c2.trans a2, g1⟩
      · obtain ⟨c1, c2⟩ := g2 j (by omega)
        rw [pk_un (by omega)] at c1 c2
        exact ⟨c1, c2⟩
/-- one pass -/
theorem yw_212 {J194 : Int32 → Int32 → (Nat → Int32) → (Nat → Int32) → (Nat → Int32) → (Nat → Int32) → (Nat → Int32) → (Nat → Int32) → (Nat → Int32) → (Nat → Int32) → Prop} {x3 x4 x5 x6 : Int32} {e r : Nat} (he : e ≤ 203) (hr : 1 ≤ r ∧ r ≤ 3) : ∀ (l : List (Nat × Int32)) out i K V v, out + 1 ≤ i → V out = v → yt_G K V i l → i + 2 * l.length = e → (∀ q ∈ l, 0 < ex_lv q.1) →
    (∀ K' V', yt_F K' V' out (ex_ps (4 - r) v l).1 (ex_ps (4 - r) v l).2 → (∀ j, j < out ∨ e ≤ j → K' j = K j ∧ V' j = V j) → J194 (nI (out + 2 * (ex_ps (4 - r) v l).2.length + 1)) (nI (r + 1)) b_text b_cells b_stack b_frames b_wants b_inverse K' V') →
    ∀ k, l.length < k → wY_value_212 post J J194 x3 x4 x5 x6 (nI e) (nI r) g_textLimit g_stackLimit g_depthLimit g_length g_stackSize g_depth g_place g_ready g_top g_errorPos k (nI out) (nI i) b_text b_cells b_stack b_frames b_wants b_inverse K V := by
  intro l
  induction l with
  | nil =>
    intro out i K V v ho hv _ hi _ H k hk
    rw [List.length_nil] at hi
    cases k with
    | zero => omega
    | succ k => exact br_t (nI_le (by omega) (by omega)) (nm_r (nI_1 out) (nm_r (nI_1 r) (H K V hv (fun _ _ => ⟨rfl, rfl⟩))))
  | cons q l ih =>
    obtain ⟨o, w⟩ := q
    intro out i K V v ho hv ⟨a1, a2, a3⟩ hi hlv H k hk
    rw [List.length_cons] at hi hk
    have hl0 : 0 < ex_lv o := hlv (o, w) (List.mem_cons_self ..)
    have hll : ∀ q ∈ l, 0 < ex_lv q.1 := fun q hq => hlv q (List.mem_cons_of_mem _ hq)
    have hoc := ex_lv_at hl0
    have ho7 : o < 127 := by omega
    have hlr : (yh_lv o = r ↔ ex_lv o = 4 - r) := by
      have := ex_lv_le o
      unfold yh_lv
      rw [if_neg (by omega)]; omega
    cases k with
    | zero => omega
    | succ k =>
      have ei1 : nI i + 1 = nI (i + 1) := nI_1 i
      have ei2 : nI i + 2 = nI (i + 2) := nI_add i 2
      have hvi : vp_in (nI i) 204 := vp_in_nI (by omega) (by omega)
      have eK : K (nI i).toNatClampNeg = nI o := by rw [nI_clamp (by omega)]; exact a1
      refine br_f (nI_ge (by omega) (by omega)) (And.intro hvi ?_)
      show wpY_level _ _ (K (nI i).toNatClampNeg)
      rw [eK]
      refine yh_lev ho7 (pk_eq (yh_lv o) r (fun e' => ?_) (fun e' => ?_) rfl rfl (by have := yh_lv0 (c := o); omega) (by omega))
      · have hm : ex_lv o = 4 - r := hlr.mp e'
        have ep : ex_ps (4 - r) v ((o, w) :: l) = ex_ps (4 - r) (ex_ap o v w) l := by simp only [ex_ps, if_pos hm]
        rw [ep] at H
        rw [ei1, ei2]
        refine And.intro hvi (And.intro (vp_in_nI (by omega) (by omega)) (And.intro (vp_in_nI (by omega) (by omega)) ?_))
        rw [nI_clamp (n := out) (by omega), nI_clamp (n := i + 1) (by omega), hv, a2]
        refine yh_ap ho7 hl0 (And.intro (vp_in_nI (by omega) (by omega)) (nm_e (nm_e ?_)))
        refine ih out (i + 2) K (upd V out (ex_ap o v w)) (ex_ap o v w) (by omega) pk_us (yt_G_co (fun j hj => ⟨rfl, pk_un (by omega)⟩) a3) (by omega) hll (fun K' V' g1 g2 => H K' V' g1 (fun j hj => ?_)) k (by omega)
        obtain ⟨c1, c2⟩ := g2 j hj
        rw [pk_un (by omega)] at c2
        exact ⟨c1, c2⟩
      · have hm : ¬ ex_lv o = 4 - r := fun z => e' (hlr.mpr z)
        have ep : ex_ps (4 - r) v ((o, w) :: l) = (v, (o, (ex_ps (4 - r) w l).1) :: (ex_ps (4 - r) w l).2) := by simp only [ex_ps, if_neg hm]
        rw [ep] at H
        have eo1 : nI out + 1 = nI (out + 1) := nI_1 out
        have eo2 : nI out + 2 = nI (out + 2) := nI_add out 2
        rw [eo1, eo2, ei1, ei2]
        refine And.intro hvi (And.intro (vp_in_nI (by omega) (by omega)) (nm_r (e' := upd K (out + 1) (nI o)) (by rw [nI_clamp (n := out + 1) (by omega)]) (nm_e (And.intro (vp_in_nI (by omega) (by omega)) (And.intro (vp_in_nI (by omega) (by omega)) (nm_r (e' := upd V (out + 2) w) (by rw [nI_clamp (n := out + 2) (by omega), nI_clamp (n := i + 1) (by omega), a2]) (nm_e ?_)))))))
        refine ih (out + 2) (i + 2) _ _ w (by omega) pk_us (yt_G_co (fun j hj => ⟨pk_un (by omega), pk_un (by omega)⟩) a3) (by omega) hll (fun K' V' g1 g2 => ?_) k (by omega)
        have := H K' V' ?_ (fun j hj => ?_)
        · rw [List.length_cons] at this
          have e2 : out + 2 * ((ex_ps (4 - r) w l).2.length + 1) + 1 = out + 2 + 2 * (ex_ps (4 - r) w l).2.length + 1 := by omega
          rw [e2] at this
          exact this
        · refine ⟨?_, ?_, g1⟩
          · rw [(g2 out (by omega)).2, pk_un (by omega)]; exact hv
          · rw [(g2 (out + 1) (by omega)).1, pk_us]
        · obtain ⟨c1, c2⟩ := g2 j (by omega)
          rw [pk_un (by omega)] at c1
          rw [pk_un (by omega)] at c2
          exact ⟨c1, c2⟩
end
end
section
/-! Y: value -/
section
variable {g_textLimit g_stackLimit g_depthLimit g_length g_stackSize g_depth g_place g_ready g_top g_errorPos : Int32} {b_text b_cells b_stack b_frames b_wants b_inverse : Nat → Int32}
variable {post : Int32 → SY → Prop} {J : Int32 → Int32 → (Nat → Int32) → (Nat → Int32) → (Nat → Int32) → (Nat → Int32) → (Nat → Int32) → (Nat → Int32) → (Nat → Int32) → (Nat → Int32) → Prop}
theorem yw_194s {sz m op cl r e k mm : Nat} (hmm : mm = 4 - r) {l : List (Nat × Int32)} {v : Int32} {K V : Nat → Int32} (hr : 1 ≤ r ∧ r ≤ 3) (hF : yt_F K V (op + 1) v l) (he : e = op + 1 + 2 * l.length + 1) (he2 : e ≤ 203) (hlv : ∀ q ∈ l, 0 < ex_lv q.1)
    (H : ∀ K' V', yt_F K' V' (op + 1) (ex_ps mm v l).1 (ex_ps mm v l).2 → (∀ j, j < op + 1 ∨ e ≤ j → K' j = K j ∧ V' j = V j) → wY_value_194 post J (nI sz) (nI m) (nI op) (nI cl) g_textLimit g_stackLimit g_depthLimit g_length g_stackSize g_depth g_place g_ready g_top g_errorPos k (nI (op + 1 + 2 * (ex_ps mm v l).2.length + 1)) (nI (r + 1)) b_text b_cells b_stack b_frames b_wants b_inverse K' V') :
    wY_value_194 post J (nI sz) (nI m) (nI op) (nI cl) g_textLimit g_stackLimit g_depthLimit g_length g_stackSize g_depth g_place g_ready g_top g_errorPos (k + 1) (nI e) (nI r) b_text b_cells b_stack b_frames b_wants b_inverse K V := by
  subst hmm
  obtain ⟨h1, h2⟩ := yt_F_G hF
  have e2 : nI op + 2 = nI (op + 2) := nI_add op 2
  refine br_f (nI_nlt (a := 3) (by omega) (by omega)) (nm_r (nI_1 op) (nm_r e2 ⟨l.length + 1, ?_⟩))
  exact yw_212 he2 hr l (op + 1) (op + 2) K V v (by omega) h1 h2 (by omega) hlv H _ (by omega)
theorem ex_ps_len (m : Nat) : ∀ (l : List (Nat × Int32)) v, (ex_ps m v l).2.length ≤ l.length := by
  intro l
  induction l with
  | nil => intro v; exact Nat.le_refl _
  | cons q l ih =>
    obtain ⟨o, w⟩ := q
    intro v
    by_cases h : ex_lv o = m
    · have e : ex_ps m v ((o, w) :: l) = ex_ps m (ex_ap o v w) l := by simp only [ex_ps, if_pos h]
      rw [e, List.length_cons]; have := ih (ex_ap o v w); omega
    · have e : ex_ps m v ((o, w) :: l) = (v, (o, (ex_ps m w l).1) :: (ex_ps m w l).2) := by simp only [ex_ps, if_neg h]
      rw [e, List.length_cons, List.length_cons]; have := ih w; omega
/-- one closed bracket replaced by its value -/
theorem yw_red {sz m k k2 : Nat} {b1 b2 v0 x : Int32} {pre u suf l0 : List (Nat × Int32)} {K V : Nat → Int32} (hA : yt_A K V 0 (pre ++ (k, b1) :: (u ++ (k2, b2) :: suf))) (hsz : sz = (pre ++ (k, b1) :: (u ++ (k2, b2) :: suf)).length) (hsz2 : sz ≤ 203) (hm : m < 1000) (hF : ex_F u v0 l0) (hlv : ∀ q ∈ l0, 0 < ex_lv q.1)
    (hx : (k = 40 ∧ k2 = 41 ∧ x = ex_fl v0 l0) ∨ (k = 91 ∧ k2 = 93 ∧ x = ex_ix b_cells (ex_fl v0 l0)))
    (H : ∀ K' V', yt_A K' V' 0 (pre ++ (48, x) :: suf) → J (nI (pre ++ (48, x) :: suf).length) (nI (m + 1)) b_text b_cells b_stack b_frames b_wants b_inverse K' V') :
    wY_value_194 post J (nI sz) (nI m) (nI pre.length) (nI (pre.length + 1 + u.length)) g_textLimit g_stackLimit g_depthLimit g_length g_stackSize g_depth g_place g_ready g_top g_errorPos 4 (nI (pre.length + 1 + u.length)) (nI 1) b_text b_cells b_stack b_frames b_wants b_inverse K V := by
  have hul := ex_F_len _ _ _ hF
  simp only [List.length_append, List.length_cons] at hsz
  obtain ⟨hpre, hk, _, hu'⟩ := yt_A_app.mp hA
  rw [Nat.zero_add] at hk hu'
  obtain ⟨hu, _, _, hsuf⟩ := yt_A_app.mp hu'
  generalize hop : pre.length = op at *
  have hF0 : yt_F K V (op + 1) v0 l0 := yt_F_of hF hu
  have n1 := ex_ps_len 3 l0 v0
  have n2 := ex_ps_len 2 (ex_ps 3 v0 l0).2 (ex_ps 3 v0 l0).1
  have m3 := ex_ps_mem 3 (fun c => 0 < ex_lv c) l0 v0 hlv
  have m2 := ex_ps_mem 2 (fun c => 0 < ex_lv c) (ex_ps 3 v0 l0).2 (ex_ps 3 v0 l0).1 (fun q hq => (m3 q hq).1)
  refine yw_194s (r := 1) (mm := 3) rfl (by omega) hF0 (by omega) (by omega) hlv (fun K1 V1 f1 g1 => ?_)
  refine yw_194s (r := 2) (mm := 2) rfl (by omega) f1 rfl (by omega) (fun q hq => (m3 q hq).1) (fun K2 V2 f2 g2 => ?_)
  refine yw_194s (r := 3) (mm := 1) rfl (by omega) f2 rfl (by omega) (fun q hq => (m2 q hq).1) (fun K3 V3 f3 g3 => ?_)
  have hval : V3 (op + 1) = ex_fl v0 l0 := (yt_F_G f3).1
  have hagr : ∀ j, j < op + 1 ∨ op + 1 + u.length ≤ j → K3 j = K j ∧ V3 j = V j := by
    intro j hj
    obtain ⟨a1, a2⟩ := g1 j hj
    obtain ⟨b1, b2⟩ := g2 j (by omega)
    obtain ⟨c1, c2⟩ := g3 j (by omega)
    exact ⟨c1.trans (b1.trans a1), c2.trans (b2.trans a2)⟩
  have hK3 : K3 op = nI k := (hagr op (by omega)).1.trans hk
  have h375 : wY_value_375 post J (nI sz) (nI m) (nI op) (nI (op + 1 + u.length)) x (nI op) g_textLimit g_stackLimit g_depthLimit g_length g_stackSize g_depth g_place g_ready g_top g_errorPos b_text b_cells b_stack b_frames b_wants b_inverse K3 V3 := by
    unfold wY_value_375
    refine And.intro (vp_in_nI (by omega) (by omega)) (nm_r (e' := upd V3 op x) (by rw [nI_clamp (by omega)]) (And.intro (vp_in_nI (by omega) (by omega)) (nm_r (e' := upd K3 op 48) (by rw [nI_clamp (by omega)]) (nm_r (nI_1 _) ⟨suf.length + 1, ?_⟩))))
    refine yw_391 (by omega) hsz2 hm suf (op + 1 + u.length + 1) _ _ (by omega) (by omega) (yt_A_co (fun j hj => ?_) hsuf) (fun K' V' a1 a2 => ?_) _ (by omega)
    · obtain ⟨c1, c2⟩ := hagr (op + 1 + u.length + 1 + j) (by omega)
      rw [pk_un (by omega), pk_un (by omega)]
      exact ⟨c1, c2⟩
    · have e1 : op + (op + 1 + u.length + 1) - (op + 1 + u.length) = op + 1 := by omega
      rw [e1] at a1 a2
      have e2 : sz - (op + 1 + u.length - op) = (pre ++ (48, x) :: suf).length := by
        simp only [List.length_append, List.length_cons]; omega
      rw [e2]
      refine H K' V' (yt_A_app.mpr ⟨yt_A_co (i := 0) (fun j hj => ?_) hpre, ?_⟩)
      · rw [Nat.zero_add]
        obtain ⟨c1, c2⟩ := a2 j (by omega)
        rw [pk_un (by omega)] at c1 c2
        obtain ⟨d1, d2⟩ := hagr j (by omega)
        exact ⟨c1.trans d1, c2.trans d2⟩
      · rw [Nat.zero_add, hop]
        obtain ⟨c1, c2⟩ := a2 op (by omega)
        rw [pk_us] at c1 c2
        exact ⟨c1, c2, a1⟩
  refine br_t (nI_lt (a := 3) (by omega) (by omega)) (And.intro (vp_in_nI (by omega) (by omega)) ?_)
  rw [nI_clamp (n := op) (by omega), hK3, nI_1, nI_clamp (n := op + 1) (by omega), hval]
  rcases hx with ⟨rfl, rfl, rfl⟩ | ⟨rfl, rfl, rfl⟩
  · exact br_f (by decide) (And.intro (vp_in_nI (by omega) (by omega)) h375)
  · exact br_t rfl (And.intro (vp_in_nI (by omega) (by omega)) (And.intro (xg_ix _) h375))
/-- the search for the first closed bracket: over tokens that close nothing -/
theorem yw_114a {b_kinds b_values : Nat → Int32} {sz m : Nat} (hsz : sz ≤ 203) : ∀ (w : List (Nat × Int32)) i (o : Int32) k, yt_A b_kinds b_values i w → (∀ q ∈ w, ex_nc q.1 ∧ q.1 < 127) → i + w.length < sz →
    (∀ o' : Int32, (w = [] → o' = o) → wY_value_114 post J (nI sz) (nI m) g_textLimit g_stackLimit g_depthLimit g_length g_stackSize g_depth g_place g_ready g_top g_errorPos b_text b_cells b_stack b_frames b_wants b_inverse b_kinds b_values k o' 0 (nI (i + w.length))) → wY_value_114 post J (nI sz) (nI m) g_textLimit g_stackLimit g_depthLimit g_length g_stackSize g_depth g_place g_ready g_top g_errorPos b_text b_cells b_stack b_frames b_wants b_inverse b_kinds b_values (k + w.length) o 0 (nI i) := by
  intro w
  induction w with
  | nil => intro i o k _ _ _ H; exact H o (fun _ => rfl)
  | cons q w ih =>
    intro i o k ⟨a1, a2, a3⟩ hq hi H
    rw [List.length_cons] at hi
    obtain ⟨hnc, hq7⟩ := hq q (List.mem_cons_self ..)
    have hq' : ∀ q ∈ w, ex_nc q.1 ∧ q.1 < 127 := fun q hq2 => hq q (List.mem_cons_of_mem _ hq2)
    have e1 : i + (q :: w).length = i + 1 + w.length := by rw [List.length_cons]; omega
    have hv : vp_in (nI i) 204 := vp_in_nI (by omega) (by omega)
    have next : ∀ o' : Int32, wY_value_114 post J (nI sz) (nI m) g_textLimit g_stackLimit g_depthLimit g_length g_stackSize g_depth g_place g_ready g_top g_errorPos b_text b_cells b_stack b_frames b_wants b_inverse b_kinds b_values (k + w.length) o' 0 (nI (i + 1)) := by
      intro o'
      refine ih (i + 1) o' k a3 hq' (by omega) (fun o2 _ => ?_)
      have := H o2 (fun h => by cases h)
      rw [e1] at this; exact this
    have h153 : ∀ o' : Int32, wY_value_153 post J (wY_value_114 post J (nI sz) (nI m) g_textLimit g_stackLimit g_depthLimit g_length g_stackSize g_depth g_place g_ready g_top g_errorPos b_text b_cells b_stack b_frames b_wants b_inverse b_kinds b_values (k + w.length)) (nI sz) (nI m) o' 0 (nI i) g_textLimit g_stackLimit g_depthLimit g_length g_stackSize g_depth g_place g_ready g_top g_errorPos b_text b_cells b_stack b_frames b_wants b_inverse b_kinds b_values := by
      intro o'
      unfold wY_value_153
      refine And.intro hv ?_
      rw [nI_clamp (n := i) (by omega), a1]
      exact br_f (fun z => hnc.1 ((nI_eq (a := q.1) (b := 41) (by omega) (by omega)).mp z)) (And.intro hv (br_f (fun z => hnc.2 ((nI_eq (a := q.1) (b := 93) (by omega) (by omega)).mp z)) (nm_r (nI_1 i) (next o'))))
    show wY_value_114 post J (nI sz) (nI m) g_textLimit g_stackLimit g_depthLimit g_length g_stackSize g_depth g_place g_ready g_top g_errorPos b_text b_cells b_stack b_frames b_wants b_inverse b_kinds b_values ((k + w.length) + 1) o 0 (nI i)
    refine br_f (nI_ge (by omega) (by omega)) (br_t rfl (And.intro hv ?_))
    rw [nI_clamp (n := i) (by omega), a1]
    refine pk_eq q.1 40 (fun _ => ?_) (fun n40 => And.intro hv (pk_eq q.1 91 (fun _ => ?_) (fun n91 => h153 o) rfl rfl (by omega) (by omega))) rfl rfl (by omega) (by omega)
    · unfold wY_value_149; exact h153 _
    · unfold wY_value_149; exact h153 _
theorem yw_114b {b_kinds b_values : Nat → Int32} {sz m : Nat} (hsz : sz ≤ 203) : ∀ (w : List (Nat × Int32)) i (o : Int32) k, yt_A b_kinds b_values i w → (∀ q ∈ w, ex_nb q.1 ∧ q.1 < 127) → i + w.length < sz →
    wY_value_114 post J (nI sz) (nI m) g_textLimit g_stackLimit g_depthLimit g_length g_stackSize g_depth g_place g_ready g_top g_errorPos b_text b_cells b_stack b_frames b_wants b_inverse b_kinds b_values k o 0 (nI (i + w.length)) → wY_value_114 post J (nI sz) (nI m) g_textLimit g_stackLimit g_depthLimit g_length g_stackSize g_depth g_place g_ready g_top g_errorPos b_text b_cells b_stack b_frames b_wants b_inverse b_kinds b_values (k + w.length) o 0 (nI i) := by
  intro w
  induction w with
  | nil => intro i o k _ _ _ H; exact H
  | cons q w ih =>
    intro i o k ⟨a1, a2, a3⟩ hq hi H
    rw [List.length_cons] at hi
    obtain ⟨hnb, hq7⟩ := hq q (List.mem_cons_self ..)
    have hq' : ∀ q ∈ w, ex_nb q.1 ∧ q.1 < 127 := fun q hq2 => hq q (List.mem_cons_of_mem _ hq2)
    have e1 : i + (q :: w).length = i + 1 + w.length := by rw [List.length_cons]; omega
    rw [e1] at H
    have hv : vp_in (nI i) 204 := vp_in_nI (by omega) (by omega)
    show wY_value_114 post J (nI sz) (nI m) g_textLimit g_stackLimit g_depthLimit g_length g_stackSize g_depth g_place g_ready g_top g_errorPos b_text b_cells b_stack b_frames b_wants b_inverse b_kinds b_values ((k + w.length) + 1) o 0 (nI i)
    refine br_f (nI_ge (by omega) (by omega)) (br_t rfl (And.intro hv ?_))
    rw [nI_clamp (n := i) (by omega), a1]
    refine br_f (fun z => hnb.1 ((nI_eq (a := q.1) (b := 40) (by omega) (by omega)).mp z)) (And.intro hv (br_f (fun z => hnb.2.1 ((nI_eq (a := q.1) (b := 91) (by omega) (by omega)).mp z)) ?_))
    unfold wY_value_153
    refine And.intro hv ?_
    rw [nI_clamp (n := i) (by omega), a1]
    exact br_f (fun z => hnb.2.2.1 ((nI_eq (a := q.1) (b := 41) (by omega) (by omega)).mp z)) (And.intro hv (br_f (fun z => hnb.2.2.2 ((nI_eq (a := q.1) (b := 93) (by omega) (by omega)).mp z)) (nm_r (nI_1 i) (ih (i + 1) o k a3 hq' (by omega) H))))
theorem yw_114 {b_kinds b_values : Nat → Int32} {sz m k k2 : Nat} {b1 b2 v0 : Int32} {pre u suf l0 : List (Nat × Int32)} (hsz : sz ≤ 203) (hA : yt_A b_kinds b_values 0 (pre ++ (k, b1) :: (u ++ (k2, b2) :: suf))) (hl : sz = (pre ++ (k, b1) :: (u ++ (k2, b2) :: suf)).length) (h7 : ∀ q ∈ pre ++ (k, b1) :: (u ++ (k2, b2) :: suf), q.1 < 127)
    (hpre : ∀ q ∈ pre, ex_nc q.1) (hF : ex_F u v0 l0) (hk : (k = 40 ∧ k2 = 41) ∨ (k = 91 ∧ k2 = 93))
    (H : wY_value_194 post J (nI sz) (nI m) (nI pre.length) (nI (pre.length + 1 + u.length)) g_textLimit g_stackLimit g_depthLimit g_length g_stackSize g_depth g_place g_ready g_top g_errorPos 4 (nI (pre.length + 1 + u.length)) (nI 1) b_text b_cells b_stack b_frames b_wants b_inverse b_kinds b_values) :
    ∃ n, wY_value_114 post J (nI sz) (nI m) g_textLimit g_stackLimit g_depthLimit g_length g_stackSize g_depth g_place g_ready g_top g_errorPos b_text b_cells b_stack b_frames b_wants b_inverse b_kinds b_values n 0 0 0 := by
  simp only [List.length_append, List.length_cons] at hl
  obtain ⟨h1, h2, h3, h4⟩ := yt_A_app.mp hA
  rw [Nat.zero_add] at h2 h3 h4
  obtain ⟨h5, h6, _, h8⟩ := yt_A_app.mp h4
  have hnb := ex_F_nb _ _ _ hF
  refine ⟨(2 + u.length) + 1 + pre.length, ?_⟩
  refine yw_114a hsz pre 0 0 ((2 + u.length) + 1) h1 (fun q hq => ⟨hpre q hq, h7 q (List.mem_append.mpr (Or.inl hq))⟩) (by omega) (fun o' _ => ?_)
  rw [Nat.zero_add]
  have hv : vp_in (nI pre.length) 204 := vp_in_nI (by omega) (by omega)
  have hv2 : vp_in (nI (pre.length + 1 + u.length)) 204 := vp_in_nI (by omega) (by omega)
  have hfin : wY_value_114 post J (nI sz) (nI m) g_textLimit g_stackLimit g_depthLimit g_length g_stackSize g_depth g_place g_ready g_top g_errorPos b_text b_cells b_stack b_frames b_wants b_inverse b_kinds b_values 1 (nI pre.length) (nI (pre.length + 1 + u.length)) (nI (pre.length + 1 + u.length + 1)) :=
    br_c (fun _ => ⟨4, H⟩) (fun _ => br_f (nI_ne0 (by omega) (by omega)) ⟨4, H⟩)
  have hclose : wY_value_114 post J (nI sz) (nI m) g_textLimit g_stackLimit g_depthLimit g_length g_stackSize g_depth g_place g_ready g_top g_errorPos b_text b_cells b_stack b_frames b_wants b_inverse b_kinds b_values 2 (nI pre.length) 0 (nI (pre.length + 1 + u.length)) := by
    refine br_f (nI_ge (by omega) (by omega)) (br_t rfl (And.intro hv2 ?_))
    rw [nI_clamp (n := pre.length + 1 + u.length) (by omega), h6]
    refine br_f (fun z => ?_) (And.intro hv2 (br_f (fun z => ?_) ?_))
    · have := (nI_eq (a := k2) (b := 40) (by omega) (by omega)).mp z; omega
    · have := (nI_eq (a := k2) (b := 91) (by omega) (by omega)).mp z; omega
    unfold wY_value_153
    refine And.intro hv2 ?_
    rw [nI_clamp (n := pre.length + 1 + u.length) (by omega), h6]
    exact pk_eq k2 41 (fun _ => nm_r (nI_1 _) hfin) (fun n41 => And.intro hv2 (pk_eq k2 93 (fun _ => nm_r (nI_1 _) hfin) (fun n93 => by omega) rfl rfl (by omega) (by omega))) rfl rfl (by omega) (by omega)
  have hmid : wY_value_114 post J (nI sz) (nI m) g_textLimit g_stackLimit g_depthLimit g_length g_stackSize g_depth g_place g_ready g_top g_errorPos b_text b_cells b_stack b_frames b_wants b_inverse b_kinds b_values (2 + u.length) (nI pre.length) 0 (nI (pre.length + 1)) :=
    yw_114b hsz u (pre.length + 1) (nI pre.length) 2 h5 (fun q hq => ⟨hnb q hq, h7 q (by simp [hq])⟩) (by omega) hclose
  have h153 : wY_value_153 post J (wY_value_114 post J (nI sz) (nI m) g_textLimit g_stackLimit g_depthLimit g_length g_stackSize g_depth g_place g_ready g_top g_errorPos b_text b_cells b_stack b_frames b_wants b_inverse b_kinds b_values (2 + u.length)) (nI sz) (nI m) (nI pre.length) 0 (nI pre.length) g_textLimit g_stackLimit g_depthLimit g_length g_stackSize g_depth g_place g_ready g_top g_errorPos b_text b_cells b_stack b_frames b_wants b_inverse b_kinds b_values := by
    unfold wY_value_153
    refine And.intro hv ?_
    rw [nI_clamp (n := pre.length) (by omega), h2]
    refine br_f (fun z => ?_) (And.intro hv (br_f (fun z => ?_) (nm_r (nI_1 _) hmid)))
    · have := (nI_eq (a := k) (b := 41) (by omega) (by omega)).mp z; omega
    · have := (nI_eq (a := k) (b := 93) (by omega) (by omega)).mp z; omega
  refine br_f (nI_ge (by omega) (by omega)) (br_t rfl (And.intro hv ?_))
  rw [nI_clamp (n := pre.length) (by omega), h2]
  refine pk_eq k 40 (fun _ => ?_) (fun n40 => And.intro hv (pk_eq k 91 (fun _ => ?_) (fun n91 => by omega) rfl rfl (by omega) (by omega))) rfl rfl (by omega) (by omega)
  · unfold wY_value_149; exact h153
  · unfold wY_value_149; exact h153
theorem ex_F_lv : ∀ (l w : List (Nat × Int32)) (v : Int32), ex_F w v l → ∀ q ∈ l, 0 < ex_lv q.1 := by
  intro l
  induction l with
  | nil => intro w v _ q hq; exact absurd hq List.not_mem_nil
  | cons a l ih =>
    obtain ⟨o, v1⟩ := a
    rintro w v ⟨k, b, w', rfl, hk, ho, h⟩ q hq
    rcases List.mem_cons.mp hq with rfl | hq
    · exact ho
    · exact ih w' v1 h q hq
/-- the brackets are replaced until one value is left -/
theorem yw_92 {v : Int32} (H : ∀ b_kinds b_values, post v (g_textLimit, g_stackLimit, g_depthLimit, g_length, g_stackSize, g_depth, g_place, g_ready, g_top, g_errorPos, b_text, b_cells, b_stack, b_frames, b_wants, b_inverse, b_kinds, b_values)) : ∀ (d : Nat) (W : List (Nat × Int32)) (K V : Nat → Int32) (m : Nat), W.length ≤ d → W.length ≤ 203 → m + W.length ≤ 203 → yt_A K V 0 W → (∀ q ∈ W, q.1 < 127) → (∃ g, ex_X b_cells g true W v []) →
    ∀ k, d ≤ k → wY_value_92 post g_textLimit g_stackLimit g_depthLimit g_length g_stackSize g_depth g_place g_ready g_top g_errorPos (k + 1) (nI W.length) (nI m) b_text b_cells b_stack b_frames b_wants b_inverse K V := by
  intro d
  induction d with
  | zero =>
    intro W K V m hW _ _ _ _ ⟨g, hg⟩ k hk
    exfalso
    rcases (ex_redex b_cells g).1 W v [] hg with ⟨kk, rfl, _⟩ | ⟨pre, kk, b1, u, v0, l0, k2, b2, suf, x, rfl, _⟩
    · simp only [List.length_cons] at hW; omega
    · simp only [List.length_append, List.length_cons] at hW; omega
  | succ d ih =>
    intro W K V m hW hW2 hm hA h7 ⟨g, hg⟩ k hk
    rcases (ex_redex b_cells g).1 W v [] hg with ⟨kk, rfl, _⟩ | ⟨pre, kk, b1, u, v0, l0, k2, b2, suf, x, rfl, hF, hpre, hx, hg'⟩
    · have e0 : V 0 = v := hA.2.1
      have hp := H K V
      refine br_c (fun _ => ?_) (fun _ => br_t (show nI 1 ≤ 1 by decide) ?_)
      · rw [e0]; exact hp
      · rw [e0]; exact hp
    · have hul := ex_F_len _ _ _ hF
      have hlen : (pre ++ (48, x) :: suf).length + 2 ≤ (pre ++ (kk, b1) :: (u ++ (k2, b2) :: suf)).length := by
        simp only [List.length_append, List.length_cons]; omega
      obtain ⟨k, rfl⟩ : ∃ k', k = k' + 1 := ⟨k - 1, by omega⟩
      refine br_f (nI_ge (b := 204) (by omega) (by omega)) (br_f (nI_ge (b := (pre ++ (kk, b1) :: (u ++ (k2, b2) :: suf)).length) (a := 1) (by omega) (by omega)) ?_)
      refine yw_114 hW2 hA rfl h7 hpre hF ?_ (yw_red hA rfl hW2 (by omega) hF (ex_F_lv _ _ _ hF) hx (fun K' V' hA' => ?_))
      · rcases hx with ⟨a, b, _⟩ | ⟨a, b, _⟩
        · exact Or.inl ⟨a, b⟩
        · exact Or.inr ⟨a, b⟩
      · refine ih _ K' V' (m + 1) (by omega) (by omega) (by omega) hA' (fun q hq => ?_) hg' k (by omega)
        rcases List.mem_append.mp hq with hq | hq
        · exact h7 q (List.mem_append.mpr (Or.inl hq))
        · rcases List.mem_cons.mp hq with rfl | hq
          · show (48 : Nat) < 127; omega
          · exact h7 q (by simp [hq])
end
section
variable {g_textLimit g_stackLimit g_depthLimit g_length g_stackSize g_depth g_place g_ready g_top g_errorPos : Int32} {b_text b_cells b_stack b_frames b_wants b_inverse b_kinds b_values : Nat → Int32}
variable {post : Int32 → SY → Prop} {t : Nat → Nat} {n : Nat}
theorem yw_13 {v : Int32} {x y : Nat} (X : xp_tx t n) (hy : y ≤ n) (hE : ev_E t b_cells x y v) (H : ∀ b_kinds b_values, post v (g_textLimit, g_stackLimit, g_depthLimit, nI n, g_stackSize, g_depth, g_place, g_ready, g_top, g_errorPos, fun j => nI (t j), b_cells, b_stack, b_frames, b_wants, b_inverse, b_kinds, b_values)) :
    ∀ d i K V, i + d = y → x ≤ i → K 0 = nI 40 → yt_A K V 1 ((gr_sg t x i).map (ex_tk b_cells)) → ∀ k, d < k → wY_value_13 post (nI y) g_textLimit g_stackLimit g_depthLimit (nI n) g_stackSize g_depth g_place g_ready g_top g_errorPos k (nI (1 + (i - x))) (nI i) (fun j => nI (t j)) b_cells b_stack b_frames b_wants b_inverse K V := by
  have hn := X.1
  intro d
  induction d with
  | zero =>
    intro i K V hi hxi hK hA k hk
    have : i = y := by omega
    subst this
    obtain ⟨hxy, f, v0, l, hX, rfl⟩ := hE
    cases k with
    | zero => omega
    | succ k =>
      have hlen : ((gr_sg t x i).map (ex_tk b_cells)).length = i - x := by rw [List.length_map, gr_sg_len]
      refine br_t (nI_le (by omega) (by omega)) (And.intro (vp_in_nI (by omega) (by omega)) (nm_r (e' := upd K (1 + (i - x)) (nI 41)) (by rw [nI_clamp (by omega)]; rfl) (nm_r (nI_1 _) ⟨203 + 1, ?_⟩)))
      have hW : ((40, V 0) :: ((gr_sg t x i).map (ex_tk b_cells) ++ [(41, V (1 + (i - x)))])).length = 1 + (i - x) + 1 := by
        simp only [List.length_cons, List.length_append, hlen, List.length_nil]; omega
      rw [← hW]
      refine yw_92 H 203 ((40, V 0) :: ((gr_sg t x i).map (ex_tk b_cells) ++ [(41, V (1 + (i - x)))])) (upd K (1 + (i - x)) (nI 41)) V 0 (by rw [hW]; omega) (by rw [hW]; omega) (by rw [hW]; omega) ⟨?_, rfl, ?_⟩ ?_ ⟨f + 1, rfl, Or.inr ⟨_, v0, l, V 0, _, hX, Or.inl ⟨rfl, rfl⟩⟩⟩ 203 (Nat.le_refl _)
      · rw [pk_un (by omega)]; exact hK
      · refine yt_A_app.mpr ⟨yt_A_co (fun j hj => ⟨pk_un (by rw [hlen] at hj; omega), rfl⟩) hA, ?_⟩
        rw [hlen]
        exact ⟨pk_us, rfl, trivial⟩
      · intro q hq
        rcases List.mem_cons.mp hq with rfl | hq
        · show (40 : Nat) < 127; omega
        · rcases List.mem_append.mp hq with hq | hq
          · obtain ⟨c, hc, rfl⟩ := List.mem_map.mp hq
            obtain ⟨j, _, _, rfl⟩ := gr_sg_mem.mp hc
            exact X.2.2 j
          · rw [List.mem_singleton.mp hq]; show (41 : Nat) < 127; omega
  | succ d ih =>
    intro i K V hi hxi hK hA k hk
    have hti := X.2.2 i
    cases k with
    | zero => omega
    | succ k =>
      have e1 : 1 + (i - x) + 1 = 1 + (i + 1 - x) := by omega
      have hv : vp_in (nI (1 + (i - x))) 204 := vp_in_nI (by omega) (by omega)
      have hlen : ((gr_sg t x i).map (ex_tk b_cells)).length = i - x := by rw [List.length_map, gr_sg_len]
      have next : ∀ w : Int32, (ex_tk b_cells (t i)).2 = w → wY_value_13 post (nI y) g_textLimit g_stackLimit g_depthLimit (nI n) g_stackSize g_depth g_place g_ready g_top g_errorPos k (nI (1 + (i + 1 - x))) (nI (i + 1)) (fun j => nI (t j)) b_cells b_stack b_frames b_wants b_inverse (upd K (1 + (i - x)) (nI (t i))) (upd V (1 + (i - x)) w) := by
        intro w ew
        refine ih (i + 1) _ _ (by omega) (by omega) (by rw [pk_un (by omega)]; exact hK) ?_ k (by omega)
        rw [gr_sg_app t (y := i) hxi (by omega), gr_sg_one, List.map_append]
        refine yt_A_app.mpr ⟨yt_A_co (fun j hj => ⟨pk_un (by rw [hlen] at hj; omega), pk_un (by rw [hlen] at hj; omega)⟩) hA, ?_⟩
        rw [hlen]
        exact ⟨pk_us, by rw [pk_us, ew], trivial⟩
      refine br_f (nI_ge (by omega) (by omega)) (And.intro (vp_in_nI (by omega) (by omega)) (nm_r (e' := nI (t i)) (by show nI (t (nI i).toNatClampNeg) = _; rw [nI_clamp (by omega)]) (And.intro hv (nm_r (e' := upd K (1 + (i - x)) (nI (t i))) (by rw [nI_clamp (by omega)]) ?_))))
      refine yh_var hti (fun hvr => br_f (by decide) ?_) (fun hvr => br_t rfl (And.intro hv (nm_r (e' := upd V (1 + (i - x)) (nI (t i) - 48)) (by rw [nI_clamp (by omega)]) (nm_r ((nI_1 _).trans (by rw [e1])) (nm_r (nI_1 i) (next _ (if_neg hvr)))))))
      have hv' := hvr
      unfold gr_vr at hv'
      have e97 : nI (t i) - 97 = nI (t i - 97) := pk_sub (a := t i) (b := 97) hv'.1
      rw [e97]
      refine And.intro (vp_in_nI (by omega) (by omega)) (And.intro hv (nm_r (e' := upd V (1 + (i - x)) (b_cells (t i - 97))) (by rw [nI_clamp (n := t i - 97) (by omega), nI_clamp (by omega)]) (nm_r ((nI_1 _).trans (by rw [e1])) (nm_r (nI_1 i) (next _ (if_pos hvr))))))
theorem yw_value {v : Int32} {x y : Nat} (X : xp_tx t n) (hy : y ≤ n) (hE : ev_E t b_cells x y v) (H : ∀ b_kinds b_values, post v (g_textLimit, g_stackLimit, g_depthLimit, nI n, g_stackSize, g_depth, g_place, g_ready, g_top, g_errorPos, fun j => nI (t j), b_cells, b_stack, b_frames, b_wants, b_inverse, b_kinds, b_values)) : wpY_value post (g_textLimit, g_stackLimit, g_depthLimit, nI n, g_stackSize, g_depth, g_place, g_ready, g_top, g_errorPos, fun j => nI (t j), b_cells, b_stack, b_frames, b_wants, b_inverse, b_kinds, b_values) (nI x) (nI y) := by
  have hxy := hE.1
  unfold wpY_value
  refine nm_e ⟨y - x + 1, ?_⟩
  have e : 1 + (x - x) = 1 := by omega
  have := yw_13 X hy hE H (y - x) x (upd b_kinds 0 40) b_values (by omega) (Nat.le_refl _) pk_us (by rw [gr_sg_nil]; trivial) (y - x + 1) (by omega)
  rw [e] at this
  exact this
end
end
section
/-! tests and targets on both sides -/
/-- the cell c that the target from x to o denotes -/
def tg_C (t : Nat → Nat) (cl : Nat → Int32) (x o : Nat) (c : Int32) : Prop := (o = x + 1 ∧ gr_vr (t x) ∧ c = nI (t x - 97)) ∨ (t x = 91 ∧ ∃ y v, o = y + 1 ∧ t y = 93 ∧ ev_E t cl (x + 1) y v ∧ c = 8 + (v &&& 7))
theorem tg_of {t : Nat → Nat} {x o : Nat} (cl : Nat → Int32) (h : gr_T t x o) : ∃ c, tg_C t cl x o c := by
  rcases h with ⟨rfl, hv⟩ | ⟨y', rfl, hx, hy, hE⟩
  · exact ⟨_, Or.inl ⟨rfl, hv, rfl⟩⟩
  · obtain ⟨v, hv⟩ := ev_of cl hE
    exact ⟨_, Or.inr ⟨hx, y', v, rfl, hy, hv, rfl⟩⟩
theorem tg_in {t : Nat → Nat} {cl : Nat → Int32} {x o : Nat} {c : Int32} (h : tg_C t cl x o c) : vp_in c 16 := by
  rcases h with ⟨_, hv, rfl⟩ | ⟨_, y, v, _, _, _, rfl⟩
  · unfold gr_vr at hv; exact vp_in_nI (by omega) (by omega)
  · exact xg_ix v
def tg_b (v : Int32) : Int32 := if v = 0 then 0 else 1
theorem tg_b01 (v : Int32) : tg_b v = 0 ∨ tg_b v = 1 := by
  unfold tg_b; split
  · exact Or.inl rfl
  · exact Or.inr rfl
section
variable {f_textCap f_stackCap f_depthCap f_ready f_stackTop f_point f_frameCount f_symbolTop f_pos f_list f_open f_errorKind f_errorPos f_valueTop f_operatorTop : Int32} {a_cells a_stack a_frames a_procFirst a_inverse a_invFirst a_invBegin a_symbols a_values a_operators : Nat → Int32}
variable {t : Nat → Nat} {n : Nat} {post : Int32 → SX → Prop} {T : Nat → Nat → Int32}
/-- the state with its tables bundled: only scratch differs behind an evaluation -/
theorem xs_targ {x o : Nat} {c : Int32} (X : xp_tx t n) (ho : o ≤ n) (hT : gr_T t x o) (hc : tg_C t a_cells x o c) {a_listOf a_listEnd a_owner a_stmtEnd a_stmtBegin a_firstA a_firstB a_opAt : Nat → Int32}
    (H : ∀ f_valueTop f_operatorTop a_values a_operators, post c (f_textCap, f_stackCap, f_depthCap, f_ready, nI n, f_stackTop, f_point, f_frameCount, f_symbolTop, f_pos, f_list, f_open, f_errorKind, f_errorPos, f_valueTop, f_operatorTop, fun j => nI (t j), a_cells, a_stack, a_frames, a_listOf, a_listEnd, a_owner, a_stmtEnd, a_stmtBegin, a_firstA, a_firstB, a_opAt, a_procFirst, a_inverse, a_invFirst, a_invBegin, a_symbols, a_values, a_operators)) : wpX_targetCell post (f_textCap, f_stackCap, f_depthCap, f_ready, nI n, f_stackTop, f_point, f_frameCount, f_symbolTop, f_pos, f_list, f_open, f_errorKind, f_errorPos, f_valueTop, f_operatorTop, fun j => nI (t j), a_cells, a_stack, a_frames, a_listOf, a_listEnd, a_owner, a_stmtEnd, a_stmtBegin, a_firstA, a_firstB, a_opAt, a_procFirst, a_inverse, a_invFirst, a_invBegin, a_symbols, a_values, a_operators) (nI x) := by
  have hn := X.1
  have hlt := gr_T_lt hT
  unfold wpX_targetCell
  refine xh_char hn (by omega) X.2.1 ?_
  rw [gr_ch_n (by omega)]
  refine xh_var (X.2.2 x) (fun hv => br_f (by decide) ?_) (fun hv => br_t rfl ?_)
  · have hv' := hv
    unfold gr_vr at hv'
    rcases hc with ⟨_, _, rfl⟩ | ⟨h, _⟩
    · rw [xp_cs (by omega)]
      have e : nI (t x) - 97 = nI (t x - 97) := pk_sub (a := t x) (b := 97) hv'.1
      rw [e]; exact H _ _ _ _
    · omega
  · rcases hc with ⟨_, h, _⟩ | ⟨h, y, v, rfl, hy, hE, rfl⟩
    · exact (hv h).elim
    · rw [nI_1]
      exact xg_eval X (by omega) (Or.inr (Or.inr hy)) hE (fun a b c d => H a b c d)
theorem xs_test1 {s a : Nat} {v : Int32} (X : xp_tx t n) (ha : a < n) (h123 : t a = 123) (hE : ev_E t a_cells (s + 1) a v) {a_listOf a_listEnd a_owner a_stmtEnd a_stmtBegin a_firstA a_firstB a_opAt : Nat → Int32}
    (H : ∀ f_valueTop f_operatorTop a_values a_operators, post (tg_b v) (f_textCap, f_stackCap, f_depthCap, f_ready, nI n, f_stackTop, f_point, f_frameCount, f_symbolTop, f_pos, f_list, f_open, f_errorKind, f_errorPos, f_valueTop, f_operatorTop, fun j => nI (t j), a_cells, a_stack, a_frames, a_listOf, a_listEnd, a_owner, a_stmtEnd, a_stmtBegin, a_firstA, a_firstB, a_opAt, a_procFirst, a_inverse, a_invFirst, a_invBegin, a_symbols, a_values, a_operators)) : wpX_test post (f_textCap, f_stackCap, f_depthCap, f_ready, nI n, f_stackTop, f_point, f_frameCount, f_symbolTop, f_pos, f_list, f_open, f_errorKind, f_errorPos, f_valueTop, f_operatorTop, fun j => nI (t j), a_cells, a_stack, a_frames, a_listOf, a_listEnd, a_owner, a_stmtEnd, a_stmtBegin, a_firstA, a_firstB, a_opAt, a_procFirst, a_inverse, a_invFirst, a_invBegin, a_symbols, a_values, a_operators) (nI s) 0 := by
  unfold wpX_test
  refine br_t rfl ?_
  unfold wX_test_23
  rw [nI_1]
  refine xg_eval X ha (Or.inr (Or.inl h123)) hE (fun b c d e => ?_)
  have := H b c d e
  unfold tg_b at this
  exact br_c (fun z => by rw [if_pos z] at this; exact this) (fun z => by rw [if_neg z] at this; exact this)
theorem xs_test2 {s b eb q : Nat} {v : Int32} (X : xp_tx t n) (hs : s < n) (hb : b ≤ n) (hq : q < n) (h59 : t q = 59) (hE : ev_E t a_cells (eb + 1) q v) {a_listOf a_listEnd a_owner a_stmtEnd a_stmtBegin a_firstA a_firstB a_opAt : Nat → Int32} (e1 : a_firstB s = nI b) (e2 : a_listEnd b = nI eb)
    (H : ∀ f_valueTop f_operatorTop a_values a_operators, post (tg_b v) (f_textCap, f_stackCap, f_depthCap, f_ready, nI n, f_stackTop, f_point, f_frameCount, f_symbolTop, f_pos, f_list, f_open, f_errorKind, f_errorPos, f_valueTop, f_operatorTop, fun j => nI (t j), a_cells, a_stack, a_frames, a_listOf, a_listEnd, a_owner, a_stmtEnd, a_stmtBegin, a_firstA, a_firstB, a_opAt, a_procFirst, a_inverse, a_invFirst, a_invBegin, a_symbols, a_values, a_operators)) : wpX_test post (f_textCap, f_stackCap, f_depthCap, f_ready, nI n, f_stackTop, f_point, f_frameCount, f_symbolTop, f_pos, f_list, f_open, f_errorKind, f_errorPos, f_valueTop, f_operatorTop, fun j => nI (t j), a_cells, a_stack, a_frames, a_listOf, a_listEnd, a_owner, a_stmtEnd, a_stmtBegin, a_firstA, a_firstB, a_opAt, a_procFirst, a_inverse, a_invFirst, a_invBegin, a_symbols, a_values, a_operators) (nI s) 1 := by
  have hn := X.1
  unfold wpX_test
  refine br_f (by decide) (And.intro (vp_in_nI (by omega) (by omega)) ?_)
  rw [nI_clamp (n := s) (by omega), e1]
  refine And.intro (vp_in_nI (by omega) (by omega)) ?_
  rw [nI_clamp (n := b) (by omega), e2, nI_1]
  unfold wX_test_23
  refine xg_eval X hq (Or.inl h59) hE (fun b c d e => ?_)
  have := H b c d e
  unfold tg_b at this
  exact br_c (fun z => by rw [if_pos z] at this; exact this) (fun z => by rw [if_neg z] at this; exact this)
end
section
variable {g_textLimit g_stackLimit g_depthLimit g_length g_stackSize g_depth g_place g_ready g_top g_errorPos : Int32} {b_text b_cells b_stack b_frames b_wants b_inverse b_kinds b_values : Nat → Int32}
variable {t : Nat → Nat} {n : Nat} {post : Int32 → SY → Prop}
theorem ys_targ {x o : Nat} {c : Int32} (X : xp_tx t n) (ho : o ≤ n) (hT : gr_T t x o) (hc : tg_C t b_cells x o c)
    (H : ∀ b_kinds b_values, post c (g_textLimit, g_stackLimit, g_depthLimit, nI n, g_stackSize, g_depth, g_place, g_ready, g_top, g_errorPos, fun j => nI (t j), b_cells, b_stack, b_frames, b_wants, b_inverse, b_kinds, b_values)) : wpY_target post (g_textLimit, g_stackLimit, g_depthLimit, nI n, g_stackSize, g_depth, g_place, g_ready, g_top, g_errorPos, fun j => nI (t j), b_cells, b_stack, b_frames, b_wants, b_inverse, b_kinds, b_values) (nI x) := by
  have hn := X.1
  have hlt := gr_T_lt hT
  have hsr := gr_T_sr hT
  have htx := X.2.2 x
  unfold wpY_target
  refine And.intro (vp_in_nI (by omega) (by omega)) ?_
  show (nI (t (nI x).toNatClampNeg) = 91 → _) ∧ (¬ nI (t (nI x).toNatClampNeg) = 91 → _)
  rw [nI_clamp (by omega)]
  refine pk_eq (t x) 91 (fun e => ?_) (fun e => And.intro (vp_in_nI (by omega) (by omega)) ?_) rfl rfl (by omega) (by omega)
  · refine ys_te X (by omega) (fun _ => by omega) ?_
    rw [sc_Te_val hT ho]
    rcases hc with ⟨_, h, _⟩ | ⟨_, y, v, rfl, hy, hE, rfl⟩
    · unfold gr_vr at h; omega
    · have e1 : nI (y + 1) - 1 = nI y := nI_pred y
      rw [e1, nI_1]
      exact yw_value X (by omega) hE (fun a b => H a b)
  · rcases hc with ⟨_, hv, rfl⟩ | ⟨h, _⟩
    · unfold gr_vr at hv
      have e1 : nI (t x) - 97 = nI (t x - 97) := pk_sub (a := t x) (b := 97) hv.1
      rw [e1]; exact H _ _
    · exact (e h).elim
theorem ys_28 {x y c : Nat} {v : Int32} {C : Int32} (X : xp_tx t n) (hy : y < n) (hc : c < 127) (hC : C = nI c) (hty : t y = c) (hno : ∀ i, x ≤ i → i < y → t i ≠ c) (hE : ev_E t b_cells x y v)
    (H : ∀ b_kinds b_values, post (tg_b v) (g_textLimit, g_stackLimit, g_depthLimit, nI n, g_stackSize, g_depth, g_place, g_ready, g_top, g_errorPos, fun j => nI (t j), b_cells, b_stack, b_frames, b_wants, b_inverse, b_kinds, b_values)) : wY_test_28 post (nI x) C g_textLimit g_stackLimit g_depthLimit (nI n) g_stackSize g_depth g_place g_ready g_top g_errorPos (fun j => nI (t j)) b_cells b_stack b_frames b_wants b_inverse b_kinds b_values := by
  have hn := X.1
  have hxy := hE.1
  unfold wY_test_28
  refine ys_find X hc (by omega) hC ?_
  rw [sc_fd_val hxy hy hno hty]
  refine yw_value X (by omega) hE (fun a b => ?_)
  have := H a b
  unfold tg_b at this
  exact br_c (fun z => by rw [if_pos z] at this; exact this) (fun z => by rw [if_neg z] at this; exact this)
theorem ys_test1 {s a ea eb q : Nat} {v : Int32} (X : xp_tx t n) (hB : gr_b t s a ea eb q) (hq : q < n) (hE : ev_E t b_cells (s + 1) a v)
    (H : ∀ b_kinds b_values, post (tg_b v) (g_textLimit, g_stackLimit, g_depthLimit, nI n, g_stackSize, g_depth, g_place, g_ready, g_top, g_errorPos, fun j => nI (t j), b_cells, b_stack, b_frames, b_wants, b_inverse, b_kinds, b_values)) : wpY_test post (g_textLimit, g_stackLimit, g_depthLimit, nI n, g_stackSize, g_depth, g_place, g_ready, g_top, g_errorPos, fun j => nI (t j), b_cells, b_stack, b_frames, b_wants, b_inverse, b_kinds, b_values) (nI s) 0 := by
  obtain ⟨_, _, _, _, _, b1, b2, b3, b4⟩ := sc_b_val hB hq
  unfold wpY_test
  refine br_t rfl ?_
  unfold wY_test_15
  rw [nI_1]
  exact br_t rfl (ys_28 (c := 123) X (by omega) (by omega) rfl hB.2.2.1 (fun i h1 h2 => (gr_xc_pl (gr_E_xc hB.2.1 h1 h2)).2.2.1) hE H)
theorem ys_test2 {s a ea eb q : Nat} {v : Int32} (X : xp_tx t n) (hB : gr_b t s a ea eb q) (hq : q < n) (hE : ev_E t b_cells (eb + 1) q v)
    (H : ∀ b_kinds b_values, post (tg_b v) (g_textLimit, g_stackLimit, g_depthLimit, nI n, g_stackSize, g_depth, g_place, g_ready, g_top, g_errorPos, fun j => nI (t j), b_cells, b_stack, b_frames, b_wants, b_inverse, b_kinds, b_values)) : wpY_test post (g_textLimit, g_stackLimit, g_depthLimit, nI n, g_stackSize, g_depth, g_place, g_ready, g_top, g_errorPos, fun j => nI (t j), b_cells, b_stack, b_frames, b_wants, b_inverse, b_kinds, b_values) (nI s) 1 := by
  have hn := X.1
  obtain ⟨_, _, e3, _, _, b1, b2, b3, b4⟩ := sc_b_val hB hq
  obtain ⟨h1, h2, h3, h4, h5, h6, h7, h8, h9, h10, h11, h12⟩ := hB
  unfold wpY_test
  refine br_f (by decide) (ys_tl X (by omega) ?_)
  rw [e3]
  unfold wY_test_15
  exact br_f (by decide) (ys_28 (c := 59) X hq (by omega) rfl h12 (fun i h1 h2 => (gr_xc_pl (gr_E_xc h11 h1 h2)).2.1) hE H)
end
/-! the direction of a run -/
def sp_lb (t : Nat → Nat) (fr : Nat → Int32) (b : Nat) : Nat → Nat
  | 0 => b
  | i + 1 => if t (fr i).toNatClampNeg = 126 then 1 - sp_lb t fr b i else sp_lb t fr b i
theorem sp_lb_le {t : Nat → Nat} {fr : Nat → Int32} {b : Nat} (hb : b ≤ 1) : ∀ i, sp_lb t fr b i ≤ 1 := by
  intro i
  induction i with
  | zero => exact hb
  | succ i ih => rw [sp_lb]; split <;> omega
/-- the frames are calls -/
def sp_fr (t : Nat → Nat) (n : Nat) (fr : Nat → Int32) (fc : Nat) : Prop := ∀ i, i < fc → ∃ s, s + 2 < n ∧ fr i = nI s ∧ sc_bg t s ∧ gr_C t s (s + 2)
theorem sp_nb {b : Nat} (hb : b ≤ 1) : narrow .boolean (.int (nI b)) = .int (nI b) := by
  rcases Nat.le_one_iff_eq_zero_or_eq_one.mp hb with rfl | rfl
  · exact narrow_b0
  · exact narrow_b1
section
variable {f_textCap f_stackCap f_depthCap f_ready f_size f_stackTop f_point f_frameCount f_symbolTop f_pos f_list f_open f_errorKind f_errorPos f_valueTop f_operatorTop : Int32} {a_text a_cells a_stack a_frames a_listOf a_listEnd a_owner a_stmtEnd a_stmtBegin a_firstA a_firstB a_opAt a_procFirst a_inverse a_invFirst a_invBegin a_symbols a_values a_operators : Nat → Int32}
variable {t : Nat → Nat} {n : Nat} {post : Int32 → Prop}
theorem xs_lb4 {fc b : Nat} (X : xp_tx t n) (hb : b ≤ 1) (hfc : fc ≤ 8) (hfr : sp_fr t n a_frames fc) (H : post (nI (sp_lb t a_frames b fc))) : ∀ d i, i + d = fc → ∀ k, d < k → wX_localBack_4 post f_textCap f_stackCap f_depthCap f_ready (nI n) f_stackTop f_point (nI fc) f_symbolTop f_pos f_list f_open f_errorKind f_errorPos f_valueTop f_operatorTop (fun j => nI (t j)) a_cells a_stack a_frames a_listOf a_listEnd a_owner a_stmtEnd a_stmtBegin a_firstA a_firstB a_opAt a_procFirst a_inverse a_invFirst a_invBegin a_symbols a_values a_operators k (nI (sp_lb t a_frames b i)) (nI i) := by
  have hn := X.1
  intro d
  induction d with
  | zero =>
    intro i hi k hk
    have : i = fc := by omega
    subst this
    cases k with
    | zero => omega
    | succ k => exact br_t (nI_le (by omega) (by omega)) (And.intro (sp_nb (sp_lb_le hb _)) H)
  | succ d ih =>
    intro i hi k hk
    cases k with
    | zero => omega
    | succ k =>
      obtain ⟨s, hs, es, _⟩ := hfr i (by omega)
      have hlb := sp_lb_le (t := t) (fr := a_frames) hb i
      have e0 : t (a_frames i).toNatClampNeg = t s := by rw [es, nI_clamp (by omega)]
      have ih' := ih (i + 1) (by omega) k (by omega)
      rw [sp_lb, e0] at ih'
      refine br_f (nI_ge (by omega) (by omega)) (And.intro (vp_in_nI (by omega) (by omega)) ?_)
      rw [nI_clamp (n := i) (by omega), es]
      refine xh_char hn (by omega) X.2.1 ?_
      rw [gr_ch_n (by omega)]
      refine xp_eq 126 (X.2.2 s) (fun e => ?_) (fun e => nm_r (nI_1 i) ?_)
      · rw [if_pos e] at ih'
        refine pk_eq (sp_lb t a_frames b i) 0 (fun e' => nm_r (nI_1 i) ?_) (fun e' => nm_r (nI_1 i) ?_) rfl rfl (by omega) (by omega)
        · rw [e'] at ih'; exact ih'
        · have e1 : sp_lb t a_frames b i = 1 := by omega
          rw [e1] at ih'; exact ih'
      · rw [if_neg e] at ih'; exact ih'
theorem xs_lb {fc b : Nat} (X : xp_tx t n) (hb : b ≤ 1) (hfc : fc ≤ 8) (hfr : sp_fr t n a_frames fc) (H : post (nI (sp_lb t a_frames b fc))) : wpX_localBack post (f_textCap, f_stackCap, f_depthCap, f_ready, nI n, f_stackTop, f_point, nI fc, f_symbolTop, f_pos, f_list, f_open, f_errorKind, f_errorPos, f_valueTop, f_operatorTop, fun j => nI (t j), a_cells, a_stack, a_frames, a_listOf, a_listEnd, a_owner, a_stmtEnd, a_stmtBegin, a_firstA, a_firstB, a_opAt, a_procFirst, a_inverse, a_invFirst, a_invBegin, a_symbols, a_values, a_operators) (nI b) := by
  unfold wpX_localBack
  exact ⟨fc + 1, xs_lb4 X hb hfc hfr H fc 0 (by omega) (fc + 1) (by omega)⟩
end
section
variable {g_textLimit g_stackLimit g_depthLimit g_length g_stackSize g_depth g_place g_ready g_top g_errorPos : Int32} {b_text b_cells b_stack b_frames b_wants b_inverse b_kinds b_values : Nat → Int32}
variable {t : Nat → Nat} {n : Nat} {post : Int32 → Prop}
theorem ys_lb4 {fc b : Nat} (X : xp_tx t n) (hb : b ≤ 1) (hfc : fc ≤ 8) (hfr : sp_fr t n b_frames fc) (H : post (nI (sp_lb t b_frames b fc))) : ∀ d i, i + d = fc → ∀ k, d < k → wY_localBack_4 post g_textLimit g_stackLimit g_depthLimit (nI n) g_stackSize (nI fc) g_place g_ready g_top g_errorPos (fun j => nI (t j)) b_cells b_stack b_frames b_wants b_inverse b_kinds b_values k (nI (sp_lb t b_frames b i)) (nI i) := by
  have hn := X.1
  intro d
  induction d with
  | zero =>
    intro i hi k hk
    have : i = fc := by omega
    subst this
    cases k with
    | zero => omega
    | succ k => exact br_t (nI_le (by omega) (by omega)) (And.intro (sp_nb (sp_lb_le hb _)) H)
  | succ d ih =>
    intro i hi k hk
    cases k with
    | zero => omega
    | succ k =>
      obtain ⟨s, hs, es, _⟩ := hfr i (by omega)
      have hlb := sp_lb_le (t := t) (fr := b_frames) hb i
      have hts := X.2.2 s
      have e0 : t (b_frames i).toNatClampNeg = t s := by rw [es, nI_clamp (by omega)]
      have ih' := ih (i + 1) (by omega) k (by omega)
      rw [sp_lb, e0] at ih'
      refine br_f (nI_ge (by omega) (by omega)) (And.intro (vp_in_nI (by omega) (by omega)) ?_)
      rw [nI_clamp (n := i) (by omega), es]
      refine And.intro (vp_in_nI (by omega) (by omega)) ?_
      show (nI (t (nI s).toNatClampNeg) = 126 → _) ∧ (¬ nI (t (nI s).toNatClampNeg) = 126 → _)
      rw [nI_clamp (n := s) (by omega)]
      refine pk_eq (t s) 126 (fun e => ?_) (fun e => nm_r (nI_1 i) ?_) rfl rfl (by omega) (by omega)
      · rw [if_pos e] at ih'
        refine pk_eq (sp_lb t b_frames b i) 0 (fun e' => nm_r (nI_1 i) ?_) (fun e' => nm_r (nI_1 i) ?_) rfl rfl (by omega) (by omega)
        · rw [e'] at ih'; exact ih'
        · have e1 : sp_lb t b_frames b i = 1 := by omega
          rw [e1] at ih'; exact ih'
      · rw [if_neg e] at ih'; exact ih'
theorem ys_lb {fc b : Nat} (X : xp_tx t n) (hb : b ≤ 1) (hfc : fc ≤ 8) (hfr : sp_fr t n b_frames fc) (H : post (nI (sp_lb t b_frames b fc))) : wpY_localBack post (g_textLimit, g_stackLimit, g_depthLimit, nI n, g_stackSize, nI fc, g_place, g_ready, g_top, g_errorPos, fun j => nI (t j), b_cells, b_stack, b_frames, b_wants, b_inverse, b_kinds, b_values) (nI b) := by
  unfold wpY_localBack
  exact ⟨fc + 1, ys_lb4 X hb hfc hfr H fc 0 (by omega) (fc + 1) (by omega)⟩
end
end
section
/-! a step: what both sides keep, moves, and the leaves -/
def sp_mn (t : Nat → Nat) (p : Nat) : Prop := ∀ i, i < p → t i ≠ 58
theorem sp_mn_s {t : Nat → Nat} {a b x y : Nat} (h : ∀ i, a ≤ i → i < b → t i ≠ 58) (hx : a ≤ x ∧ x ≤ b) (hy : a ≤ y ∧ y ≤ b) : sp_mn t x ↔ sp_mn t y := by
  constructor
  · intro g i hi
    rcases Nat.lt_or_ge i x with h1 | h1
    · exact g i h1
    · exact h i (by omega) (by omega)
  · intro g i hi
    rcases Nat.lt_or_ge i y with h1 | h1
    · exact g i h1
    · exact h i (by omega) (by omega)
/-- what moves: the point, the frames, the stack's size -/
def sp_I (t : Nat → Nat) (n sc dc : Nat) (fr : Nat → Int32) (fc pt st : Nat) : Prop := pt ≤ n ∧ sc_bg t pt ∧ fc ≤ dc ∧ sp_fr t n fr fc ∧ (sp_mn t pt ↔ fc = 0) ∧ (∀ i s, i < fc → s < n → fr i = nI s → (sp_mn t s ↔ i = 0)) ∧ st ≤ sc
/-- what stays -/
def sp_nd (t : Nat → Nat) (n : Nat) : Prop := ∀ i, i < n → gr_nm (t i) → ∃ v, sc_Body t (t i) n = some v
def sp_R (t : Nat → Nat) (n sc dc : Nat) (T : Nat → Nat → Int32) (pf : Nat → Int32) : Prop := xp_tx t n ∧ gr_G t n ∧ xt_T t n T ∧ xp_pr t pf n ∧ sp_nd t n ∧ sc ≤ 16 ∧ dc ≤ 8
/-- one outcome of both sides -/
def sp_O (t : Nat → Nat) (n sc dc : Nat) (T : Nat → Nat → Int32) (f_textCap f_ready f_symbolTop f_pos f_list f_open f_errorKind f_errorPos : Int32) (a_procFirst a_inverse a_invFirst a_invBegin a_symbols : Nat → Int32) (g_textLimit g_ready g_top g_errorPos : Int32) (b_wants b_inverse : Nat → Int32) (PX : Int32 → Int32 → (Nat → Int32) → (Nat → Int32) → (Int32 → SX → Prop) → Prop) (PY : (Nat → Int32) → (Nat → Int32) → (Int32 → SY → Prop) → Prop) : Prop :=
  ∃ (r : Int32) (cl sk fr : Nat → Int32) (st pt fc : Nat), sp_I t n sc dc fr fc pt st ∧
    (∀ x1 x2 x3 x4 (Q : Int32 → SX → Prop), (∀ f_valueTop f_operatorTop a_values a_operators, Q r (f_textCap, nI sc, nI dc, f_ready, nI n, nI (st), nI (pt), nI (fc), f_symbolTop, f_pos, f_list, f_open, f_errorKind, f_errorPos, f_valueTop, f_operatorTop, fun j => nI (t j), cl, sk, fr, T 0, T 1, T 2, T 3, T 4, T 5, T 6, T 7, a_procFirst, a_inverse, a_invFirst, a_invBegin, a_symbols, a_values, a_operators)) → PX x1 x2 x3 x4 Q) ∧
    (∀ y1 y2 (Q : Int32 → SY → Prop), (∀ b_kinds b_values, Q r (g_textLimit, nI sc, nI dc, nI n, nI (st), nI (fc), nI (pt), g_ready, g_top, g_errorPos, fun j => nI (t j), cl, sk, fr, b_wants, b_inverse, b_kinds, b_values)) → PY y1 y2 Q)
def sp_mv (tk pt p : Nat) : Nat := if tk = 0 then pt else p
theorem sp_mv_I {t : Nat → Nat} {n sc dc : Nat} {fr : Nat → Int32} {fc pt st tk p : Nat} (I : sp_I t n sc dc fr fc pt st) (hp : p ≤ n) (hb : sc_bg t p) (hm : sp_mn t p ↔ sp_mn t pt) : sp_I t n sc dc fr fc (sp_mv tk pt p) st := by
  unfold sp_mv
  split
  · exact I
  · obtain ⟨a, b, c, d, e, f, g⟩ := I
    exact ⟨hp, hb, c, d, hm.trans e, f, g⟩
section
variable {f_textCap f_ready f_symbolTop f_pos f_list f_open f_errorKind f_errorPos f_valueTop f_operatorTop : Int32} {a_procFirst a_inverse a_invFirst a_invBegin a_symbols a_values a_operators cl sk fr : Nat → Int32}
variable {t : Nat → Nat} {n sc dc : Nat} {T : Nat → Nat → Int32} {st pt fc : Nat} {Q : Int32 → SX → Prop}
theorem xs_move {p tk : Nat} (ht : tk ≤ 1) (H : Q 0 (f_textCap, nI sc, nI dc, f_ready, nI n, nI (st), nI (sp_mv tk pt p), nI (fc), f_symbolTop, f_pos, f_list, f_open, f_errorKind, f_errorPos, f_valueTop, f_operatorTop, fun j => nI (t j), cl, sk, fr, T 0, T 1, T 2, T 3, T 4, T 5, T 6, T 7, a_procFirst, a_inverse, a_invFirst, a_invBegin, a_symbols, a_values, a_operators)) : wpX_moveTo Q (f_textCap, nI sc, nI dc, f_ready, nI n, nI (st), nI (pt), nI (fc), f_symbolTop, f_pos, f_list, f_open, f_errorKind, f_errorPos, f_valueTop, f_operatorTop, fun j => nI (t j), cl, sk, fr, T 0, T 1, T 2, T 3, T 4, T 5, T 6, T 7, a_procFirst, a_inverse, a_invFirst, a_invBegin, a_symbols, a_values, a_operators) (nI p) (nI tk) := by
  unfold sp_mv at H
  refine pk_eq tk 0 (fun e => ?_) (fun e => ?_) rfl rfl (by omega) (by omega)
  · rw [if_pos e] at H; exact H
  · rw [if_neg e] at H; exact H
theorem xs_pass {s z lb tk : Nat} (hs : s ≤ 200) (hz : T 3 s = nI z) (hl : lb ≤ 1) (ht : tk ≤ 1) (H : Q 0 (f_textCap, nI sc, nI dc, f_ready, nI n, nI (st), nI (sp_mv tk pt (if lb = 0 then z else s)), nI (fc), f_symbolTop, f_pos, f_list, f_open, f_errorKind, f_errorPos, f_valueTop, f_operatorTop, fun j => nI (t j), cl, sk, fr, T 0, T 1, T 2, T 3, T 4, T 5, T 6, T 7, a_procFirst, a_inverse, a_invFirst, a_invBegin, a_symbols, a_values, a_operators)) : wpX_passStatement Q (f_textCap, nI sc, nI dc, f_ready, nI n, nI (st), nI (pt), nI (fc), f_symbolTop, f_pos, f_list, f_open, f_errorKind, f_errorPos, f_valueTop, f_operatorTop, fun j => nI (t j), cl, sk, fr, T 0, T 1, T 2, T 3, T 4, T 5, T 6, T 7, a_procFirst, a_inverse, a_invFirst, a_invBegin, a_symbols, a_values, a_operators) (nI s) (nI lb) (nI tk) := by
  unfold wpX_passStatement
  refine pk_eq lb 0 (fun e => And.intro (vp_in_nI (by omega) (by omega)) ?_) (fun e => ?_) rfl rfl (by omega) (by omega)
  · rw [nI_clamp (n := s) (by omega), hz]
    rw [if_pos e] at H
    unfold wX_passStatement_14
    exact xs_move ht H
  · rw [if_neg e] at H
    unfold wX_passStatement_14
    exact xs_move ht H
theorem xs_start {l e lb tk : Nat} (hs : l ≤ 200) (hz : T 1 l = nI e) (hl : lb ≤ 1) (ht : tk ≤ 1) (H : Q 0 (f_textCap, nI sc, nI dc, f_ready, nI n, nI (st), nI (sp_mv tk pt (if lb = 0 then l else e)), nI (fc), f_symbolTop, f_pos, f_list, f_open, f_errorKind, f_errorPos, f_valueTop, f_operatorTop, fun j => nI (t j), cl, sk, fr, T 0, T 1, T 2, T 3, T 4, T 5, T 6, T 7, a_procFirst, a_inverse, a_invFirst, a_invBegin, a_symbols, a_values, a_operators)) : wpX_startList Q (f_textCap, nI sc, nI dc, f_ready, nI n, nI (st), nI (pt), nI (fc), f_symbolTop, f_pos, f_list, f_open, f_errorKind, f_errorPos, f_valueTop, f_operatorTop, fun j => nI (t j), cl, sk, fr, T 0, T 1, T 2, T 3, T 4, T 5, T 6, T 7, a_procFirst, a_inverse, a_invFirst, a_invBegin, a_symbols, a_values, a_operators) (nI l) (nI lb) (nI tk) := by
  unfold wpX_startList
  refine pk_eq lb 0 (fun e' => ?_) (fun e' => And.intro (vp_in_nI (by omega) (by omega)) ?_) rfl rfl (by omega) (by omega)
  · rw [if_pos e'] at H
    unfold wX_startList_14
    exact xs_move ht H
  · rw [nI_clamp (n := l) (by omega), hz]
    rw [if_neg e'] at H
    unfold wX_startList_14
    exact xs_move ht H
/-- the test of an IF or LOOP -/
theorem xs_tst {s a ea eb q z : Nat} {v1 v2 : Int32} (X : xp_tx t n) (hB : gr_b t s a ea eb q) (hq : q < n) (hz : z ≤ 1) (h6 : T 6 s = nI (ea + 2)) (h1 : T 1 (ea + 2) = nI eb) (hE1 : ev_E t cl (s + 1) a v1) (hE2 : ev_E t cl (eb + 1) q v2)
    (H : ∀ f_valueTop f_operatorTop a_values a_operators, Q (tg_b (if z = 0 then v1 else v2)) (f_textCap, nI sc, nI dc, f_ready, nI n, nI (st), nI (pt), nI (fc), f_symbolTop, f_pos, f_list, f_open, f_errorKind, f_errorPos, f_valueTop, f_operatorTop, fun j => nI (t j), cl, sk, fr, T 0, T 1, T 2, T 3, T 4, T 5, T 6, T 7, a_procFirst, a_inverse, a_invFirst, a_invBegin, a_symbols, a_values, a_operators)) : wpX_test Q (f_textCap, nI sc, nI dc, f_ready, nI n, nI (st), nI (pt), nI (fc), f_symbolTop, f_pos, f_list, f_open, f_errorKind, f_errorPos, f_valueTop, f_operatorTop, fun j => nI (t j), cl, sk, fr, T 0, T 1, T 2, T 3, T 4, T 5, T 6, T 7, a_procFirst, a_inverse, a_invFirst, a_invBegin, a_symbols, a_values, a_operators) (nI s) (nI z) := by
  have hn := X.1
  obtain ⟨_, _, _, _, _, b1, b2, b3, b4⟩ := sc_b_val hB hq
  obtain ⟨g1, g2, g3, g4, g5, g6, g7, g8, g9, g10, g11, g12⟩ := hB
  rcases Nat.le_one_iff_eq_zero_or_eq_one.mp hz with rfl | rfl
  · exact xs_test1 X (by omega) g3 hE1 H
  · exact xs_test2 X (by omega) (by omega) hq g12 hE2 h6 h1 H
end
section
variable {g_textLimit g_ready g_top g_errorPos : Int32} {b_wants b_inverse b_kinds b_values cl sk fr : Nat → Int32}
variable {t : Nat → Nat} {n sc dc : Nat} {st pt fc : Nat} {Q : Int32 → SY → Prop}
theorem ys_tst {s a ea eb q z : Nat} {v1 v2 : Int32} (X : xp_tx t n) (hB : gr_b t s a ea eb q) (hq : q < n) (hz : z ≤ 1) (hE1 : ev_E t cl (s + 1) a v1) (hE2 : ev_E t cl (eb + 1) q v2)
    (H : ∀ b_kinds b_values, Q (tg_b (if z = 0 then v1 else v2)) (g_textLimit, nI sc, nI dc, nI n, nI (st), nI (fc), nI (pt), g_ready, g_top, g_errorPos, fun j => nI (t j), cl, sk, fr, b_wants, b_inverse, b_kinds, b_values)) : wpY_test Q (g_textLimit, nI sc, nI dc, nI n, nI (st), nI (fc), nI (pt), g_ready, g_top, g_errorPos, fun j => nI (t j), cl, sk, fr, b_wants, b_inverse, b_kinds, b_values) (nI s) (nI z) := by
  rcases Nat.le_one_iff_eq_zero_or_eq_one.mp hz with rfl | rfl
  · exact ys_test1 X hB hq hE1 H
  · exact ys_test2 X hB hq hE2 H
theorem ys_289 {p tk : Nat} (ht : tk ≤ 1) (H : Q 0 (g_textLimit, nI sc, nI dc, nI n, nI (st), nI (fc), nI (sp_mv tk pt p), g_ready, g_top, g_errorPos, fun j => nI (t j), cl, sk, fr, b_wants, b_inverse, b_kinds, b_values)) : wY_pass_289 Q (nI tk) (nI p) g_textLimit (nI sc) (nI dc) (nI n) (nI (st)) (nI (fc)) (nI (pt)) g_ready g_top g_errorPos (fun j => nI (t j)) cl sk fr b_wants b_inverse b_kinds b_values := by
  unfold sp_mv at H
  unfold wY_pass_289
  refine pk_eq tk 0 (fun e => ?_) (fun e => ?_) rfl rfl (by omega) (by omega)
  · rw [if_pos e] at H; exact H
  · rw [if_neg e] at H; exact H
theorem ys_169 {p tk : Nat} (ht : tk ≤ 1) (H : Q 0 (g_textLimit, nI sc, nI dc, nI n, nI (st), nI (fc), nI (sp_mv tk pt p), g_ready, g_top, g_errorPos, fun j => nI (t j), cl, sk, fr, b_wants, b_inverse, b_kinds, b_values)) : wY_edge_169 Q (nI tk) (nI p) g_textLimit (nI sc) (nI dc) (nI n) (nI (st)) (nI (fc)) (nI (pt)) g_ready g_top g_errorPos (fun j => nI (t j)) cl sk fr b_wants b_inverse b_kinds b_values := by
  unfold sp_mv at H
  unfold wY_edge_169
  refine pk_eq tk 0 (fun e => ?_) (fun e => ?_) rfl rfl (by omega) (by omega)
  · rw [if_pos e] at H; exact H
  · rw [if_neg e] at H; exact H
/-- the run through a list starts: Y -/
theorem ys_81 {l e lb tk : Nat} (X : xp_tx t n) (hl : l ≤ n) (he : sc_End t n l = e) (hlb : lb ≤ 1) (ht : tk ≤ 1) (H : Q 0 (g_textLimit, nI sc, nI dc, nI n, nI (st), nI (fc), nI (sp_mv tk pt (if lb = 0 then l else e)), g_ready, g_top, g_errorPos, fun j => nI (t j), cl, sk, fr, b_wants, b_inverse, b_kinds, b_values)) : wY_pass_81 Q (nI lb) (nI tk) (nI l) g_textLimit (nI sc) (nI dc) (nI n) (nI (st)) (nI (fc)) (nI (pt)) g_ready g_top g_errorPos (fun j => nI (t j)) cl sk fr b_wants b_inverse b_kinds b_values := by
  have hn := X.1
  unfold wY_pass_81
  refine pk_eq lb 0 (fun e' => ?_) (fun e' => ?_) rfl rfl (by omega) (by omega)
  · rw [if_pos e'] at H
    unfold wY_pass_95
    exact ys_289 ht H
  · rw [if_neg e'] at H
    refine ys_end X (by omega) ?_
    rw [he]
    unfold wY_pass_95
    exact ys_289 ht H
theorem ys_155 {l e lb tk : Nat} (X : xp_tx t n) (hl : l ≤ n) (he : sc_End t n l = e) (hlb : lb ≤ 1) (ht : tk ≤ 1) (H : Q 0 (g_textLimit, nI sc, nI dc, nI n, nI (st), nI (fc), nI (sp_mv tk pt (if lb = 0 then l else e)), g_ready, g_top, g_errorPos, fun j => nI (t j), cl, sk, fr, b_wants, b_inverse, b_kinds, b_values)) : wY_edge_155 Q (nI lb) (nI tk) (nI l) g_textLimit (nI sc) (nI dc) (nI n) (nI (st)) (nI (fc)) (nI (pt)) g_ready g_top g_errorPos (fun j => nI (t j)) cl sk fr b_wants b_inverse b_kinds b_values := by
  have hn := X.1
  unfold wY_edge_155
  refine pk_eq lb 0 (fun e' => ?_) (fun e' => ?_) rfl rfl (by omega) (by omega)
  · rw [if_pos e'] at H
    exact ys_169 ht H
  · rw [if_neg e'] at H
    refine ys_end X (by omega) ?_
    rw [he]
    exact ys_169 ht H
end
/-- the tables of a compound statement -/
theorem sp_tab {t : Nat → Nat} {n s a ea eb q : Nat} {T : Nat → Nat → Int32} (hT : xt_T t n T) (hb : sc_bg t s) (hB : gr_b t s a ea eb q) (hq : q < n) :
    T 3 s = nI (q + 1) ∧ T 5 s = nI (a + 1) ∧ T 6 s = nI (ea + 2) ∧ T 1 (a + 1) = nI ea ∧ T 1 (ea + 2) = nI eb ∧ T 2 (a + 1) = nI s ∧ T 2 (ea + 2) = nI s := by
  obtain ⟨v1, v2, v3, v4, v5, b1, b2, b3, b4⟩ := sc_b_val hB hq
  obtain ⟨w1, w2⟩ := sc_Ow_val hB
  have hs : gr_s t s q := Or.inr (Or.inr (Or.inr ⟨a, ea, eb, hB⟩))
  have hAf := sc_Af_val hs hq
  obtain ⟨g1, g2, g3, g4, g5, g6, g7, g8, g9, g10, g11, g12⟩ := hB
  have hss : sc_ss t n s := ⟨by omega, by unfold sc_sr; omega⟩
  have h63 : xt_D t n 5 s := ⟨hb, Or.inr (Or.inr (Or.inr (Or.inr (Or.inr ⟨Or.inl rfl, by omega, g1⟩))))⟩
  have h63' : xt_D t n 6 s := ⟨hb, Or.inr (Or.inr (Or.inr (Or.inr (Or.inr ⟨Or.inr rfl, by omega, g1⟩))))⟩
  have ba : sc_bg t (a + 1) := sc_bg_1 (Or.inr g3)
  have bb : sc_bg t (ea + 2) := sc_bg_1 (p := ea + 1) (Or.inr g7)
  have ea1 : a + 1 - 1 = a := by omega
  have ea2 : ea + 2 - 1 = ea + 1 := by omega
  refine ⟨?_, ?_, ?_, ?_, ?_, ?_, ?_⟩
  · rw [hT.2 3 s (by omega) ⟨hb, Or.inr (Or.inr (Or.inr (Or.inr (Or.inl ⟨Or.inl rfl, hss⟩))))⟩, xt_S3, xt_if_t ⟨hb, hss⟩, hAf]
  · rw [hT.2 5 s (by omega) h63, xt_S5, v1]
  · rw [hT.2 6 s (by omega) h63', xt_S6, v2]
  · rw [hT.2 1 (a + 1) (by omega) ⟨ba, Or.inr (Or.inl ⟨rfl, Or.inr (Or.inl (by rw [ea1]; exact g3))⟩)⟩, xt_S1, v4]
  · rw [hT.2 1 (ea + 2) (by omega) ⟨bb, Or.inr (Or.inl ⟨rfl, Or.inr (Or.inl (by rw [ea2]; exact g7))⟩)⟩, xt_S1, v5]
  · rw [hT.2 2 (a + 1) (by omega) ⟨ba, Or.inr (Or.inr (Or.inl ⟨rfl, by omega, by rw [ea1]; exact g3⟩))⟩, xt_S2, xt_if_t ⟨by omega, by rw [ea1]; exact g3⟩, w1]
  · rw [hT.2 2 (ea + 2) (by omega) ⟨bb, Or.inr (Or.inr (Or.inl ⟨rfl, by omega, by rw [ea2]; exact g7⟩))⟩, xt_S2, xt_if_t ⟨by omega, by rw [ea2]; exact g7⟩, w2]
theorem sp_t3 {t : Nat → Nat} {n s q : Nat} {T : Nat → Nat → Int32} (hT : xt_T t n T) (hb : sc_bg t s) (hs : gr_s t s q) (hq : q < n) : T 3 s = nI (q + 1) := by
  have hlt := gr_S_lt hs
  have hss : sc_ss t n s := ⟨by omega, gr_S_sr hs⟩
  rw [hT.2 3 s (by omega) ⟨hb, Or.inr (Or.inr (Or.inr (Or.inr (Or.inl ⟨Or.inl rfl, hss⟩))))⟩, xt_S3, xt_if_t ⟨hb, hss⟩, sc_Af_val hs hq]
end
section
/-! the leaves of a step: compound statements -/
section
variable {g_textLimit g_stackLimit g_depthLimit g_length g_stackSize g_depth g_place g_ready g_top g_errorPos : Int32} {b_text b_cells b_stack b_frames b_wants b_inverse b_kinds b_values : Nat → Int32}
variable {t : Nat → Nat} {n : Nat} {post : Int32 → Prop}
theorem ys_ow29 (X : xp_tx t n) : ∀ k0, k0 < n → post (nI (sc_ob t k0)) → ∀ k, k0 < k → wY_owner_29 post g_textLimit g_stackLimit g_depthLimit (nI n) g_stackSize g_depth g_place g_ready g_top g_errorPos (fun j => nI (t j)) b_cells b_stack b_frames b_wants b_inverse b_kinds b_values k (nI k0) := by
  have hn := X.1
  intro k0
  induction k0 with
  | zero =>
    intro _ hp k hk
    cases k with
    | zero => omega
    | succ k => exact br_t (by decide) hp
  | succ k0 ih =>
    intro h0 hp k hk
    cases k with
    | zero => omega
    | succ k =>
      have hv : vp_in (nI (k0 + 1)) 200 := vp_in_nI (by omega) (by omega)
      have ht := X.2.2 (k0 + 1)
      rw [sc_ob] at hp
      refine br_f (nI_nle (by omega) (by omega)) (And.intro hv ?_)
      show (nI (t (nI (k0 + 1)).toNatClampNeg) = 63 → _) ∧ (¬ nI (t (nI (k0 + 1)).toNatClampNeg) = 63 → _)
      rw [nI_clamp (by omega)]
      refine pk_eq (t (k0 + 1)) 63 (fun e => ?_) (fun n63 => And.intro hv (pk_eq (t (k0 + 1)) 64 (fun e => ?_) (fun n64 => nm_r (pk_m1 k0) ?_) rfl rfl (by omega) (by omega))) rfl rfl (by omega) (by omega)
      · rw [if_pos (Or.inl e)] at hp; exact hp
      · rw [if_pos (Or.inr e)] at hp; exact hp
      · rw [if_neg (by omega)] at hp
        exact ih (by omega) hp k (by omega)
theorem ys_own {l : Nat} (X : xp_tx t n) (hl : 2 ≤ l) (hl2 : l ≤ n) (hF : t (l - 2) = 125 → 1 ≤ sc_Fst t (l - 2)) (h : post (nI (sc_Ow t l))) : wpY_owner post (g_textLimit, g_stackLimit, g_depthLimit, nI n, g_stackSize, g_depth, g_place, g_ready, g_top, g_errorPos, fun j => nI (t j), b_cells, b_stack, b_frames, b_wants, b_inverse, b_kinds, b_values) (nI l) := by
  have hn := X.1
  have e1 : nI l - 1 = nI (l - 1) := pk_sub (a := l) (b := 1) (by omega)
  have e2 : nI (l - 1) - 1 = nI (l - 2) := by
    have := pk_sub (a := l - 1) (b := 1) (by omega)
    have e : l - 1 - 1 = l - 2 := by omega
    rw [e] at this; exact this
  have ht := X.2.2 (l - 2)
  unfold wpY_owner
  refine nm_r e1 ?_
  rw [e2]
  refine And.intro (vp_in_nI (by omega) (by omega)) ?_
  show (nI (t (nI (l - 2)).toNatClampNeg) = 125 → _) ∧ (¬ nI (t (nI (l - 2)).toNatClampNeg) = 125 → _)
  rw [nI_clamp (by omega)]
  unfold sc_Ow at h
  refine pk_eq (t (l - 2)) 125 (fun e => ys_fst X (by omega) (nm_r (e' := nI (sc_Fst t (l - 2) - 1)) (pk_sub (b := 1) (hF e)) ⟨l, ?_⟩)) (fun e => ⟨l, ?_⟩) rfl rfl (by omega) (by omega)
  · rw [if_pos e] at h
    have := sc_fo_le (t := t) (l - 2) 0
    have e3 : sc_Fst t (l - 2) ≤ l - 2 + 1 := this
    exact ys_ow29 X _ (by omega) h l (by omega)
  · rw [if_neg e] at h
    exact ys_ow29 X _ (by omega) h l (by omega)
end
section
variable {f_textCap f_ready f_symbolTop f_pos f_list f_open f_errorKind f_errorPos f_valueTop f_operatorTop : Int32} {a_procFirst a_inverse a_invFirst a_invBegin a_symbols a_values a_operators cl sk fr : Nat → Int32}
variable {t : Nat → Nat} {n sc dc : Nat} {T : Nat → Nat → Int32} {st pt fc : Nat} {Q : Int32 → SX → Prop}
theorem xs_if {s a ea eb q lb tk ia : Nat} {v1 v2 : Int32} (X : xp_tx t n) (hB : gr_b t s a ea eb q) (hq : q < n) (hlb : lb ≤ 1) (htk : tk ≤ 1) (h3 : T 3 s = nI (q + 1)) (h6 : T 6 s = nI (ea + 2)) (h1 : T 1 (ea + 2) = nI eb) (hE1 : ev_E t cl (s + 1) a v1) (hE2 : ev_E t cl (eb + 1) q v2)
    (HA : tg_b (if 1 - lb = 0 then v1 else v2) = nI ia → ∀ f_valueTop f_operatorTop a_values a_operators, Q 0 (f_textCap, nI sc, nI dc, f_ready, nI n, nI (st), nI (sp_mv tk pt (if lb = 0 then q + 1 else s)), nI (fc), f_symbolTop, f_pos, f_list, f_open, f_errorKind, f_errorPos, f_valueTop, f_operatorTop, fun j => nI (t j), cl, sk, fr, T 0, T 1, T 2, T 3, T 4, T 5, T 6, T 7, a_procFirst, a_inverse, a_invFirst, a_invBegin, a_symbols, a_values, a_operators))
    (HB : ¬ tg_b (if 1 - lb = 0 then v1 else v2) = nI ia → ∀ f_valueTop f_operatorTop a_values a_operators, Q 3 (f_textCap, nI sc, nI dc, f_ready, nI n, nI (st), nI (pt), nI (fc), f_symbolTop, f_pos, f_list, f_open, f_errorKind, f_errorPos, f_valueTop, f_operatorTop, fun j => nI (t j), cl, sk, fr, T 0, T 1, T 2, T 3, T 4, T 5, T 6, T 7, a_procFirst, a_inverse, a_invFirst, a_invBegin, a_symbols, a_values, a_operators)) :
    wpX_leaveIf Q (f_textCap, nI sc, nI dc, f_ready, nI n, nI (st), nI (pt), nI (fc), f_symbolTop, f_pos, f_list, f_open, f_errorKind, f_errorPos, f_valueTop, f_operatorTop, fun j => nI (t j), cl, sk, fr, T 0, T 1, T 2, T 3, T 4, T 5, T 6, T 7, a_procFirst, a_inverse, a_invFirst, a_invBegin, a_symbols, a_values, a_operators) (nI s) (nI ia) (nI lb) (nI tk) := by
  have hn := X.1
  obtain ⟨_, _, _, _, _, b1, b2, b3, b4⟩ := sc_b_val hB hq
  have h11 : wX_leaveIf_11 Q (nI s) (nI ia) (nI lb) (nI tk) (nI (1 - lb)) (nI s) f_textCap (nI sc) (nI dc) f_ready (nI n) (nI (st)) (nI (pt)) (nI (fc)) f_symbolTop f_pos f_list f_open f_errorKind f_errorPos f_valueTop f_operatorTop (fun j => nI (t j)) cl sk fr (T 0) (T 1) (T 2) (T 3) (T 4) (T 5) (T 6) (T 7) a_procFirst a_inverse a_invFirst a_invBegin a_symbols a_values a_operators := by
    unfold wX_leaveIf_11
    refine xs_tst X hB hq (by omega) h6 h1 hE1 hE2 (fun _ _ _ _ => ?_)
    exact br_c (fun z => xs_pass (by omega) h3 hlb htk (HA z _ _ _ _)) (fun z => HB z _ _ _ _)
  unfold wpX_leaveIf
  refine pk_eq lb 0 (fun e0 => ?_) (fun e0 => ?_) rfl rfl (by omega) (by omega)
  · rw [e0] at h11 ⊢; exact h11
  · have : lb = 1 := by omega
    rw [this] at h11 ⊢; exact h11
theorem xs_loopA {s a ea eb q lb tk : Nat} {v1 v2 : Int32} (X : xp_tx t n) (hB : gr_b t s a ea eb q) (hq : q < n) (hlb : lb ≤ 1) (htk : tk ≤ 1) (h3 : T 3 s = nI (q + 1)) (h6 : T 6 s = nI (ea + 2)) (h1 : T 1 (ea + 2) = nI eb) (hE1 : ev_E t cl (s + 1) a v1) (hE2 : ev_E t cl (eb + 1) q v2)
    (HA : tg_b (if 1 - lb = 0 then v1 else v2) = 0 → ∀ f_valueTop f_operatorTop a_values a_operators, Q 0 (f_textCap, nI sc, nI dc, f_ready, nI n, nI (st), nI (sp_mv tk pt (if lb = 0 then ea + 2 else eb)), nI (fc), f_symbolTop, f_pos, f_list, f_open, f_errorKind, f_errorPos, f_valueTop, f_operatorTop, fun j => nI (t j), cl, sk, fr, T 0, T 1, T 2, T 3, T 4, T 5, T 6, T 7, a_procFirst, a_inverse, a_invFirst, a_invBegin, a_symbols, a_values, a_operators))
    (HB : ¬ tg_b (if 1 - lb = 0 then v1 else v2) = 0 → ∀ f_valueTop f_operatorTop a_values a_operators, Q 0 (f_textCap, nI sc, nI dc, f_ready, nI n, nI (st), nI (sp_mv tk pt (if lb = 0 then q + 1 else s)), nI (fc), f_symbolTop, f_pos, f_list, f_open, f_errorKind, f_errorPos, f_valueTop, f_operatorTop, fun j => nI (t j), cl, sk, fr, T 0, T 1, T 2, T 3, T 4, T 5, T 6, T 7, a_procFirst, a_inverse, a_invFirst, a_invBegin, a_symbols, a_values, a_operators)) :
    wpX_leaveLoop Q (f_textCap, nI sc, nI dc, f_ready, nI n, nI (st), nI (pt), nI (fc), f_symbolTop, f_pos, f_list, f_open, f_errorKind, f_errorPos, f_valueTop, f_operatorTop, fun j => nI (t j), cl, sk, fr, T 0, T 1, T 2, T 3, T 4, T 5, T 6, T 7, a_procFirst, a_inverse, a_invFirst, a_invBegin, a_symbols, a_values, a_operators) (nI s) (nI 1) (nI lb) (nI tk) := by
  have hn := X.1
  obtain ⟨_, _, _, _, _, b1, b2, b3, b4⟩ := sc_b_val hB hq
  have h15 : wX_leaveLoop_15 Q (nI s) (nI lb) (nI tk) (nI (1 - lb)) (nI s) f_textCap (nI sc) (nI dc) f_ready (nI n) (nI (st)) (nI (pt)) (nI (fc)) f_symbolTop f_pos f_list f_open f_errorKind f_errorPos f_valueTop f_operatorTop (fun j => nI (t j)) cl sk fr (T 0) (T 1) (T 2) (T 3) (T 4) (T 5) (T 6) (T 7) a_procFirst a_inverse a_invFirst a_invBegin a_symbols a_values a_operators := by
    unfold wX_leaveLoop_15
    refine xs_tst X hB hq (by omega) h6 h1 hE1 hE2 (fun _ _ _ _ => ?_)
    refine br_c (fun z => And.intro (vp_in_nI (by omega) (by omega)) ?_) (fun z => xs_pass (by omega) h3 hlb htk (HB z _ _ _ _))
    rw [nI_clamp (n := s) (by omega), h6]
    exact xs_start (by omega) h1 hlb htk (HA z _ _ _ _)
  unfold wpX_leaveLoop
  refine br_f (by decide) (pk_eq lb 0 (fun e0 => ?_) (fun e0 => ?_) rfl rfl (by omega) (by omega))
  · rw [e0] at h15 ⊢; exact h15
  · have : lb = 1 := by omega
    rw [this] at h15 ⊢; exact h15
theorem xs_loopB {s a ea eb q lb tk : Nat} {v1 v2 : Int32} (X : xp_tx t n) (hB : gr_b t s a ea eb q) (hq : q < n) (hlb : lb ≤ 1) (htk : tk ≤ 1) (h5 : T 5 s = nI (a + 1)) (h6 : T 6 s = nI (ea + 2)) (h1a : T 1 (a + 1) = nI ea) (h1 : T 1 (ea + 2) = nI eb) (hE1 : ev_E t cl (s + 1) a v1) (hE2 : ev_E t cl (eb + 1) q v2)
    (HA : tg_b (if lb = 0 then v1 else v2) = 0 → ∀ f_valueTop f_operatorTop a_values a_operators, Q 0 (f_textCap, nI sc, nI dc, f_ready, nI n, nI (st), nI (sp_mv tk pt (if lb = 0 then a + 1 else ea)), nI (fc), f_symbolTop, f_pos, f_list, f_open, f_errorKind, f_errorPos, f_valueTop, f_operatorTop, fun j => nI (t j), cl, sk, fr, T 0, T 1, T 2, T 3, T 4, T 5, T 6, T 7, a_procFirst, a_inverse, a_invFirst, a_invBegin, a_symbols, a_values, a_operators))
    (HB : ¬ tg_b (if lb = 0 then v1 else v2) = 0 → ∀ f_valueTop f_operatorTop a_values a_operators, Q 3 (f_textCap, nI sc, nI dc, f_ready, nI n, nI (st), nI (pt), nI (fc), f_symbolTop, f_pos, f_list, f_open, f_errorKind, f_errorPos, f_valueTop, f_operatorTop, fun j => nI (t j), cl, sk, fr, T 0, T 1, T 2, T 3, T 4, T 5, T 6, T 7, a_procFirst, a_inverse, a_invFirst, a_invBegin, a_symbols, a_values, a_operators)) :
    wpX_leaveLoop Q (f_textCap, nI sc, nI dc, f_ready, nI n, nI (st), nI (pt), nI (fc), f_symbolTop, f_pos, f_list, f_open, f_errorKind, f_errorPos, f_valueTop, f_operatorTop, fun j => nI (t j), cl, sk, fr, T 0, T 1, T 2, T 3, T 4, T 5, T 6, T 7, a_procFirst, a_inverse, a_invFirst, a_invBegin, a_symbols, a_values, a_operators) (nI s) (nI 0) (nI lb) (nI tk) := by
  have hn := X.1
  obtain ⟨_, _, _, _, _, b1, b2, b3, b4⟩ := sc_b_val hB hq
  unfold wpX_leaveLoop
  refine br_t rfl (xs_tst X hB hq hlb h6 h1 hE1 hE2 (fun _ _ _ _ => ?_))
  refine br_c (fun z => And.intro (vp_in_nI (by omega) (by omega)) ?_) (fun z => HB z _ _ _ _)
  rw [nI_clamp (n := s) (by omega), h5]
  exact xs_start (by omega) h1a hlb htk (HA z _ _ _ _)
end
section
variable {cl sk fr : Nat → Int32}
variable {f_textCap f_ready f_symbolTop f_pos f_list f_open f_errorKind f_errorPos : Int32} {a_procFirst a_inverse a_invFirst a_invBegin a_symbols : Nat → Int32} {g_textLimit g_ready g_top g_errorPos : Int32} {b_wants b_inverse : Nat → Int32}
variable {t : Nat → Nat} {n sc dc : Nat} {T : Nat → Nat → Int32} {st pt fc : Nat}
theorem sp_list {a b : Nat} {lb : Nat} : (if lb = 0 then a else b) = a ∨ (if lb = 0 then a else b) = b := by
  split
  · exact Or.inl rfl
  · exact Or.inr rfl
theorem lf_comp (R : sp_R t n sc dc T a_procFirst) (I : sp_I t n sc dc fr fc pt st) {s a ea eb q lb tk : Nat} (hb : sc_bg t s) (hB : gr_b t s a ea eb q) (hq : q < n) (hpt : sp_mn t pt ↔ sp_mn t s) (hlb : lb ≤ 1) (htk : tk ≤ 1) :
    sp_O t n sc dc T f_textCap f_ready f_symbolTop f_pos f_list f_open f_errorKind f_errorPos a_procFirst a_inverse a_invFirst a_invBegin a_symbols g_textLimit g_ready g_top g_errorPos b_wants b_inverse (fun f_valueTop f_operatorTop a_values a_operators Q => wX_step_105 Q (nI tk) (nI lb) (nI s) f_textCap (nI sc) (nI dc) f_ready (nI n) (nI (st)) (nI (pt)) (nI (fc)) f_symbolTop f_pos f_list f_open f_errorKind f_errorPos f_valueTop f_operatorTop (fun j => nI (t j)) cl sk fr (T 0) (T 1) (T 2) (T 3) (T 4) (T 5) (T 6) (T 7) a_procFirst a_inverse a_invFirst a_invBegin a_symbols a_values a_operators) (fun b_kinds b_values Q => wpY_pass Q (g_textLimit, nI sc, nI dc, nI n, nI (st), nI (fc), nI (pt), g_ready, g_top, g_errorPos, fun j => nI (t j), cl, sk, fr, b_wants, b_inverse, b_kinds, b_values) (nI s) (nI lb) (nI tk)) := by
  obtain ⟨X, hG, hT, _⟩ := R
  have hn := X.1
  obtain ⟨t3, t5, t6, t1a, t1b, _, _⟩ := sp_tab hT hb hB hq
  obtain ⟨v1', v2', v3', v4', v5', b1, b2, b3, b4⟩ := sc_b_val hB hq
  have hs : gr_s t s q := Or.inr (Or.inr (Or.inr ⟨a, ea, eb, hB⟩))
  have hok := sc_s hs
  have hB' := hB
  obtain ⟨g1, g2, g3, g4, g5, g6, g7, g8, g9, g10, g11, g12⟩ := hB'
  obtain ⟨v1, hE1⟩ := ev_of cl g2
  obtain ⟨v2, hE2⟩ := ev_of cl g11
  have hts := X.2.2 s
  have ba : sc_bg t (a + 1) := sc_bg_1 (Or.inr g3)
  have bb : sc_bg t (ea + 2) := sc_bg_1 (p := ea + 1) (Or.inr g7)
  have bea : sc_bg t ea := by
    rcases Nat.lt_or_ge (a + 1) ea with h | h
    · obtain ⟨s', q', _, hs', e⟩ := gr_l_snoc g5 h
      rw [e]; exact sc_bg_1 (Or.inl (gr_s_59 hs'))
    · have : ea = a + 1 := by omega
      rw [this]; exact ba
  have beb : sc_bg t eb := by
    rcases Nat.lt_or_ge (ea + 2) eb with h | h
    · obtain ⟨s', q', _, hs', e⟩ := gr_l_snoc g9 h
      rw [e]; exact sc_bg_1 (Or.inl (gr_s_59 hs'))
    · have : eb = ea + 2 := by omega
      rw [this]; exact bb
  have hmn : ∀ x, s ≤ x → x ≤ q + 1 → (sp_mn t x ↔ sp_mn t pt) := fun x h1 h2 => (sp_mn_s (fun i a b => hok.2.2 i a b) ⟨h1, h2⟩ ⟨Nat.le_refl s, by omega⟩).trans hpt.symm
  have hY : ∀ (b_kinds b_values : Nat → Int32) (Q : Int32 → SY → Prop), ((t s = 64 → tg_b (if lb = 0 then v1 else v2) ≠ 0) → ∀ b_kinds b_values, wY_pass_63 Q (nI s) (nI lb) (nI tk) (tg_b (if lb = 0 then v1 else v2)) g_textLimit (nI sc) (nI dc) (nI n) (nI (st)) (nI (fc)) (nI (pt)) g_ready g_top g_errorPos (fun j => nI (t j)) cl sk fr b_wants b_inverse b_kinds b_values) → (t s = 64 → tg_b (if lb = 0 then v1 else v2) = 0 → ∀ b_kinds b_values, Q 3 (g_textLimit, nI sc, nI dc, nI n, nI (st), nI (fc), nI (pt), g_ready, g_top, g_errorPos, fun j => nI (t j), cl, sk, fr, b_wants, b_inverse, b_kinds, b_values)) → wpY_pass Q (g_textLimit, nI sc, nI dc, nI n, nI (st), nI (fc), nI (pt), g_ready, g_top, g_errorPos, fun j => nI (t j), cl, sk, fr, b_wants, b_inverse, b_kinds, b_values) (nI s) (nI lb) (nI tk) := by
    intro b_kinds b_values Q h63 h3
    have h41 : wY_pass_41 Q (nI s) (nI lb) (nI tk) (nI (t s)) g_textLimit (nI sc) (nI dc) (nI n) (nI (st)) (nI (fc)) (nI (pt)) g_ready g_top g_errorPos (fun j => nI (t j)) cl sk fr b_wants b_inverse b_kinds b_values := by
      unfold wY_pass_41
      refine ys_tst X hB hq hlb hE1 hE2 (fun k1 k2 => ?_)
      exact pk_eq (t s) 64 (fun e => br_c (fun e0 => h3 e e0 k1 k2) (fun e0 => h63 (fun _ => e0) k1 k2)) (fun e => h63 (fun z => (e z).elim) k1 k2) rfl rfl (by omega) (by omega)
    have h25 : ∀ x5 z0 : Int32, wY_pass_25 Q (nI s) (nI lb) (nI tk) (nI (t s)) x5 z0 g_textLimit (nI sc) (nI dc) (nI n) (nI (st)) (nI (fc)) (nI (pt)) g_ready g_top g_errorPos (fun j => nI (t j)) cl sk fr b_wants b_inverse b_kinds b_values := by
      intro x5 z0
      unfold wY_pass_25
      exact pk_eq (t s) 63 (fun _ => h41) (fun n63 => pk_eq (t s) 64 (fun _ => h41) (fun n64 => by omega) rfl rfl (by omega) (by omega)) rfl rfl (by omega) (by omega)
    unfold wpY_pass
    refine And.intro (vp_in_nI (by omega) (by omega)) (nm_r (e' := nI (t s)) (by show nI (t (nI s).toNatClampNeg) = _; rw [nI_clamp (by omega)]) (ys_af X (by omega) ?_))
    exact br_c (fun _ => h25 _ _) (fun _ => h25 _ _)
  rcases tg_b01 (if lb = 0 then v1 else v2) with hv | hv
  · by_cases h64 : t s = 64
    · refine ⟨3, cl, sk, fr, st, pt, fc, I, fun f_valueTop f_operatorTop a_values a_operators Q hQ => ?_, fun b_kinds b_values Q hQ => hY _ _ Q (fun z => (z h64 hv).elim) (fun _ _ _ _ => hQ _ _)⟩
      unfold wX_step_105 wpX_enterCompound
      refine xs_tst X hB hq hlb t6 t1b hE1 hE2 (fun _ _ _ _ => ?_)
      rw [hv]
      refine br_t rfl (And.intro (vp_in_nI (by omega) (by omega)) ?_)
      show (nI (t (nI s).toNatClampNeg) = 64 → _) ∧ (¬ nI (t (nI s).toNatClampNeg) = 64 → _)
      rw [nI_clamp (n := s) (by omega), h64]
      exact br_t rfl (hQ _ _ _ _)
    · refine ⟨0, cl, sk, fr, st, sp_mv tk pt (if lb = 0 then ea + 2 else eb), fc, sp_mv_I I ?_ ?_ ?_, fun f_valueTop f_operatorTop a_values a_operators Q hQ => ?_, fun b_kinds b_values Q hQ => hY _ _ Q (fun _ k1 k2 => ?_) (fun z => (h64 z).elim)⟩
      · rcases sp_list (a := ea + 2) (b := eb) (lb := lb) with h | h <;> rw [h] <;> omega
      · rcases sp_list (a := ea + 2) (b := eb) (lb := lb) with h | h <;> rw [h]
        · exact bb
        · exact beb
      · rcases sp_list (a := ea + 2) (b := eb) (lb := lb) with h | h <;> rw [h]
        · exact hmn _ (by omega) (by omega)
        · exact hmn _ (by omega) (by omega)
      · unfold wX_step_105 wpX_enterCompound
        refine xs_tst X hB hq hlb t6 t1b hE1 hE2 (fun _ _ _ _ => ?_)
        rw [hv]
        refine br_t rfl (And.intro (vp_in_nI (by omega) (by omega)) ?_)
        show (nI (t (nI s).toNatClampNeg) = 64 → _) ∧ (¬ nI (t (nI s).toNatClampNeg) = 64 → _)
        rw [nI_clamp (n := s) (by omega)]
        refine br_f (fun z => h64 ((nI_eq (a := t s) (b := 64) (by omega) (by omega)).mp z)) (And.intro (vp_in_nI (by omega) (by omega)) ?_)
        rw [t6]
        exact xs_start (by omega) t1b hlb htk (hQ _ _ _ _)
      · rw [hv]
        unfold wY_pass_63
        refine br_t rfl (ys_fb X (by omega) ?_)
        rw [v2']
        exact ys_81 X (by omega) v5' hlb htk (hQ _ _)
  · refine ⟨0, cl, sk, fr, st, sp_mv tk pt (if lb = 0 then a + 1 else ea), fc, sp_mv_I I ?_ ?_ ?_, fun f_valueTop f_operatorTop a_values a_operators Q hQ => ?_, fun b_kinds b_values Q hQ => hY _ _ Q (fun _ k1 k2 => ?_) (fun _ z => by rw [hv] at z; exact absurd z (by decide))⟩
    · rcases sp_list (a := a + 1) (b := ea) (lb := lb) with h | h <;> rw [h] <;> omega
    · rcases sp_list (a := a + 1) (b := ea) (lb := lb) with h | h <;> rw [h]
      · exact ba
      · exact bea
    · rcases sp_list (a := a + 1) (b := ea) (lb := lb) with h | h <;> rw [h]
      · exact hmn _ (by omega) (by omega)
      · exact hmn _ (by omega) (by omega)
    · unfold wX_step_105 wpX_enterCompound
      refine xs_tst X hB hq hlb t6 t1b hE1 hE2 (fun _ _ _ _ => ?_)
      rw [hv]
      refine br_f (by decide) (And.intro (vp_in_nI (by omega) (by omega)) ?_)
      rw [nI_clamp (n := s) (by omega), t5]
      exact xs_start (by omega) t1a hlb htk (hQ _ _ _ _)
    · rw [hv]
      unfold wY_pass_63
      refine br_f (by decide) (ys_fa X (by omega) ?_)
      rw [v1']
      exact ys_81 X (by omega) v4' hlb htk (hQ _ _)
/-- at the edge of a block -/
theorem lf_edge (R : sp_R t n sc dc T a_procFirst) (I : sp_I t n sc dc fr fc pt st) {s a ea eb q l e lb tk : Nat} (hb : sc_bg t s) (hB : gr_b t s a ea eb q) (hq : q < n) (hle : (l = a + 1 ∧ e = ea) ∨ (l = ea + 2 ∧ e = eb)) (hpt : l ≤ pt ∧ pt ≤ e) (hlb : lb ≤ 1) (htk : tk ≤ 1) :
    sp_O t n sc dc T f_textCap f_ready f_symbolTop f_pos f_list f_open f_errorKind f_errorPos a_procFirst a_inverse a_invFirst a_invBegin a_symbols g_textLimit g_ready g_top g_errorPos b_wants b_inverse (fun f_valueTop f_operatorTop a_values a_operators Q => wpX_leaveList Q (f_textCap, nI sc, nI dc, f_ready, nI n, nI (st), nI (pt), nI (fc), f_symbolTop, f_pos, f_list, f_open, f_errorKind, f_errorPos, f_valueTop, f_operatorTop, fun j => nI (t j), cl, sk, fr, T 0, T 1, T 2, T 3, T 4, T 5, T 6, T 7, a_procFirst, a_inverse, a_invFirst, a_invBegin, a_symbols, a_values, a_operators) (nI l) (nI lb) (nI tk)) (fun b_kinds b_values Q => wpY_edge Q (g_textLimit, nI sc, nI dc, nI n, nI (st), nI (fc), nI (pt), g_ready, g_top, g_errorPos, fun j => nI (t j), cl, sk, fr, b_wants, b_inverse, b_kinds, b_values) (nI l) (nI lb) (nI tk)) := by
  obtain ⟨X, hG, hT, _⟩ := R
  have hn := X.1
  obtain ⟨t3, t5, t6, t1a, t1b, t2a, t2b⟩ := sp_tab hT hb hB hq
  obtain ⟨v1', v2', v3', v4', v5', b1, b2, b3, b4⟩ := sc_b_val hB hq
  obtain ⟨w1, w2⟩ := sc_Ow_val hB
  have hs : gr_s t s q := Or.inr (Or.inr (Or.inr ⟨a, ea, eb, hB⟩))
  have hAf := sc_Af_val hs hq
  have hok := sc_s hs
  have hB' := hB
  obtain ⟨g1, g2, g3, g4, g5, g6, g7, g8, g9, g10, g11, g12⟩ := hB'
  obtain ⟨v1, hE1⟩ := ev_of cl g2
  obtain ⟨v2, hE2⟩ := ev_of cl g11
  have hts := X.2.2 s
  have ba : sc_bg t (a + 1) := sc_bg_1 (Or.inr g3)
  have bb : sc_bg t (ea + 2) := sc_bg_1 (p := ea + 1) (Or.inr g7)
  have bq : sc_bg t (q + 1) := sc_bg_1 (Or.inl g12)
  have bea : sc_bg t ea := by
    rcases Nat.lt_or_ge (a + 1) ea with h | h
    · obtain ⟨s', q', _, hs', e⟩ := gr_l_snoc g5 h
      rw [e]; exact sc_bg_1 (Or.inl (gr_s_59 hs'))
    · have : ea = a + 1 := by omega
      rw [this]; exact ba
  have beb : sc_bg t eb := by
    rcases Nat.lt_or_ge (ea + 2) eb with h | h
    · obtain ⟨s', q', _, hs', e⟩ := gr_l_snoc g9 h
      rw [e]; exact sc_bg_1 (Or.inl (gr_s_59 hs'))
    · have : eb = ea + 2 := by omega
      rw [this]; exact bb
  have hmn : ∀ x, s ≤ x → x ≤ q + 1 → (sp_mn t x ↔ sp_mn t pt) := fun x h1 h2 => sp_mn_s (fun i a b => hok.2.2 i a b) ⟨h1, h2⟩ ⟨by omega, by omega⟩
  -- in A or in B
  obtain ⟨ib, hib, eib, eA⟩ : ∃ ib, ib ≤ 1 ∧ ((ib = 0 ∧ l = a + 1) ∨ (ib = 1 ∧ l = ea + 2)) ∧ True := by
    rcases hle with ⟨h, _⟩ | ⟨h, _⟩
    · exact ⟨0, by omega, Or.inl ⟨rfl, h⟩, trivial⟩
    · exact ⟨1, by omega, Or.inr ⟨rfl, h⟩, trivial⟩
  have hlb1 : 1 - lb ≤ 1 := by omega
  have hXl : ∀ (f_valueTop f_operatorTop : Int32) (a_values a_operators : Nat → Int32) (Q : Int32 → SX → Prop), wX_leaveList_49 Q (nI lb) (nI tk) (nI s) (nI (1 - ib)) f_textCap (nI sc) (nI dc) f_ready (nI n) (nI (st)) (nI (pt)) (nI (fc)) f_symbolTop f_pos f_list f_open f_errorKind f_errorPos f_valueTop f_operatorTop (fun j => nI (t j)) cl sk fr (T 0) (T 1) (T 2) (T 3) (T 4) (T 5) (T 6) (T 7) a_procFirst a_inverse a_invFirst a_invBegin a_symbols a_values a_operators → wpX_leaveList Q (f_textCap, nI sc, nI dc, f_ready, nI n, nI (st), nI (pt), nI (fc), f_symbolTop, f_pos, f_list, f_open, f_errorKind, f_errorPos, f_valueTop, f_operatorTop, fun j => nI (t j), cl, sk, fr, T 0, T 1, T 2, T 3, T 4, T 5, T 6, T 7, a_procFirst, a_inverse, a_invFirst, a_invBegin, a_symbols, a_values, a_operators) (nI l) (nI lb) (nI tk) := by
    intro f_valueTop f_operatorTop a_values a_operators Q h49
    unfold wpX_leaveList
    refine And.intro (vp_in_nI (by omega) (by omega)) (nm_r (e' := nI s) ?_ (br_t (nI_pos' (by omega)) (And.intro (vp_in_nI (by omega) (by omega)) ?_)))
    · rw [nI_clamp (n := l) (by omega)]
      rcases eib with ⟨_, h⟩ | ⟨_, h⟩
      · rw [h]; exact t2a
      · rw [h]; exact t2b
    · rw [nI_clamp (n := s) (by omega), t5]
      refine pk_eq (a + 1) l (fun e' => ?_) (fun e' => ?_) rfl rfl (by omega) (by omega)
      · have : ib = 0 := by omega
        rw [this] at h49; exact h49
      · have : ib = 1 := by omega
        rw [this] at h49; exact h49
  have hYl : ∀ (b_kinds b_values : Nat → Int32) (Q : Int32 → SY → Prop), (∀ b_kinds b_values, wY_edge_68 Q (nI lb) (nI tk) (nI s) (nI ib) (tg_b (if 1 - lb = 0 then v1 else v2)) (tg_b (if lb = 0 then v1 else v2)) (nI (if lb = 0 then q + 1 else s)) g_textLimit (nI sc) (nI dc) (nI n) (nI (st)) (nI (fc)) (nI (pt)) g_ready g_top g_errorPos (fun j => nI (t j)) cl sk fr b_wants b_inverse b_kinds b_values) → wpY_edge Q (g_textLimit, nI sc, nI dc, nI n, nI (st), nI (fc), nI (pt), g_ready, g_top, g_errorPos, fun j => nI (t j), cl, sk, fr, b_wants, b_inverse, b_kinds, b_values) (nI l) (nI lb) (nI tk) := by
    intro b_kinds b_values Q h68
    have h39 : wY_edge_39 Q (nI lb) (nI tk) (nI s) (nI ib) (nI (1 - lb)) (nI s) g_textLimit (nI sc) (nI dc) (nI n) (nI (st)) (nI (fc)) (nI (pt)) g_ready g_top g_errorPos (fun j => nI (t j)) cl sk fr b_wants b_inverse b_kinds b_values := by
      unfold wY_edge_39
      refine ys_tst X hB hq hlb1 hE1 hE2 (fun k1 k2 => ys_tst X hB hq hlb hE1 hE2 (fun k3 k4 => ?_))
      have h := h68 k3 k4
      refine pk_eq lb 0 (fun e0 => ys_af X (by omega) ?_) (fun e0 => ?_) rfl rfl (by omega) (by omega)
      · rw [if_pos (c := lb = 0) (t := q + 1) (e := s) e0] at h
        rw [hAf]; exact h
      · rw [if_neg (c := lb = 0) (t := q + 1) (e := s) e0] at h
        exact h
    have h25 : wY_edge_25 Q (nI lb) (nI tk) (nI s) (nI ib) g_textLimit (nI sc) (nI dc) (nI n) (nI (st)) (nI (fc)) (nI (pt)) g_ready g_top g_errorPos (fun j => nI (t j)) cl sk fr b_wants b_inverse b_kinds b_values := by
      unfold wY_edge_25
      refine pk_eq lb 0 (fun e0 => ?_) (fun e0 => ?_) rfl rfl (by omega) (by omega)
      · rw [e0] at h39 ⊢; exact h39
      · have : lb = 1 := by omega
        rw [this] at h39 ⊢; exact h39
    have hl2 : t (l - 2) = 125 ↔ ib = 1 := by
      rcases eib with ⟨h0, h⟩ | ⟨h0, h⟩
      · have e1 : l - 2 = a - 1 := by omega
        rw [e1]
        have := gr_xc_pl (gr_E_xc g2 (i := a - 1) (by omega) (by omega))
        unfold gr_pl at this
        omega
      · have e1 : l - 2 = ea := by omega
        rw [e1]; omega
    have hl2' := X.2.2 (l - 2)
    have hOw : sc_Ow t l = s := by
      rcases eib with ⟨_, h⟩ | ⟨_, h⟩
      · rw [h]; exact w1
      · rw [h]; exact w2
    unfold wpY_edge
    refine ys_own X (by omega) (by omega) (fun z => ?_) ?_
    · have := hl2.mp z
      have e1 : l - 2 = ea := by omega
      have e2 : a + 1 - 1 = a := by omega
      rw [e1, sc_fo_val (l := a + 1) g4 (sc_l g5) (Or.inr (Or.inr ⟨by omega, by rw [e2]; exact g3⟩))]; omega
    rw [hOw]
    have e2 : nI l - 2 = nI (l - 2) := pk_sub (a := l) (b := 2) (by omega)
    rw [e2]
    refine And.intro (vp_in_nI (by omega) (by omega)) ?_
    show (nI (t (nI (l - 2)).toNatClampNeg) = 125 → _) ∧ (¬ nI (t (nI (l - 2)).toNatClampNeg) = 125 → _)
    rw [nI_clamp (by omega)]
    refine pk_eq (t (l - 2)) 125 (fun e' => ?_) (fun e' => ?_) rfl rfl (by omega) (by omega)
    · rw [hl2.mp e'] at h25; exact h25
    · have : ib = 0 := by omega
      rw [this] at h25; exact h25
  -- where it goes
  have mvOut : sp_I t n sc dc fr fc (sp_mv tk pt (if lb = 0 then q + 1 else s)) st := by
    refine sp_mv_I I ?_ ?_ ?_
    · rcases sp_list (a := q + 1) (b := s) (lb := lb) with h | h <;> rw [h] <;> omega
    · rcases sp_list (a := q + 1) (b := s) (lb := lb) with h | h <;> rw [h]
      · exact bq
      · exact hb
    · rcases sp_list (a := q + 1) (b := s) (lb := lb) with h | h <;> rw [h]
      · exact hmn _ (by omega) (by omega)
      · exact hmn _ (by omega) (by omega)
  have mvA : sp_I t n sc dc fr fc (sp_mv tk pt (if lb = 0 then a + 1 else ea)) st := by
    refine sp_mv_I I ?_ ?_ ?_
    · rcases sp_list (a := a + 1) (b := ea) (lb := lb) with h | h <;> rw [h] <;> omega
    · rcases sp_list (a := a + 1) (b := ea) (lb := lb) with h | h <;> rw [h]
      · exact ba
      · exact bea
    · rcases sp_list (a := a + 1) (b := ea) (lb := lb) with h | h <;> rw [h]
      · exact hmn _ (by omega) (by omega)
      · exact hmn _ (by omega) (by omega)
  have mvB : sp_I t n sc dc fr fc (sp_mv tk pt (if lb = 0 then ea + 2 else eb)) st := by
    refine sp_mv_I I ?_ ?_ ?_
    · rcases sp_list (a := ea + 2) (b := eb) (lb := lb) with h | h <;> rw [h] <;> omega
    · rcases sp_list (a := ea + 2) (b := eb) (lb := lb) with h | h <;> rw [h]
      · exact bb
      · exact beb
    · rcases sp_list (a := ea + 2) (b := eb) (lb := lb) with h | h <;> rw [h]
      · exact hmn _ (by omega) (by omega)
      · exact hmn _ (by omega) (by omega)
  have hnear := tg_b01 (if 1 - lb = 0 then v1 else v2)
  have hfar := tg_b01 (if lb = 0 then v1 else v2)
  generalize hN : tg_b (if 1 - lb = 0 then v1 else v2) = near at *
  generalize hFr : tg_b (if lb = 0 then v1 else v2) = far at *
  have hnI : ∀ k, k ≤ 1 → (nI k = 0 ↔ k = 0) ∧ (nI k = 1 ↔ k = 1) := fun k hk => by
    rcases Nat.le_one_iff_eq_zero_or_eq_one.mp hk with rfl | rfl <;> decide
  by_cases h63 : t s = 63
  · -- IF
    have hX : ∀ (f_valueTop f_operatorTop : Int32) (a_values a_operators : Nat → Int32) (Q : Int32 → SX → Prop), (near = nI (1 - ib) → ∀ f_valueTop f_operatorTop a_values a_operators, Q 0 (f_textCap, nI sc, nI dc, f_ready, nI n, nI (st), nI (sp_mv tk pt (if lb = 0 then q + 1 else s)), nI (fc), f_symbolTop, f_pos, f_list, f_open, f_errorKind, f_errorPos, f_valueTop, f_operatorTop, fun j => nI (t j), cl, sk, fr, T 0, T 1, T 2, T 3, T 4, T 5, T 6, T 7, a_procFirst, a_inverse, a_invFirst, a_invBegin, a_symbols, a_values, a_operators)) → (¬ near = nI (1 - ib) → ∀ f_valueTop f_operatorTop a_values a_operators, Q 3 (f_textCap, nI sc, nI dc, f_ready, nI n, nI (st), nI (pt), nI (fc), f_symbolTop, f_pos, f_list, f_open, f_errorKind, f_errorPos, f_valueTop, f_operatorTop, fun j => nI (t j), cl, sk, fr, T 0, T 1, T 2, T 3, T 4, T 5, T 6, T 7, a_procFirst, a_inverse, a_invFirst, a_invBegin, a_symbols, a_values, a_operators)) → wpX_leaveList Q (f_textCap, nI sc, nI dc, f_ready, nI n, nI (st), nI (pt), nI (fc), f_symbolTop, f_pos, f_list, f_open, f_errorKind, f_errorPos, f_valueTop, f_operatorTop, fun j => nI (t j), cl, sk, fr, T 0, T 1, T 2, T 3, T 4, T 5, T 6, T 7, a_procFirst, a_inverse, a_invFirst, a_invBegin, a_symbols, a_values, a_operators) (nI l) (nI lb) (nI tk) := by
      intro f_valueTop f_operatorTop a_values a_operators Q h1 h2
      refine hXl _ _ _ _ Q ?_
      unfold wX_leaveList_49
      refine And.intro (vp_in_nI (by omega) (by omega)) ?_
      show (nI (t (nI s).toNatClampNeg) = 63 → _) ∧ (¬ nI (t (nI s).toNatClampNeg) = 63 → _)
      rw [nI_clamp (n := s) (by omega), h63]
      refine br_t rfl (xs_if X hB hq hlb htk t3 t6 t1b hE1 hE2 (fun z => h1 ?_) (fun z => h2 ?_))
      · rw [← hN]; exact z
      · rw [← hN]; exact z
    have hY : ∀ (b_kinds b_values : Nat → Int32) (Q : Int32 → SY → Prop), (¬ near = nI ib → ∀ b_kinds b_values, Q 0 (g_textLimit, nI sc, nI dc, nI n, nI (st), nI (fc), nI (sp_mv tk pt (if lb = 0 then q + 1 else s)), g_ready, g_top, g_errorPos, fun j => nI (t j), cl, sk, fr, b_wants, b_inverse, b_kinds, b_values)) → (near = nI ib → ∀ b_kinds b_values, Q 3 (g_textLimit, nI sc, nI dc, nI n, nI (st), nI (fc), nI (pt), g_ready, g_top, g_errorPos, fun j => nI (t j), cl, sk, fr, b_wants, b_inverse, b_kinds, b_values)) → wpY_edge Q (g_textLimit, nI sc, nI dc, nI n, nI (st), nI (fc), nI (pt), g_ready, g_top, g_errorPos, fun j => nI (t j), cl, sk, fr, b_wants, b_inverse, b_kinds, b_values) (nI l) (nI lb) (nI tk) := by
      intro b_kinds b_values Q h1 h2
      refine hYl _ _ Q (fun k1 k2 => ?_)
      unfold wY_edge_68
      refine And.intro (vp_in_nI (by omega) (by omega)) ?_
      show (nI (t (nI s).toNatClampNeg) = 63 → _) ∧ (¬ nI (t (nI s).toNatClampNeg) = 63 → _)
      rw [nI_clamp (n := s) (by omega), h63]
      refine br_t rfl (br_c (fun z => h2 z _ _) (fun z => ?_))
      unfold wY_edge_89
      refine And.intro (vp_in_nI (by omega) (by omega)) ?_
      show (nI (t (nI s).toNatClampNeg) = 64 → _) ∧ (¬ nI (t (nI s).toNatClampNeg) = 64 → _)
      rw [nI_clamp (n := s) (by omega), h63]
      refine br_f (by decide) ?_
      unfold wY_edge_113
      refine And.intro (vp_in_nI (by omega) (by omega)) ?_
      show (nI (t (nI s).toNatClampNeg) = 64 → _) ∧ (¬ nI (t (nI s).toNatClampNeg) = 64 → _)
      rw [nI_clamp (n := s) (by omega), h63]
      exact br_f (by decide) (ys_169 htk (h1 z _ _))
    have hiff : near = nI (1 - ib) ↔ ¬ near = nI ib := by
      rcases Nat.le_one_iff_eq_zero_or_eq_one.mp hib with rfl | rfl <;> rcases hnear with h | h <;> rw [h] <;> decide
    by_cases hc : near = nI ib
    · exact ⟨3, cl, sk, fr, st, pt, fc, I, fun f_valueTop f_operatorTop a_values a_operators Q hQ => hX _ _ _ _ Q (fun z => (hiff.mp z hc).elim) (fun _ => hQ), fun b_kinds b_values Q hQ => hY _ _ Q (fun z => (z hc).elim) (fun _ => hQ)⟩
    · exact ⟨0, cl, sk, fr, st, _, fc, mvOut, fun f_valueTop f_operatorTop a_values a_operators Q hQ => hX _ _ _ _ Q (fun _ => hQ) (fun z => (z (hiff.mpr hc)).elim), fun b_kinds b_values Q hQ => hY _ _ Q (fun _ => hQ) (fun z => (hc z).elim)⟩
  · -- LOOP
    have h64 : t s = 64 := by omega
    have hY : ∀ (b_kinds b_values : Nat → Int32) (Q : Int32 → SY → Prop), (ib = 0 → near = 0 → ∀ b_kinds b_values, Q 0 (g_textLimit, nI sc, nI dc, nI n, nI (st), nI (fc), nI (sp_mv tk pt (if lb = 0 then ea + 2 else eb)), g_ready, g_top, g_errorPos, fun j => nI (t j), cl, sk, fr, b_wants, b_inverse, b_kinds, b_values)) → (ib = 0 → near = 1 → ∀ b_kinds b_values, Q 0 (g_textLimit, nI sc, nI dc, nI n, nI (st), nI (fc), nI (sp_mv tk pt (if lb = 0 then q + 1 else s)), g_ready, g_top, g_errorPos, fun j => nI (t j), cl, sk, fr, b_wants, b_inverse, b_kinds, b_values)) →
        (ib = 1 → far = 0 → ∀ b_kinds b_values, Q 0 (g_textLimit, nI sc, nI dc, nI n, nI (st), nI (fc), nI (sp_mv tk pt (if lb = 0 then a + 1 else ea)), g_ready, g_top, g_errorPos, fun j => nI (t j), cl, sk, fr, b_wants, b_inverse, b_kinds, b_values)) → (ib = 1 → far = 1 → ∀ b_kinds b_values, Q 3 (g_textLimit, nI sc, nI dc, nI n, nI (st), nI (fc), nI (pt), g_ready, g_top, g_errorPos, fun j => nI (t j), cl, sk, fr, b_wants, b_inverse, b_kinds, b_values)) → wpY_edge Q (g_textLimit, nI sc, nI dc, nI n, nI (st), nI (fc), nI (pt), g_ready, g_top, g_errorPos, fun j => nI (t j), cl, sk, fr, b_wants, b_inverse, b_kinds, b_values) (nI l) (nI lb) (nI tk) := by
      intro b_kinds b_values Q h1 h2 h3 h4
      refine hYl _ _ Q (fun k1 k2 => ?_)
      have h135 : (ib = 0 → near = 0) → (ib = 1 → far = 0) → wY_edge_135 Q (nI lb) (nI tk) (nI s) (nI ib) g_textLimit (nI sc) (nI dc) (nI n) (nI st) (nI fc) (nI pt) g_ready g_top g_errorPos (fun j => nI (t j)) cl sk fr b_wants b_inverse k1 k2 := by
        intro q1 q2
        unfold wY_edge_135
        refine pk_eq ib 0 (fun e0 => ys_fb X (by omega) ?_) (fun e0 => ys_fa X (by omega) ?_) rfl rfl (by omega) (by omega)
        · rw [v2']
          exact ys_155 X (by omega) v5' hlb htk (h1 e0 (q1 e0) _ _)
        · rw [v1']
          exact ys_155 X (by omega) v4' hlb htk (h3 (by omega) (q2 (by omega)) _ _)
      have h113 : (ib = 1 → far = 0) → wY_edge_113 Q (nI lb) (nI tk) (nI s) (nI ib) near (nI (if lb = 0 then q + 1 else s)) g_textLimit (nI sc) (nI dc) (nI n) (nI st) (nI fc) (nI pt) g_ready g_top g_errorPos (fun j => nI (t j)) cl sk fr b_wants b_inverse k1 k2 := by
        intro q2
        unfold wY_edge_113
        refine And.intro (vp_in_nI (by omega) (by omega)) ?_
        show (nI (t (nI s).toNatClampNeg) = 64 → _) ∧ (¬ nI (t (nI s).toNatClampNeg) = 64 → _)
        rw [nI_clamp (n := s) (by omega), h64]
        refine br_t rfl (pk_eq ib 0 (fun e0 => br_c (fun z => h135 (fun _ => z) q2) (fun z => ys_169 htk (h2 e0 (hnear.resolve_left z) _ _))) (fun e0 => h135 (fun z => (e0 z).elim) q2) rfl rfl (by omega) (by omega))
      unfold wY_edge_68
      refine And.intro (vp_in_nI (by omega) (by omega)) ?_
      show (nI (t (nI s).toNatClampNeg) = 63 → _) ∧ (¬ nI (t (nI s).toNatClampNeg) = 63 → _)
      rw [nI_clamp (n := s) (by omega), h64]
      refine br_f (by decide) ?_
      unfold wY_edge_89
      refine And.intro (vp_in_nI (by omega) (by omega)) ?_
      show (nI (t (nI s).toNatClampNeg) = 64 → _) ∧ (¬ nI (t (nI s).toNatClampNeg) = 64 → _)
      rw [nI_clamp (n := s) (by omega), h64]
      exact br_t rfl (pk_eq ib 0 (fun e0 => h113 (fun z => by omega)) (fun e0 => br_c (fun z => h113 (fun _ => z)) (fun z => h4 (by omega) (hfar.resolve_left z) _ _)) rfl rfl (by omega) (by omega))
    have hXw : ∀ (f_valueTop f_operatorTop : Int32) (a_values a_operators : Nat → Int32) (Q : Int32 → SX → Prop), (∀ Q' : Int32 → SX → Prop, (∀ r f_textCap f_stackCap f_depthCap f_ready f_size f_stackTop f_point f_frameCount f_symbolTop f_pos f_list f_open f_errorKind f_errorPos f_valueTop f_operatorTop a_text a_cells a_stack a_frames a_listOf a_listEnd a_owner a_stmtEnd a_stmtBegin a_firstA a_firstB a_opAt a_procFirst a_inverse a_invFirst a_invBegin a_symbols a_values a_operators, Q r (f_textCap, f_stackCap, f_depthCap, f_ready, f_size, f_stackTop, f_point, f_frameCount, f_symbolTop, f_pos, f_list, f_open, f_errorKind, f_errorPos, f_valueTop, f_operatorTop, a_text, a_cells, a_stack, a_frames, a_listOf, a_listEnd, a_owner, a_stmtEnd, a_stmtBegin, a_firstA, a_firstB, a_opAt, a_procFirst, a_inverse, a_invFirst, a_invBegin, a_symbols, a_values, a_operators) → Q' r (f_textCap, f_stackCap, f_depthCap, f_ready, f_size, f_stackTop, f_point, f_frameCount, f_symbolTop, f_pos, f_list, f_open, f_errorKind, f_errorPos, f_valueTop, f_operatorTop, a_text, a_cells, a_stack, a_frames, a_listOf, a_listEnd, a_owner, a_stmtEnd, a_stmtBegin, a_firstA, a_firstB, a_opAt, a_procFirst, a_inverse, a_invFirst, a_invBegin, a_symbols, a_values, a_operators)) → wpX_leaveLoop Q' (f_textCap, nI sc, nI dc, f_ready, nI n, nI (st), nI (pt), nI (fc), f_symbolTop, f_pos, f_list, f_open, f_errorKind, f_errorPos, f_valueTop, f_operatorTop, fun j => nI (t j), cl, sk, fr, T 0, T 1, T 2, T 3, T 4, T 5, T 6, T 7, a_procFirst, a_inverse, a_invFirst, a_invBegin, a_symbols, a_values, a_operators) (nI s) (nI (1 - ib)) (nI lb) (nI tk)) → wpX_leaveList Q (f_textCap, nI sc, nI dc, f_ready, nI n, nI (st), nI (pt), nI (fc), f_symbolTop, f_pos, f_list, f_open, f_errorKind, f_errorPos, f_valueTop, f_operatorTop, fun j => nI (t j), cl, sk, fr, T 0, T 1, T 2, T 3, T 4, T 5, T 6, T 7, a_procFirst, a_inverse, a_invFirst, a_invBegin, a_symbols, a_values, a_operators) (nI l) (nI lb) (nI tk) := by
      intro f_valueTop f_operatorTop a_values a_operators Q h
      refine hXl _ _ _ _ Q ?_
      unfold wX_leaveList_49
      refine And.intro (vp_in_nI (by omega) (by omega)) ?_
      show (nI (t (nI s).toNatClampNeg) = 63 → _) ∧ (¬ nI (t (nI s).toNatClampNeg) = 63 → _)
      rw [nI_clamp (n := s) (by omega), h64]
      exact br_f (by decide) (h _ (fun _ _ _ _ _ _ _ _ _ _ _ _ _ _ _ _ _ _ _ _ _ _ _ _ _ _ _ _ _ _ _ _ _ _ _ _ hq => hq))
    rcases Nat.le_one_iff_eq_zero_or_eq_one.mp hib with h0 | h0
    · subst h0
      rcases hnear with h | h
      · exact ⟨0, cl, sk, fr, st, _, fc, mvB, fun f_valueTop f_operatorTop a_values a_operators Q hQ => hXw _ _ _ _ Q (fun Q' hQ' => xs_loopA X hB hq hlb htk t3 t6 t1b hE1 hE2 (fun _ a b c d => hQ' _ _ _ _ _ _ _ _ _ _ _ _ _ _ _ _ _ _ _ _ _ _ _ _ _ _ _ _ _ _ _ _ _ _ _ _ (hQ a b c d)) (fun z => by rw [hN] at z; exact (z h).elim)), fun b_kinds b_values Q hQ => hY _ _ Q (fun _ _ => hQ) (fun _ z => by rw [h] at z; exact absurd z (by decide)) (fun z => by omega) (fun z => by omega)⟩
      · exact ⟨0, cl, sk, fr, st, _, fc, mvOut, fun f_valueTop f_operatorTop a_values a_operators Q hQ => hXw _ _ _ _ Q (fun Q' hQ' => xs_loopA X hB hq hlb htk t3 t6 t1b hE1 hE2 (fun z => by rw [hN, h] at z; exact absurd z (by decide)) (fun _ a b c d => hQ' _ _ _ _ _ _ _ _ _ _ _ _ _ _ _ _ _ _ _ _ _ _ _ _ _ _ _ _ _ _ _ _ _ _ _ _ (hQ a b c d))), fun b_kinds b_values Q hQ => hY _ _ Q (fun _ z => by rw [h] at z; exact absurd z (by decide)) (fun _ _ => hQ) (fun z => by omega) (fun z => by omega)⟩
    · subst h0
      rcases hfar with h | h
      · exact ⟨0, cl, sk, fr, st, _, fc, mvA, fun f_valueTop f_operatorTop a_values a_operators Q hQ => hXw _ _ _ _ Q (fun Q' hQ' => xs_loopB X hB hq hlb htk t5 t6 t1a t1b hE1 hE2 (fun _ a b c d => hQ' _ _ _ _ _ _ _ _ _ _ _ _ _ _ _ _ _ _ _ _ _ _ _ _ _ _ _ _ _ _ _ _ _ _ _ _ (hQ a b c d)) (fun z => by rw [hFr] at z; exact (z h).elim)), fun b_kinds b_values Q hQ => hY _ _ Q (fun z => by omega) (fun z => by omega) (fun _ _ => hQ) (fun _ z => by rw [h] at z; exact absurd z (by decide))⟩
      · exact ⟨3, cl, sk, fr, st, pt, fc, I, fun f_valueTop f_operatorTop a_values a_operators Q hQ => hXw _ _ _ _ Q (fun Q' hQ' => xs_loopB X hB hq hlb htk t5 t6 t1a t1b hE1 hE2 (fun z => by rw [hFr, h] at z; exact absurd z (by decide)) (fun _ a b c d => hQ' _ _ _ _ _ _ _ _ _ _ _ _ _ _ _ _ _ _ _ _ _ _ _ _ _ _ _ _ _ _ _ _ _ _ _ _ (hQ a b c d))), fun b_kinds b_values Q hQ => hY _ _ Q (fun z => by omega) (fun z => by omega) (fun _ z => by rw [h] at z; exact absurd z (by decide)) (fun _ _ => hQ)⟩
end
end
section
/-! the leaves of a step: procedures and the stack -/
theorem sp_lb_upd {t : Nat → Nat} {fr : Nat → Int32} {b k : Nat} {v : Int32} : ∀ i, i ≤ k → sp_lb t (upd fr k v) b i = sp_lb t fr b i := by
  intro i
  induction i with
  | zero => intro _; rfl
  | succ i ih =>
    intro h
    rw [sp_lb, sp_lb, ih (by omega), pk_un (by omega)]
section
variable {cl sk fr : Nat → Int32}
variable {f_textCap f_ready f_symbolTop f_pos f_list f_open f_errorKind f_errorPos : Int32} {a_procFirst a_inverse a_invFirst a_invBegin a_symbols : Nat → Int32} {g_textLimit g_ready g_top g_errorPos : Int32} {b_wants b_inverse : Nat → Int32}
variable {t : Nat → Nat} {n sc dc : Nat} {T : Nat → Nat → Int32} {st pt fc : Nat}
/-- CALL and UNCALL -/
theorem lf_call (R : sp_R t n sc dc T a_procFirst) (I : sp_I t n sc dc fr fc pt st) {s b lb tk : Nat} (hb : sc_bg t s) (hC : gr_C t s (s + 2)) (hs2 : s + 2 < n) (hpt : sp_mn t pt ↔ sp_mn t s) (hbb : b ≤ 1) (hlb : lb = sp_lb t fr b fc) (htk : tk ≤ 1) :
    sp_O t n sc dc T f_textCap f_ready f_symbolTop f_pos f_list f_open f_errorKind f_errorPos a_procFirst a_inverse a_invFirst a_invBegin a_symbols g_textLimit g_ready g_top g_errorPos b_wants b_inverse (fun f_valueTop f_operatorTop a_values a_operators Q => wX_step_128 Q (nI tk) (nI lb) (nI s) f_textCap (nI sc) (nI dc) f_ready (nI n) (nI (st)) (nI (pt)) (nI (fc)) f_symbolTop f_pos f_list f_open f_errorKind f_errorPos f_valueTop f_operatorTop (fun j => nI (t j)) cl sk fr (T 0) (T 1) (T 2) (T 3) (T 4) (T 5) (T 6) (T 7) a_procFirst a_inverse a_invFirst a_invBegin a_symbols a_values a_operators) (fun b_kinds b_values Q => wpY_enter Q (g_textLimit, nI sc, nI dc, nI n, nI (st), nI (fc), nI (pt), g_ready, g_top, g_errorPos, fun j => nI (t j), cl, sk, fr, b_wants, b_inverse, b_kinds, b_values) (nI s) (nI b) (nI tk)) := by
  obtain ⟨X, hG, hT, hpr, hnd, hsc, hdc⟩ := R
  have hn := X.1
  obtain ⟨i1, i2, i3, i4, i5, i6, i7⟩ := I
  have hlb1 : lb ≤ 1 := by rw [hlb]; exact sp_lb_le hbb _
  have hC' := hC
  obtain ⟨c1, c2, _, c4⟩ := hC'
  have hts := X.2.2 s
  have hts1 := X.2.2 (s + 1)
  obtain ⟨v, hv⟩ := hnd (s + 1) (by omega) c2
  obtain ⟨d1, d2, d3, d4⟩ := sc_Body_bd hv
  have bv : sc_bg t v := Or.inr (Or.inr ⟨d1, d3⟩)
  have t1v : T 1 v = nI (sc_End t n v) := by
    rw [hT.2 1 v (by omega) ⟨bv, Or.inr (Or.inl ⟨rfl, Or.inr (Or.inr ⟨d1, d3⟩)⟩)⟩, xt_S1]
  obtain ⟨l, e, hptv⟩ := sc_pts hG v d2 bv
  have hev := sc_pt_end hptv
  have hlv := sc_pt_fst hptv
  obtain ⟨p1, p2, p3, p4, p5, p6⟩ := hptv
  have be : sc_bg t e := by
    rcases Nat.lt_or_ge v e with h | h
    · obtain ⟨s', q', _, hs', e'⟩ := gr_l_snoc p6 h
      rw [e']; exact sc_bg_1 (Or.inl (gr_s_59 hs'))
    · have : e = v := by omega
      rw [this]; exact bv
  have nmv : ∀ x, v ≤ x → ¬ sp_mn t x := fun x hx h => h (v - 2) (by omega) d3
  -- the inner direction
  obtain ⟨inn, hinn, einn⟩ : ∃ inn, inn ≤ 1 ∧ inn = (if t s = 126 then 1 - lb else lb) := by
    refine ⟨_, ?_, rfl⟩
    split <;> omega
  by_cases hd : fc < dc
  · have hX : ∀ (f_valueTop f_operatorTop : Int32) (a_values a_operators : Nat → Int32) (Q : Int32 → SX → Prop), wX_enterProcedure_81 Q (nI s) (nI tk) (nI v) (nI inn) f_textCap (nI sc) (nI dc) f_ready (nI n) (nI (st)) (nI (pt)) (nI (fc)) f_symbolTop f_pos f_list f_open f_errorKind f_errorPos f_valueTop f_operatorTop (fun j => nI (t j)) cl sk fr (T 0) (T 1) (T 2) (T 3) (T 4) (T 5) (T 6) (T 7) a_procFirst a_inverse a_invFirst a_invBegin a_symbols a_values a_operators → wpX_enterProcedure Q (f_textCap, nI sc, nI dc, f_ready, nI n, nI (st), nI (pt), nI (fc), f_symbolTop, f_pos, f_list, f_open, f_errorKind, f_errorPos, f_valueTop, f_operatorTop, fun j => nI (t j), cl, sk, fr, T 0, T 1, T 2, T 3, T 4, T 5, T 6, T 7, a_procFirst, a_inverse, a_invFirst, a_invBegin, a_symbols, a_values, a_operators) (nI s) (nI lb) (nI tk) := by
      intro f_valueTop f_operatorTop a_values a_operators Q h81
      unfold wpX_enterProcedure
      refine br_t (nI_lt hd (by omega)) ?_
      rw [nI_1]
      refine xh_char hn (by omega) X.2.1 ?_
      rw [gr_ch_n (by omega)]
      have c2' := c2
      unfold gr_nm at c2'
      refine xh_nam hts1 (fun _ => br_f (by decide) ?_) (fun h => (h c2).elim)
      have e65 : xp_c (t (s + 1)) - 65 = nI (t (s + 1) - 65) := by
        rw [xp_cs (by omega)]; exact pk_sub (a := t (s + 1)) (b := 65) (by omega)
      rw [e65]
      refine And.intro (vp_in_nI (by omega) (by omega)) ?_
      rw [nI_clamp (n := t (s + 1) - 65) (by omega), hpr _ c2, hv]
      show wX_enterProcedure_46 Q (nI s) (nI lb) (nI tk) (nI v) f_textCap (nI sc) (nI dc) f_ready (nI n) (nI (st)) (nI (pt)) (nI (fc)) f_symbolTop f_pos f_list f_open f_errorKind f_errorPos f_valueTop f_operatorTop (fun j => nI (t j)) cl sk fr (T 0) (T 1) (T 2) (T 3) (T 4) (T 5) (T 6) (T 7) a_procFirst a_inverse a_invFirst a_invBegin a_symbols a_values a_operators
      unfold wX_enterProcedure_46
      refine br_t (nI_pos' (by omega)) (And.intro (vp_in_nI (by omega) (by omega)) ?_)
      show (nI (t (nI s).toNatClampNeg) = 126 → _) ∧ (¬ nI (t (nI s).toNatClampNeg) = 126 → _)
      rw [nI_clamp (n := s) (by omega)]
      refine pk_eq (t s) 126 (fun e' => ?_) (fun e' => ?_) rfl rfl (by omega) (by omega)
      · rw [if_pos e'] at einn
        unfold wX_enterProcedure_73
        refine pk_eq lb 1 (fun z => ?_) (fun z => ?_) rfl rfl (by omega) (by omega)
        · have : inn = 0 := by omega
          rw [this] at h81; exact h81
        · have : inn = 1 := by omega
          rw [this] at h81; exact h81
      · rw [if_neg e'] at einn
        unfold wX_enterProcedure_73
        refine pk_eq lb 0 (fun z => ?_) (fun z => ?_) rfl rfl (by omega) (by omega)
        · have : inn = 0 := by omega
          rw [this] at h81; exact h81
        · have : inn = 1 := by omega
          rw [this] at h81; exact h81
    rcases Nat.le_one_iff_eq_zero_or_eq_one.mp htk with rfl | rfl
    · refine ⟨0, cl, sk, fr, st, pt, fc, ⟨i1, i2, i3, i4, i5, i6, i7⟩, fun f_valueTop f_operatorTop a_values a_operators Q hQ => ?_, fun b_kinds b_values Q hQ => ?_⟩
      · unfold wX_step_128
        refine hX _ _ _ _ _ ?_
        unfold wX_enterProcedure_81
        refine br_t rfl ?_
        unfold wX_enterProcedure_107
        exact xs_start (tk := 0) (by omega) t1v hinn (by omega) (hQ _ _ _ _)
      · unfold wpY_enter
        exact br_t (nI_lt hd (by omega)) (br_t rfl (hQ _ _))
    · have hfr' : sp_fr t n (upd fr fc (nI s)) (fc + 1) := by
        intro i hi
        by_cases e' : i = fc
        · exact ⟨s, hs2, by rw [e', pk_us], hb, hC⟩
        · obtain ⟨s', a1, a2, a3, a4⟩ := i4 i (by omega)
          exact ⟨s', a1, by rw [pk_un e']; exact a2, a3, a4⟩
      have hlb' : sp_lb t (upd fr fc (nI s)) b (fc + 1) = inn := by
        rw [sp_lb, sp_lb_upd fc (Nat.le_refl _), pk_us, nI_clamp (by omega), ← hlb, einn]
      have hmv : sp_mv 1 pt (if inn = 0 then v else sc_End t n v) = (if inn = 0 then v else sc_End t n v) := rfl
      refine ⟨0, cl, sk, upd fr fc (nI s), st, (if inn = 0 then v else sc_End t n v), fc + 1, ⟨?_, ?_, by omega, hfr', ?_, ?_, i7⟩, fun f_valueTop f_operatorTop a_values a_operators Q hQ => ?_, fun b_kinds b_values Q hQ => ?_⟩
      · rcases sp_list (a := v) (b := sc_End t n v) (lb := inn) with h | h <;> rw [h]
        · exact d2
        · rw [hev]; exact p3
      · rcases sp_list (a := v) (b := sc_End t n v) (lb := inn) with h | h <;> rw [h]
        · exact bv
        · rw [hev]; exact be
      · refine ⟨fun h => ?_, fun h => by omega⟩
        rcases sp_list (a := v) (b := sc_End t n v) (lb := inn) with h' | h' <;> rw [h'] at h
        · exact (nmv v (Nat.le_refl _) h).elim
        · rw [hev] at h; exact (nmv e (by omega) h).elim
      · intro i s' hi hs' e'
        by_cases e2 : i = fc
        · rw [e2, pk_us] at e'
          have : s = s' := (nI_eq (by omega) (by omega)).mp e'
          rw [← this, ← hpt, i5, e2]
        · rw [pk_un e2] at e'
          exact i6 i s' (by omega) hs' e'
      · unfold wX_step_128
        refine hX _ _ _ _ _ ?_
        unfold wX_enterProcedure_81
        refine br_f (by decide) (And.intro (vp_in_nI (by omega) (by omega)) (nm_r (e' := upd fr fc (nI s)) (by rw [nI_clamp (by omega)]) (nm_r (nI_1 fc) ?_)))
        unfold wX_enterProcedure_107
        exact xs_start (tk := 1) (by omega) t1v hinn (by omega) (hQ _ _ _ _)
      · unfold wpY_enter
        refine br_t (nI_lt hd (by omega)) (br_f (by decide) (And.intro (vp_in_nI (by omega) (by omega)) (nm_r (e' := upd fr fc (nI s)) (by rw [nI_clamp (by omega)]) (nm_r (nI_1 fc) ?_))))
        refine ys_lb X hbb (by omega) hfr' ?_
        rw [hlb', nI_1]
        refine And.intro (vp_in_nI (by omega) (by omega)) ?_
        show wpY_bodyOf _ _ (nI (t (nI (s + 1)).toNatClampNeg)) _
        rw [nI_clamp (by omega)]
        refine ys_body X hts1 (Nat.le_refl _) ?_
        rw [hv]
        show (nI inn = 0 → _) ∧ (¬ nI inn = 0 → _)
        refine pk_eq inn 0 (fun z => ?_) (fun z => ?_) rfl rfl (by omega) (by omega)
        · have := hQ b_kinds b_values
          rw [if_pos z] at this; exact this
        · refine ys_end X (by omega) ?_
          have := hQ b_kinds b_values
          rw [if_neg z] at this; exact this
  · refine ⟨7, cl, sk, fr, st, pt, fc, ⟨i1, i2, i3, i4, i5, i6, i7⟩, fun f_valueTop f_operatorTop a_values a_operators Q hQ => ?_, fun b_kinds b_values Q hQ => ?_⟩
    · unfold wX_step_128 wpX_enterProcedure
      exact br_f (nI_nlt (by omega) (by omega)) (hQ _ _ _ _)
    · unfold wpY_enter
      exact br_f (nI_nlt (by omega) (by omega)) (hQ _ _)
/-- at the edge of a procedure -/
theorem lf_leave (R : sp_R t n sc dc T a_procFirst) (I : sp_I t n sc dc fr fc pt st) {l b lb tk : Nat} (hl : 2 ≤ l) (hln : l ≤ n) (h58 : t (l - 2) = 58) (hnm : gr_nm (t (l - 1))) (hfc : fc ≠ 0) (hbb : b ≤ 1) (hlb : lb = sp_lb t fr b fc) (htk : tk ≤ 1) :
    sp_O t n sc dc T f_textCap f_ready f_symbolTop f_pos f_list f_open f_errorKind f_errorPos a_procFirst a_inverse a_invFirst a_invBegin a_symbols g_textLimit g_ready g_top g_errorPos b_wants b_inverse (fun f_valueTop f_operatorTop a_values a_operators Q => wpX_leaveList Q (f_textCap, nI sc, nI dc, f_ready, nI n, nI (st), nI (pt), nI (fc), f_symbolTop, f_pos, f_list, f_open, f_errorKind, f_errorPos, f_valueTop, f_operatorTop, fun j => nI (t j), cl, sk, fr, T 0, T 1, T 2, T 3, T 4, T 5, T 6, T 7, a_procFirst, a_inverse, a_invFirst, a_invBegin, a_symbols, a_values, a_operators) (nI l) (nI lb) (nI tk)) (fun b_kinds b_values Q => wpY_leave Q (g_textLimit, nI sc, nI dc, nI n, nI (st), nI (fc), nI (pt), g_ready, g_top, g_errorPos, fun j => nI (t j), cl, sk, fr, b_wants, b_inverse, b_kinds, b_values) (nI b) (nI tk)) := by
  obtain ⟨X, hG, hT, hpr, hnd, hsc, hdc⟩ := R
  have hn := X.1
  obtain ⟨i1, i2, i3, i4, i5, i6, i7⟩ := I
  have hlb1 : lb ≤ 1 := by rw [hlb]; exact sp_lb_le hbb _
  obtain ⟨f, rfl⟩ : ∃ f, fc = f + 1 := ⟨fc - 1, by omega⟩
  obtain ⟨s, s1, s2, s3, s4⟩ := i4 f (by omega)
  have hts := X.2.2 s
  have hgs : gr_s t s (s + 2) := Or.inr (Or.inr (Or.inl s4))
  have t3 : T 3 s = nI (s + 2 + 1) := sp_t3 hT s3 hgs s1
  have t2 : T 2 l = -1 := by
    have e2 : xt_S t n 2 l = -1 := by
      rw [xt_S2]; exact xt_if_f (fun h => by have := h.2; unfold gr_nm at hnm; omega)
    rw [hT.1 2 l (by omega) (by omega) e2, e2]
  have hAf := sc_Af_val hgs s1
  obtain ⟨out, hout, eout⟩ : ∃ out, out = sp_lb t fr b f ∧ lb = (if t s = 126 then 1 - out else out) := by
    refine ⟨_, rfl, ?_⟩
    rw [hlb, sp_lb, s2, nI_clamp (by omega)]
  have hout1 : out ≤ 1 := by rw [hout]; exact sp_lb_le hbb _
  have hX : ∀ (f_valueTop f_operatorTop : Int32) (a_values a_operators : Nat → Int32) (Q : Int32 → SX → Prop), wX_leaveProcedure_36 Q (nI tk) (nI s) (nI out) f_textCap (nI sc) (nI dc) f_ready (nI n) (nI (st)) (nI (pt)) (nI (f + 1)) f_symbolTop f_pos f_list f_open f_errorKind f_errorPos f_valueTop f_operatorTop (fun j => nI (t j)) cl sk fr (T 0) (T 1) (T 2) (T 3) (T 4) (T 5) (T 6) (T 7) a_procFirst a_inverse a_invFirst a_invBegin a_symbols a_values a_operators → wpX_leaveProcedure Q (f_textCap, nI sc, nI dc, f_ready, nI n, nI (st), nI (pt), nI (f + 1), f_symbolTop, f_pos, f_list, f_open, f_errorKind, f_errorPos, f_valueTop, f_operatorTop, fun j => nI (t j), cl, sk, fr, T 0, T 1, T 2, T 3, T 4, T 5, T 6, T 7, a_procFirst, a_inverse, a_invFirst, a_invBegin, a_symbols, a_values, a_operators) (nI lb) (nI tk) := by
    intro f_valueTop f_operatorTop a_values a_operators Q h36
    have e1 : nI (f + 1) - 1 = nI f := nI_pred f
    unfold wpX_leaveProcedure
    refine And.intro (by rw [e1]; exact vp_in_nI (by omega) (by omega)) (nm_r (e' := nI s) (by rw [e1, nI_clamp (by omega)]; exact s2) ?_)
    refine xh_char hn (by omega) X.2.1 ?_
    rw [gr_ch_n (by omega)]
    refine xp_eq 126 hts (fun e' => ?_) (fun e' => ?_)
    · rw [if_pos e'] at eout
      unfold wX_leaveProcedure_28
      refine pk_eq lb 1 (fun z => ?_) (fun z => ?_) rfl rfl (by omega) (by omega)
      · have : out = 0 := by omega
        rw [this] at h36; exact h36
      · have : out = 1 := by omega
        rw [this] at h36; exact h36
    · rw [if_neg e'] at eout
      unfold wX_leaveProcedure_28
      refine pk_eq lb 0 (fun z => ?_) (fun z => ?_) rfl rfl (by omega) (by omega)
      · have : out = 0 := by omega
        rw [this] at h36; exact h36
      · have : out = 1 := by omega
        rw [this] at h36; exact h36
  have hXl : ∀ (f_valueTop f_operatorTop : Int32) (a_values a_operators : Nat → Int32) (Q : Int32 → SX → Prop), (∀ Q' : Int32 → SX → Prop, (∀ r f_textCap f_stackCap f_depthCap f_ready f_size f_stackTop f_point f_frameCount f_symbolTop f_pos f_list f_open f_errorKind f_errorPos f_valueTop f_operatorTop a_text a_cells a_stack a_frames a_listOf a_listEnd a_owner a_stmtEnd a_stmtBegin a_firstA a_firstB a_opAt a_procFirst a_inverse a_invFirst a_invBegin a_symbols a_values a_operators, Q r (f_textCap, f_stackCap, f_depthCap, f_ready, f_size, f_stackTop, f_point, f_frameCount, f_symbolTop, f_pos, f_list, f_open, f_errorKind, f_errorPos, f_valueTop, f_operatorTop, a_text, a_cells, a_stack, a_frames, a_listOf, a_listEnd, a_owner, a_stmtEnd, a_stmtBegin, a_firstA, a_firstB, a_opAt, a_procFirst, a_inverse, a_invFirst, a_invBegin, a_symbols, a_values, a_operators) → Q' r (f_textCap, f_stackCap, f_depthCap, f_ready, f_size, f_stackTop, f_point, f_frameCount, f_symbolTop, f_pos, f_list, f_open, f_errorKind, f_errorPos, f_valueTop, f_operatorTop, a_text, a_cells, a_stack, a_frames, a_listOf, a_listEnd, a_owner, a_stmtEnd, a_stmtBegin, a_firstA, a_firstB, a_opAt, a_procFirst, a_inverse, a_invFirst, a_invBegin, a_symbols, a_values, a_operators)) → wpX_leaveProcedure Q' (f_textCap, nI sc, nI dc, f_ready, nI n, nI (st), nI (pt), nI (f + 1), f_symbolTop, f_pos, f_list, f_open, f_errorKind, f_errorPos, f_valueTop, f_operatorTop, fun j => nI (t j), cl, sk, fr, T 0, T 1, T 2, T 3, T 4, T 5, T 6, T 7, a_procFirst, a_inverse, a_invFirst, a_invBegin, a_symbols, a_values, a_operators) (nI lb) (nI tk)) → wpX_leaveList Q (f_textCap, nI sc, nI dc, f_ready, nI n, nI (st), nI (pt), nI (f + 1), f_symbolTop, f_pos, f_list, f_open, f_errorKind, f_errorPos, f_valueTop, f_operatorTop, fun j => nI (t j), cl, sk, fr, T 0, T 1, T 2, T 3, T 4, T 5, T 6, T 7, a_procFirst, a_inverse, a_invFirst, a_invBegin, a_symbols, a_values, a_operators) (nI l) (nI lb) (nI tk) := by
    intro f_valueTop f_operatorTop a_values a_operators Q h
    unfold wpX_leaveList
    refine And.intro (vp_in_nI (by omega) (by omega)) (nm_r (e' := -1) (by rw [nI_clamp (by omega)]; exact t2) (br_f (by decide) (br_f (nI_ne0 (by omega) (by omega)) (br_f (nI_ne0 (by omega) (by omega)) (h _ ?_)))))
    exact fun _ _ _ _ _ _ _ _ _ _ _ _ _ _ _ _ _ _ _ _ _ _ _ _ _ _ _ _ _ _ _ _ _ _ _ _ hq => hq
  rcases Nat.le_one_iff_eq_zero_or_eq_one.mp htk with rfl | rfl
  · refine ⟨0, cl, sk, fr, st, pt, f + 1, ⟨i1, i2, i3, i4, i5, i6, i7⟩, fun f_valueTop f_operatorTop a_values a_operators Q hQ => hXl _ _ _ _ Q (fun Q' hQ' => hX _ _ _ _ Q' ?_), fun b_kinds b_values Q hQ => ?_⟩
    · unfold wX_leaveProcedure_36
      refine br_t rfl ?_
      unfold wX_leaveProcedure_52
      exact xs_pass (tk := 0) (by omega) t3 hout1 (by omega) (hQ' _ _ _ _ _ _ _ _ _ _ _ _ _ _ _ _ _ _ _ _ _ _ _ _ _ _ _ _ _ _ _ _ _ _ _ _ (hQ _ _ _ _))
    · unfold wpY_leave
      exact br_t rfl (hQ _ _)
  · have hfr' : sp_fr t n fr f := fun i hi => i4 i (by omega)
    have bz : sc_bg t (s + 3) := sc_bg_1 (p := s + 2) (Or.inl (gr_s_59 hgs))
    have hmn := i6 f s (by omega) (by omega) s2
    have hok := sc_s hgs
    refine ⟨0, cl, sk, fr, st, (if out = 0 then s + 2 + 1 else s), f, ⟨?_, ?_, by omega, hfr', ?_, fun i s' hi hs' e' => i6 i s' (by omega) hs' e', i7⟩, fun f_valueTop f_operatorTop a_values a_operators Q hQ => hXl _ _ _ _ Q (fun Q' hQ' => hX _ _ _ _ Q' ?_), fun b_kinds b_values Q hQ => ?_⟩
    · rcases sp_list (a := s + 2 + 1) (b := s) (lb := out) with h | h <;> rw [h] <;> omega
    · rcases sp_list (a := s + 2 + 1) (b := s) (lb := out) with h | h <;> rw [h]
      · exact bz
      · exact s3
    · rcases sp_list (a := s + 2 + 1) (b := s) (lb := out) with h | h <;> rw [h]
      · exact (sp_mn_s (a := s) (b := s + 2 + 1) (fun i a b => hok.2.2 i a b) ⟨by omega, by omega⟩ ⟨by omega, by omega⟩).trans hmn
      · exact hmn
    · unfold wX_leaveProcedure_36
      refine br_f (by decide) (nm_r (nI_pred f) ?_)
      unfold wX_leaveProcedure_52
      exact xs_pass (tk := 1) (by omega) t3 hout1 (by omega) (hQ' _ _ _ _ _ _ _ _ _ _ _ _ _ _ _ _ _ _ _ _ _ _ _ _ _ _ _ _ _ _ _ _ _ _ _ _ (hQ _ _ _ _))
    · unfold wpY_leave
      refine br_f (by decide) (br_f (nI_ne0 (by omega) (by omega)) (nm_r (nI_pred f) (And.intro (vp_in_nI (by omega) (by omega)) (nm_r (e' := nI s) (by rw [nI_clamp (by omega)]; exact s2) ?_))))
      refine ys_lb X hbb (by omega) hfr' ?_
      rw [← hout]
      refine pk_eq out 0 (fun z => ys_af X (by omega) ?_) (fun z => ?_) rfl rfl (by omega) (by omega)
      · rw [hAf]
        have := hQ b_kinds b_values
        rw [if_pos z] at this; exact this
      · have := hQ b_kinds b_values
        rw [if_neg z] at this; exact this
end
end
section
/-! the leaves of a step: stack statements, updates, swaps -/
section
variable {cl sk fr : Nat → Int32}
variable {f_textCap f_ready f_symbolTop f_pos f_list f_open f_errorKind f_errorPos : Int32} {a_procFirst a_inverse a_invFirst a_invBegin a_symbols : Nat → Int32} {g_textLimit g_ready g_top g_errorPos : Int32} {b_wants b_inverse : Nat → Int32}
variable {t : Nat → Nat} {n sc dc : Nat} {T : Nat → Nat → Int32} {st pt fc : Nat}
theorem lf_stack (R : sp_R t n sc dc T a_procFirst) (I : sp_I t n sc dc fr fc pt st) {s q lb tk : Nat} (hb : sc_bg t s) (hK : gr_K t s q) (hq : q < n) (hpt : sp_mn t pt ↔ sp_mn t s) (hlb : lb ≤ 1) (htk : tk ≤ 1) :
    sp_O t n sc dc T f_textCap f_ready f_symbolTop f_pos f_list f_open f_errorKind f_errorPos a_procFirst a_inverse a_invFirst a_invBegin a_symbols g_textLimit g_ready g_top g_errorPos b_wants b_inverse (fun f_valueTop f_operatorTop a_values a_operators Q => wX_step_73 Q (nI tk) (nI lb) (nI s) f_textCap (nI sc) (nI dc) f_ready (nI n) (nI (st)) (nI (pt)) (nI (fc)) f_symbolTop f_pos f_list f_open f_errorKind f_errorPos f_valueTop f_operatorTop (fun j => nI (t j)) cl sk fr (T 0) (T 1) (T 2) (T 3) (T 4) (T 5) (T 6) (T 7) a_procFirst a_inverse a_invFirst a_invBegin a_symbols a_values a_operators) (fun b_kinds b_values Q => wpY_pass Q (g_textLimit, nI sc, nI dc, nI n, nI (st), nI (fc), nI (pt), g_ready, g_top, g_errorPos, fun j => nI (t j), cl, sk, fr, b_wants, b_inverse, b_kinds, b_values) (nI s) (nI lb) (nI tk)) := by
  obtain ⟨X, hG, hT, hpr, hnd, hsc, hdc⟩ := R
  have hn := X.1
  obtain ⟨i1, i2, i3, i4, i5, i6, i7⟩ := I
  have hgs : gr_s t s q := Or.inr (Or.inl hK)
  have hlt := gr_S_lt hgs
  have t3 : T 3 s = nI (q + 1) := sp_t3 hT hb hgs hq
  have hAf := sc_Af_val hgs hq
  have hok := sc_s hgs
  have h59 := gr_s_59 hgs
  have hts := X.2.2 s
  obtain ⟨k1, k2, _⟩ := hK
  obtain ⟨c, hc⟩ := tg_of cl k2
  have hcin := tg_in hc
  have bq : sc_bg t (q + 1) := sc_bg_1 (Or.inl h59)
  have hmn : ∀ x, s ≤ x → x ≤ q + 1 → (sp_mn t x ↔ sp_mn t pt) := fun x h1 h2 => (sp_mn_s (fun i a b => hok.2.2 i a b) ⟨h1, h2⟩ ⟨Nat.le_refl s, by omega⟩).trans hpt.symm
  obtain ⟨pu, hpu, epu⟩ : ∃ pu, pu ≤ 1 ∧ pu = (if t s = 62 then 1 - lb else lb) := by
    refine ⟨_, ?_, rfl⟩
    split <;> omega
  have mv : ∀ st' fr', st' ≤ sc → fr' = fr → sp_I t n sc dc fr' fc (sp_mv tk pt (if lb = 0 then q + 1 else s)) st' := by
    intro st' fr' h1 h2
    subst h2
    refine sp_mv_I ⟨i1, i2, i3, i4, i5, i6, h1⟩ ?_ ?_ ?_
    · rcases sp_list (a := q + 1) (b := s) (lb := lb) with h | h <;> rw [h] <;> omega
    · rcases sp_list (a := q + 1) (b := s) (lb := lb) with h | h <;> rw [h]
      · exact bq
      · exact hb
    · rcases sp_list (a := q + 1) (b := s) (lb := lb) with h | h <;> rw [h]
      · exact hmn _ (by omega) (by omega)
      · exact hmn _ (by omega) (by omega)
  have hX : ∀ (f_valueTop f_operatorTop : Int32) (a_values a_operators : Nat → Int32) (Q : Int32 → SX → Prop), (∀ Q' : Int32 → SX → Prop, (∀ r f_textCap f_stackCap f_depthCap f_ready f_size f_stackTop f_point f_frameCount f_symbolTop f_pos f_list f_open f_errorKind f_errorPos f_valueTop f_operatorTop a_text a_cells a_stack a_frames a_listOf a_listEnd a_owner a_stmtEnd a_stmtBegin a_firstA a_firstB a_opAt a_procFirst a_inverse a_invFirst a_invBegin a_symbols a_values a_operators, Q r (f_textCap, f_stackCap, f_depthCap, f_ready, f_size, f_stackTop, f_point, f_frameCount, f_symbolTop, f_pos, f_list, f_open, f_errorKind, f_errorPos, f_valueTop, f_operatorTop, a_text, a_cells, a_stack, a_frames, a_listOf, a_listEnd, a_owner, a_stmtEnd, a_stmtBegin, a_firstA, a_firstB, a_opAt, a_procFirst, a_inverse, a_invFirst, a_invBegin, a_symbols, a_values, a_operators) → Q' r (f_textCap, f_stackCap, f_depthCap, f_ready, f_size, f_stackTop, f_point, f_frameCount, f_symbolTop, f_pos, f_list, f_open, f_errorKind, f_errorPos, f_valueTop, f_operatorTop, a_text, a_cells, a_stack, a_frames, a_listOf, a_listEnd, a_owner, a_stmtEnd, a_stmtBegin, a_firstA, a_firstB, a_opAt, a_procFirst, a_inverse, a_invFirst, a_invBegin, a_symbols, a_values, a_operators)) → ∀ f_valueTop f_operatorTop a_values a_operators, wX_stackStatement_34 Q' (nI s) (nI lb) (nI tk) c (nI pu) f_textCap (nI sc) (nI dc) f_ready (nI n) (nI (st)) (nI (pt)) (nI (fc)) f_symbolTop f_pos f_list f_open f_errorKind f_errorPos f_valueTop f_operatorTop (fun j => nI (t j)) cl sk fr (T 0) (T 1) (T 2) (T 3) (T 4) (T 5) (T 6) (T 7) a_procFirst a_inverse a_invFirst a_invBegin a_symbols a_values a_operators) → wX_step_73 Q (nI tk) (nI lb) (nI s) f_textCap (nI sc) (nI dc) f_ready (nI n) (nI (st)) (nI (pt)) (nI (fc)) f_symbolTop f_pos f_list f_open f_errorKind f_errorPos f_valueTop f_operatorTop (fun j => nI (t j)) cl sk fr (T 0) (T 1) (T 2) (T 3) (T 4) (T 5) (T 6) (T 7) a_procFirst a_inverse a_invFirst a_invBegin a_symbols a_values a_operators := by
    intro f_valueTop f_operatorTop a_values a_operators Q h34
    have h151 : wX_step_151 Q (nI tk) (nI lb) (nI s) f_textCap (nI sc) (nI dc) f_ready (nI n) (nI (st)) (nI (pt)) (nI (fc)) f_symbolTop f_pos f_list f_open f_errorKind f_errorPos f_valueTop f_operatorTop (fun j => nI (t j)) cl sk fr (T 0) (T 1) (T 2) (T 3) (T 4) (T 5) (T 6) (T 7) a_procFirst a_inverse a_invFirst a_invBegin a_symbols a_values a_operators := by
      unfold wX_step_151 wpX_stackStatement
      rw [nI_1]
      refine xs_targ X (by omega) k2 hc (fun _ _ _ _ => And.intro (vp_in_nI (by omega) (by omega)) ?_)
      show (nI (t (nI s).toNatClampNeg) = 62 → _) ∧ (¬ nI (t (nI s).toNatClampNeg) = 62 → _)
      rw [nI_clamp (n := s) (by omega)]
      refine pk_eq (t s) 62 (fun e' => ?_) (fun e' => ?_) rfl rfl (by omega) (by omega)
      · rw [if_pos e'] at epu
        unfold wX_stackStatement_25
        refine pk_eq 1 lb (fun z => ?_) (fun z => ?_) rfl rfl (by omega) (by omega)
        · have : pu = 0 := by omega
          have h := h34 _ (fun _ _ _ _ _ _ _ _ _ _ _ _ _ _ _ _ _ _ _ _ _ _ _ _ _ _ _ _ _ _ _ _ _ _ _ _ hq => hq)
          rw [this] at h
          exact h _ _ _ _
        · have : pu = 1 := by omega
          have h := h34 _ (fun _ _ _ _ _ _ _ _ _ _ _ _ _ _ _ _ _ _ _ _ _ _ _ _ _ _ _ _ _ _ _ _ _ _ _ _ hq => hq)
          rw [this] at h
          exact h _ _ _ _
      · rw [if_neg e'] at epu
        unfold wX_stackStatement_25
        refine pk_eq 0 lb (fun z => ?_) (fun z => ?_) rfl rfl (by omega) (by omega)
        · have : pu = 0 := by omega
          have h := h34 _ (fun _ _ _ _ _ _ _ _ _ _ _ _ _ _ _ _ _ _ _ _ _ _ _ _ _ _ _ _ _ _ _ _ _ _ _ _ hq => hq)
          rw [this] at h
          exact h _ _ _ _
        · have : pu = 1 := by omega
          have h := h34 _ (fun _ _ _ _ _ _ _ _ _ _ _ _ _ _ _ _ _ _ _ _ _ _ _ _ _ _ _ _ _ _ _ _ _ _ _ _ hq => hq)
          rw [this] at h
          exact h _ _ _ _
    unfold wX_step_73
    refine br_t (nI_pos' (by omega)) (And.intro (vp_in_nI (by omega) (by omega)) (nm_r (e' := nI (t s)) (by show nI (t (nI s).toNatClampNeg) = _; rw [nI_clamp (by omega)]) ?_))
    exact pk_eq (t s) 63 (fun _ => by omega) (fun n63 => pk_eq (t s) 64 (fun _ => by omega) (fun n64 => pk_eq (t s) 33 (fun _ => by omega) (fun n33 => pk_eq (t s) 126 (fun _ => by omega) (fun n126 => pk_eq (t s) 62 (fun _ => h151) (fun n62 => pk_eq (t s) 60 (fun _ => h151) (fun n60 => by omega) rfl rfl (by omega) (by omega)) rfl rfl (by omega) (by omega)) rfl rfl (by omega) (by omega)) rfl rfl (by omega) (by omega)) rfl rfl (by omega) (by omega)) rfl rfl (by omega) (by omega)
  have hY : ∀ (b_kinds b_values : Nat → Int32) (Q : Int32 → SY → Prop), (∀ b_kinds b_values, wY_pass_142 Q (nI tk) (nI (if lb = 0 then q + 1 else s)) c (nI pu) g_textLimit (nI sc) (nI dc) (nI n) (nI (st)) (nI (fc)) (nI (pt)) g_ready g_top g_errorPos (fun j => nI (t j)) cl sk fr b_wants b_inverse b_kinds b_values) → wpY_pass Q (g_textLimit, nI sc, nI dc, nI n, nI (st), nI (fc), nI (pt), g_ready, g_top, g_errorPos, fun j => nI (t j), cl, sk, fr, b_wants, b_inverse, b_kinds, b_values) (nI s) (nI lb) (nI tk) := by
    intro b_kinds b_values Q h142
    have h112 : wY_pass_112 Q (nI s) (nI lb) (nI tk) (nI (t s)) (nI (if lb = 0 then q + 1 else s)) g_textLimit (nI sc) (nI dc) (nI n) (nI (st)) (nI (fc)) (nI (pt)) g_ready g_top g_errorPos (fun j => nI (t j)) cl sk fr b_wants b_inverse b_kinds b_values := by
      unfold wY_pass_112
      rw [nI_1]
      refine ys_targ X (by omega) k2 hc (fun k1 k2 => ?_)
      have h := h142 k1 k2
      refine pk_eq (t s) 62 (fun e' => ?_) (fun e' => ?_) rfl rfl (by omega) (by omega)
      · rw [if_pos e'] at epu
        unfold wY_pass_133
        refine pk_eq 1 lb (fun z => ?_) (fun z => ?_) rfl rfl (by omega) (by omega)
        · have : pu = 0 := by omega
          rw [this] at h; exact h
        · have : pu = 1 := by omega
          rw [this] at h; exact h
      · rw [if_neg e'] at epu
        unfold wY_pass_133
        refine pk_eq 0 lb (fun z => ?_) (fun z => ?_) rfl rfl (by omega) (by omega)
        · have : pu = 0 := by omega
          rw [this] at h; exact h
        · have : pu = 1 := by omega
          rw [this] at h; exact h
    have h25 : ∀ x5 : Int32, wY_pass_25 Q (nI s) (nI lb) (nI tk) (nI (t s)) x5 (nI (if lb = 0 then q + 1 else s)) g_textLimit (nI sc) (nI dc) (nI n) (nI (st)) (nI (fc)) (nI (pt)) g_ready g_top g_errorPos (fun j => nI (t j)) cl sk fr b_wants b_inverse b_kinds b_values := by
      intro x5
      unfold wY_pass_25
      exact pk_eq (t s) 63 (fun _ => by omega) (fun n63 => pk_eq (t s) 64 (fun _ => by omega) (fun n64 => pk_eq (t s) 62 (fun _ => h112) (fun n62 => pk_eq (t s) 60 (fun _ => h112) (fun n60 => by omega) rfl rfl (by omega) (by omega)) rfl rfl (by omega) (by omega)) rfl rfl (by omega) (by omega)) rfl rfl (by omega) (by omega)
    unfold wpY_pass
    refine And.intro (vp_in_nI (by omega) (by omega)) (nm_r (e' := nI (t s)) (by show nI (t (nI s).toNatClampNeg) = _; rw [nI_clamp (by omega)]) (ys_af X (by omega) ?_))
    rw [hAf]
    refine pk_eq lb 0 (fun z => ?_) (fun z => ?_) rfl rfl (by omega) (by omega)
    · have h := h25 (nI (q + 1))
      rw [if_pos z] at h; exact h
    · have h := h25 (nI (q + 1))
      rw [if_neg z] at h; exact h
  rcases Nat.le_one_iff_eq_zero_or_eq_one.mp hpu with h0 | h0
  · -- pop
    subst h0
    by_cases hs0 : st = 0
    · refine ⟨5, cl, sk, fr, st, pt, fc, ⟨i1, i2, i3, i4, i5, i6, i7⟩, fun f_valueTop f_operatorTop a_values a_operators Q hQ => hX _ _ _ _ Q (fun Q' hQ' _ _ _ _ => ?_), fun b_kinds b_values Q hQ => hY _ _ Q (fun _ _ => ?_)⟩
      · unfold wX_stackStatement_34
        refine br_t rfl (br_t (by rw [hs0]; rfl) (hQ' _ _ _ _ _ _ _ _ _ _ _ _ _ _ _ _ _ _ _ _ _ _ _ _ _ _ _ _ _ _ _ _ _ _ _ _ (hQ _ _ _ _)))
      · unfold wY_pass_142
        refine br_t rfl ?_
        unfold wY_pass_162
        exact br_t rfl (br_t (by rw [hs0]; rfl) (hQ _ _))
    · by_cases hz : cl c.toNatClampNeg = 0
      · rcases Nat.le_one_iff_eq_zero_or_eq_one.mp htk with h1 | h1
        · subst h1
          refine ⟨0, cl, sk, fr, st, pt, fc, ⟨i1, i2, i3, i4, i5, i6, i7⟩, fun f_valueTop f_operatorTop a_values a_operators Q hQ => hX _ _ _ _ Q (fun Q' hQ' _ _ _ _ => ?_), fun b_kinds b_values Q hQ => hY _ _ Q (fun _ _ => ?_)⟩
          · unfold wX_stackStatement_34
            refine br_t rfl (br_f (nI_ne0 (by omega) (by omega)) (And.intro hcin (br_t hz (br_t rfl ?_))))
            unfold wX_stackStatement_147
            exact xs_pass (tk := 0) (by omega) t3 hlb (by omega) (hQ' _ _ _ _ _ _ _ _ _ _ _ _ _ _ _ _ _ _ _ _ _ _ _ _ _ _ _ _ _ _ _ _ _ _ _ _ (hQ _ _ _ _))
          · unfold wY_pass_142
            refine br_t rfl ?_
            unfold wY_pass_162
            refine br_t rfl (br_f (nI_ne0 (by omega) (by omega)) ?_)
            unfold wY_pass_176
            refine br_t rfl (And.intro hcin (br_t hz ?_))
            unfold wY_pass_194
            refine br_t rfl ?_
            unfold wY_pass_237
            refine br_t rfl ?_
            unfold wY_pass_272
            exact ys_289 (tk := 0) (by omega) (hQ _ _)
        · subst h1
          have em : nI st - 1 = nI (st - 1) := pk_sub (a := st) (b := 1) (by omega)
          have hmv := mv (st - 1) fr (by omega) rfl
          refine ⟨0, upd cl c.toNatClampNeg (sk (st - 1)), sk, fr, st - 1, _, fc, hmv, fun f_valueTop f_operatorTop a_values a_operators Q hQ => hX _ _ _ _ Q (fun Q' hQ' _ _ _ _ => ?_), fun b_kinds b_values Q hQ => hY _ _ Q (fun _ _ => ?_)⟩
          · unfold wX_stackStatement_34
            refine br_t rfl (br_f (nI_ne0 (by omega) (by omega)) (And.intro hcin (br_t hz (br_f (by decide) (nm_r em (And.intro (vp_in_nI (by omega) (by omega)) (And.intro hcin (nm_r (e' := upd cl c.toNatClampNeg (sk (st - 1))) (by rw [nI_clamp (n := st - 1) (by omega)]) ?_))))))))
            unfold wX_stackStatement_147
            exact xs_pass (tk := 1) (by omega) t3 hlb (by omega) (hQ' _ _ _ _ _ _ _ _ _ _ _ _ _ _ _ _ _ _ _ _ _ _ _ _ _ _ _ _ _ _ _ _ _ _ _ _ (hQ _ _ _ _))
          · unfold wY_pass_142
            refine br_t rfl ?_
            unfold wY_pass_162
            refine br_t rfl (br_f (nI_ne0 (by omega) (by omega)) ?_)
            unfold wY_pass_176
            refine br_t rfl (And.intro hcin (br_t hz ?_))
            unfold wY_pass_194
            refine br_f (by decide) (br_t rfl ?_)
            unfold wY_pass_237
            refine br_f (by decide) (br_t rfl (nm_r em (And.intro (vp_in_nI (by omega) (by omega)) (And.intro hcin (nm_r (e' := upd cl c.toNatClampNeg (sk (st - 1))) (by rw [nI_clamp (n := st - 1) (by omega)]) ?_)))))
            unfold wY_pass_272
            exact ys_289 (tk := 1) (by omega) (hQ _ _)
      · refine ⟨6, cl, sk, fr, st, pt, fc, ⟨i1, i2, i3, i4, i5, i6, i7⟩, fun f_valueTop f_operatorTop a_values a_operators Q hQ => hX _ _ _ _ Q (fun Q' hQ' _ _ _ _ => ?_), fun b_kinds b_values Q hQ => hY _ _ Q (fun _ _ => ?_)⟩
        · unfold wX_stackStatement_34
          exact br_t rfl (br_f (nI_ne0 (by omega) (by omega)) (And.intro hcin (br_f hz (hQ' _ _ _ _ _ _ _ _ _ _ _ _ _ _ _ _ _ _ _ _ _ _ _ _ _ _ _ _ _ _ _ _ _ _ _ _ (hQ _ _ _ _)))))
        · unfold wY_pass_142
          refine br_t rfl ?_
          unfold wY_pass_162
          refine br_t rfl (br_f (nI_ne0 (by omega) (by omega)) ?_)
          unfold wY_pass_176
          exact br_t rfl (And.intro hcin (br_f hz (hQ _ _)))
  · -- push
    subst h0
    by_cases hs0 : st < sc
    · rcases Nat.le_one_iff_eq_zero_or_eq_one.mp htk with h1 | h1
      · subst h1
        refine ⟨0, cl, sk, fr, st, pt, fc, ⟨i1, i2, i3, i4, i5, i6, i7⟩, fun f_valueTop f_operatorTop a_values a_operators Q hQ => hX _ _ _ _ Q (fun Q' hQ' _ _ _ _ => ?_), fun b_kinds b_values Q hQ => hY _ _ Q (fun _ _ => ?_)⟩
        · unfold wX_stackStatement_34
          refine br_f (by decide) (br_t (nI_lt hs0 (by omega)) (br_t rfl ?_))
          unfold wX_stackStatement_147
          exact xs_pass (tk := 0) (by omega) t3 hlb (by omega) (hQ' _ _ _ _ _ _ _ _ _ _ _ _ _ _ _ _ _ _ _ _ _ _ _ _ _ _ _ _ _ _ _ _ _ _ _ _ (hQ _ _ _ _))
        · unfold wY_pass_142
          refine br_f (by decide) (br_t (nI_lt hs0 (by omega)) ?_)
          unfold wY_pass_162
          refine br_f (by decide) ?_
          unfold wY_pass_176
          refine br_f (by decide) ?_
          unfold wY_pass_194
          refine br_t rfl ?_
          unfold wY_pass_237
          refine br_t rfl ?_
          unfold wY_pass_272
          exact ys_289 (tk := 0) (by omega) (hQ _ _)
      · subst h1
        have hmv := mv (st + 1) fr (by omega) rfl
        refine ⟨0, upd cl c.toNatClampNeg 0, upd sk st (cl c.toNatClampNeg), fr, st + 1, _, fc, hmv, fun f_valueTop f_operatorTop a_values a_operators Q hQ => hX _ _ _ _ Q (fun Q' hQ' _ _ _ _ => ?_), fun b_kinds b_values Q hQ => hY _ _ Q (fun _ _ => ?_)⟩
        · unfold wX_stackStatement_34
          refine br_f (by decide) (br_t (nI_lt hs0 (by omega)) (br_f (by decide) (And.intro hcin (And.intro (vp_in_nI (by omega) (by omega)) (nm_r (e' := upd sk st (cl c.toNatClampNeg)) (by rw [nI_clamp (n := st) (by omega)]) (nm_r (nI_1 st) (And.intro hcin (nm_e ?_))))))))
          unfold wX_stackStatement_147
          exact xs_pass (tk := 1) (by omega) t3 hlb (by omega) (hQ' _ _ _ _ _ _ _ _ _ _ _ _ _ _ _ _ _ _ _ _ _ _ _ _ _ _ _ _ _ _ _ _ _ _ _ _ (hQ _ _ _ _))
        · unfold wY_pass_142
          refine br_f (by decide) (br_t (nI_lt hs0 (by omega)) ?_)
          unfold wY_pass_162
          refine br_f (by decide) ?_
          unfold wY_pass_176
          refine br_f (by decide) ?_
          unfold wY_pass_194
          refine br_f (by decide) (br_f (by decide) (And.intro hcin (And.intro (vp_in_nI (by omega) (by omega)) (nm_r (e' := upd sk st (cl c.toNatClampNeg)) (by rw [nI_clamp (n := st) (by omega)]) (nm_r (nI_1 st) (And.intro hcin (nm_e ?_)))))))
          unfold wY_pass_237
          refine br_f (by decide) (br_f (by decide) ?_)
          unfold wY_pass_272
          exact ys_289 (tk := 1) (by omega) (hQ _ _)
    · refine ⟨4, cl, sk, fr, st, pt, fc, ⟨i1, i2, i3, i4, i5, i6, i7⟩, fun f_valueTop f_operatorTop a_values a_operators Q hQ => hX _ _ _ _ Q (fun Q' hQ' _ _ _ _ => ?_), fun b_kinds b_values Q hQ => hY _ _ Q (fun _ _ => ?_)⟩
      · unfold wX_stackStatement_34
        exact br_f (by decide) (br_f (nI_nlt (by omega) (by omega)) (hQ' _ _ _ _ _ _ _ _ _ _ _ _ _ _ _ _ _ _ _ _ _ _ _ _ _ _ _ _ _ _ _ _ _ _ _ _ (hQ _ _ _ _)))
      · unfold wY_pass_142
        exact br_f (by decide) (br_f (nI_nlt (by omega) (by omega)) (hQ _ _))
theorem lf_upd (R : sp_R t n sc dc T a_procFirst) (I : sp_I t n sc dc fr fc pt st) {s o q lb tk : Nat} (hb : sc_bg t s) (hU : gr_U t s o q) (hq : q < n) (hpt : sp_mn t pt ↔ sp_mn t s) (hlb : lb ≤ 1) (htk : tk ≤ 1) :
    sp_O t n sc dc T f_textCap f_ready f_symbolTop f_pos f_list f_open f_errorKind f_errorPos a_procFirst a_inverse a_invFirst a_invBegin a_symbols g_textLimit g_ready g_top g_errorPos b_wants b_inverse (fun f_valueTop f_operatorTop a_values a_operators Q => wX_step_73 Q (nI tk) (nI lb) (nI s) f_textCap (nI sc) (nI dc) f_ready (nI n) (nI (st)) (nI (pt)) (nI (fc)) f_symbolTop f_pos f_list f_open f_errorKind f_errorPos f_valueTop f_operatorTop (fun j => nI (t j)) cl sk fr (T 0) (T 1) (T 2) (T 3) (T 4) (T 5) (T 6) (T 7) a_procFirst a_inverse a_invFirst a_invBegin a_symbols a_values a_operators) (fun b_kinds b_values Q => wpY_pass Q (g_textLimit, nI sc, nI dc, nI n, nI (st), nI (fc), nI (pt), g_ready, g_top, g_errorPos, fun j => nI (t j), cl, sk, fr, b_wants, b_inverse, b_kinds, b_values) (nI s) (nI lb) (nI tk)) := by
  obtain ⟨X, hG, hT, hpr, hnd, hsc, hdc⟩ := R
  have hn := X.1
  obtain ⟨i1, i2, i3, i4, i5, i6, i7⟩ := I
  have hgs : gr_s t s q := Or.inl ⟨o, hU⟩
  have hlt := gr_S_lt hgs
  have t3 : T 3 s = nI (q + 1) := sp_t3 hT hb hgs hq
  have hAf := sc_Af_val hgs hq
  have hok := sc_s hgs
  have h59 := gr_s_59 hgs
  have hts := X.2.2 s
  have hto := X.2.2 o
  obtain ⟨hTg, _, hr⟩ := hU
  have hsr := gr_T_sr hTg
  have hso := gr_T_lt hTg
  have hoq : o + 1 < q := by
    rcases hr with ⟨_, h⟩ | ⟨_, h⟩
    · exact gr_E_ne h
    · exact gr_T_lt h
  have hss : sc_ss t n s := ⟨by omega, gr_S_sr hgs⟩
  have t7 : T 7 s = nI o := by
    rw [hT.2 7 s (by omega) ⟨hb, Or.inr (Or.inr (Or.inr (Or.inr (Or.inl ⟨Or.inr rfl, hss⟩))))⟩, xt_S7, xt_if_t ⟨hb, hss, hsr⟩, sc_Te_val hTg (by omega)]
  have hne : t s ≠ 63 ∧ t s ≠ 64 ∧ t s ≠ 33 ∧ t s ≠ 126 ∧ t s ≠ 62 ∧ t s ≠ 60 := by
    rcases hsr with h | h
    · unfold gr_vr at h; omega
    · omega
  have hs93 : t s ≠ 93 := by
    rcases hsr with h | h
    · unfold gr_vr at h; omega
    · omega
  obtain ⟨c, hc⟩ := tg_of cl hTg
  have hcin := tg_in hc
  have bq : sc_bg t (q + 1) := sc_bg_1 (Or.inl h59)
  have hmn : ∀ x, s ≤ x → x ≤ q + 1 → (sp_mn t x ↔ sp_mn t pt) := fun x h1 h2 => (sp_mn_s (fun i a b => hok.2.2 i a b) ⟨h1, h2⟩ ⟨Nat.le_refl s, by omega⟩).trans hpt.symm
  have mv : sp_I t n sc dc fr fc (sp_mv tk pt (if lb = 0 then q + 1 else s)) st := by
    refine sp_mv_I ⟨i1, i2, i3, i4, i5, i6, i7⟩ ?_ ?_ ?_
    · rcases sp_list (a := q + 1) (b := s) (lb := lb) with h | h <;> rw [h] <;> omega
    · rcases sp_list (a := q + 1) (b := s) (lb := lb) with h | h <;> rw [h]
      · exact bq
      · exact hb
    · rcases sp_list (a := q + 1) (b := s) (lb := lb) with h | h <;> rw [h]
      · exact hmn _ (by omega) (by omega)
      · exact hmn _ (by omega) (by omega)
  have hnp : ∀ k, t s ≠ k → k < 127 → ¬ nI (t s) = nI k := fun k h hk z => h ((nI_eq (by omega) (by omega)).mp z)
  -- X up to the last branch of the step
  have hXs : ∀ (f_valueTop f_operatorTop : Int32) (a_values a_operators : Nat → Int32) (Q : Int32 → SX → Prop), (nI tk = 0 → wX_step_189 Q (nI tk) (nI lb) (nI s) f_textCap (nI sc) (nI dc) f_ready (nI n) (nI (st)) (nI (pt)) (nI (fc)) f_symbolTop f_pos f_list f_open f_errorKind f_errorPos f_valueTop f_operatorTop (fun j => nI (t j)) cl sk fr (T 0) (T 1) (T 2) (T 3) (T 4) (T 5) (T 6) (T 7) a_procFirst a_inverse a_invFirst a_invBegin a_symbols a_values a_operators) → (¬ nI tk = 0 → t o = 36 → ∀ P : SX → Prop, (∀ f_textCap f_stackCap f_depthCap f_ready f_size f_stackTop f_point f_frameCount f_symbolTop f_pos f_list f_open f_errorKind f_errorPos f_valueTop f_operatorTop a_text a_cells a_stack a_frames a_listOf a_listEnd a_owner a_stmtEnd a_stmtBegin a_firstA a_firstB a_opAt a_procFirst a_inverse a_invFirst a_invBegin a_symbols a_values a_operators, wX_step_189 Q (nI tk) (nI lb) (nI s) f_textCap f_stackCap f_depthCap f_ready f_size f_stackTop f_point f_frameCount f_symbolTop f_pos f_list f_open f_errorKind f_errorPos f_valueTop f_operatorTop a_text a_cells a_stack a_frames a_listOf a_listEnd a_owner a_stmtEnd a_stmtBegin a_firstA a_firstB a_opAt a_procFirst a_inverse a_invFirst a_invBegin a_symbols a_values a_operators → P (f_textCap, f_stackCap, f_depthCap, f_ready, f_size, f_stackTop, f_point, f_frameCount, f_symbolTop, f_pos, f_list, f_open, f_errorKind, f_errorPos, f_valueTop, f_operatorTop, a_text, a_cells, a_stack, a_frames, a_listOf, a_listEnd, a_owner, a_stmtEnd, a_stmtBegin, a_firstA, a_firstB, a_opAt, a_procFirst, a_inverse, a_invFirst, a_invBegin, a_symbols, a_values, a_operators)) → wpX_swap P (f_textCap, nI sc, nI dc, f_ready, nI n, nI (st), nI (pt), nI (fc), f_symbolTop, f_pos, f_list, f_open, f_errorKind, f_errorPos, f_valueTop, f_operatorTop, fun j => nI (t j), cl, sk, fr, T 0, T 1, T 2, T 3, T 4, T 5, T 6, T 7, a_procFirst, a_inverse, a_invFirst, a_invBegin, a_symbols, a_values, a_operators) (nI s)) →
      (¬ nI tk = 0 → t o ≠ 36 → ∀ P : SX → Prop, (∀ f_textCap f_stackCap f_depthCap f_ready f_size f_stackTop f_point f_frameCount f_symbolTop f_pos f_list f_open f_errorKind f_errorPos f_valueTop f_operatorTop a_text a_cells a_stack a_frames a_listOf a_listEnd a_owner a_stmtEnd a_stmtBegin a_firstA a_firstB a_opAt a_procFirst a_inverse a_invFirst a_invBegin a_symbols a_values a_operators, wX_step_189 Q (nI tk) (nI lb) (nI s) f_textCap f_stackCap f_depthCap f_ready f_size f_stackTop f_point f_frameCount f_symbolTop f_pos f_list f_open f_errorKind f_errorPos f_valueTop f_operatorTop a_text a_cells a_stack a_frames a_listOf a_listEnd a_owner a_stmtEnd a_stmtBegin a_firstA a_firstB a_opAt a_procFirst a_inverse a_invFirst a_invBegin a_symbols a_values a_operators → P (f_textCap, f_stackCap, f_depthCap, f_ready, f_size, f_stackTop, f_point, f_frameCount, f_symbolTop, f_pos, f_list, f_open, f_errorKind, f_errorPos, f_valueTop, f_operatorTop, a_text, a_cells, a_stack, a_frames, a_listOf, a_listEnd, a_owner, a_stmtEnd, a_stmtBegin, a_firstA, a_firstB, a_opAt, a_procFirst, a_inverse, a_invFirst, a_invBegin, a_symbols, a_values, a_operators)) → wpX_update P (f_textCap, nI sc, nI dc, f_ready, nI n, nI (st), nI (pt), nI (fc), f_symbolTop, f_pos, f_list, f_open, f_errorKind, f_errorPos, f_valueTop, f_operatorTop, fun j => nI (t j), cl, sk, fr, T 0, T 1, T 2, T 3, T 4, T 5, T 6, T 7, a_procFirst, a_inverse, a_invFirst, a_invBegin, a_symbols, a_values, a_operators) (nI s) (nI lb)) → wX_step_73 Q (nI tk) (nI lb) (nI s) f_textCap (nI sc) (nI dc) f_ready (nI n) (nI (st)) (nI (pt)) (nI (fc)) f_symbolTop f_pos f_list f_open f_errorKind f_errorPos f_valueTop f_operatorTop (fun j => nI (t j)) cl sk fr (T 0) (T 1) (T 2) (T 3) (T 4) (T 5) (T 6) (T 7) a_procFirst a_inverse a_invFirst a_invBegin a_symbols a_values a_operators := by
    intro f_valueTop f_operatorTop a_values a_operators Q h0 h1 h2
    unfold wX_step_73
    refine br_t (nI_pos' (by omega)) (And.intro (vp_in_nI (by omega) (by omega)) (nm_r (e' := nI (t s)) (by show nI (t (nI s).toNatClampNeg) = _; rw [nI_clamp (by omega)]) ?_))
    refine br_f (hnp 63 hne.1 (by omega)) (br_f (hnp 64 hne.2.1 (by omega)) (br_f (hnp 33 hne.2.2.1 (by omega)) (br_f (hnp 126 hne.2.2.2.1 (by omega)) (br_f (hnp 62 hne.2.2.2.2.1 (by omega)) (br_f (hnp 60 hne.2.2.2.2.2 (by omega)) (br_c h0 (fun htk' => ?_)))))))
    have hswap : (∃ o', T 7 s = nI o' ∧ o' < n ∧ t o' = 36) ↔ t o = 36 := by
      constructor
      · rintro ⟨o', e, h3, h4⟩
        rw [t7] at e
        have := (nI_eq (by omega) (by omega)).mp e
        rw [this]; exact h4
      · intro h; exact ⟨o, t7, by omega, h⟩
    refine xm_swap X (by omega) (Or.inr ⟨o, by omega, t7⟩) (fun h => br_f (by decide) (h1 htk' (hswap.mp h) _ ?_)) (fun h => br_t rfl (h2 htk' (fun z => h (hswap.mpr z)) _ ?_))
    · exact fun _ _ _ _ _ _ _ _ _ _ _ _ _ _ _ _ _ _ _ _ _ _ _ _ _ _ _ _ _ _ _ _ _ _ _ hq => hq
    · exact fun _ _ _ _ _ _ _ _ _ _ _ _ _ _ _ _ _ _ _ _ _ _ _ _ _ _ _ _ _ _ _ _ _ _ _ hq => hq
  -- Y up to its last branch
  have hYs : ∀ (b_kinds b_values : Nat → Int32) (Q : Int32 → SY → Prop), (nI tk = 0 → wY_pass_289 Q (nI tk) (nI (if lb = 0 then q + 1 else s)) g_textLimit (nI sc) (nI dc) (nI n) (nI (st)) (nI (fc)) (nI (pt)) g_ready g_top g_errorPos (fun j => nI (t j)) cl sk fr b_wants b_inverse b_kinds b_values) → (¬ nI tk = 0 → ∀ P : SY → Prop, (∀ g_textLimit g_stackLimit g_depthLimit g_length g_stackSize g_depth g_place g_ready g_top g_errorPos b_text b_cells b_stack b_frames b_wants b_inverse b_kinds b_values, wY_pass_289 Q (nI tk) (nI (if lb = 0 then q + 1 else s)) g_textLimit g_stackLimit g_depthLimit g_length g_stackSize g_depth g_place g_ready g_top g_errorPos b_text b_cells b_stack b_frames b_wants b_inverse b_kinds b_values → P (g_textLimit, g_stackLimit, g_depthLimit, g_length, g_stackSize, g_depth, g_place, g_ready, g_top, g_errorPos, b_text, b_cells, b_stack, b_frames, b_wants, b_inverse, b_kinds, b_values)) → wpY_change P (g_textLimit, nI sc, nI dc, nI n, nI (st), nI (fc), nI (pt), g_ready, g_top, g_errorPos, fun j => nI (t j), cl, sk, fr, b_wants, b_inverse, b_kinds, b_values) (nI s) (nI q) (nI lb)) → wpY_pass Q (g_textLimit, nI sc, nI dc, nI n, nI (st), nI (fc), nI (pt), g_ready, g_top, g_errorPos, fun j => nI (t j), cl, sk, fr, b_wants, b_inverse, b_kinds, b_values) (nI s) (nI lb) (nI tk) := by
    intro b_kinds b_values Q h0 h1
    have h25 : wY_pass_25 Q (nI s) (nI lb) (nI tk) (nI (t s)) (nI (q + 1)) (nI (if lb = 0 then q + 1 else s)) g_textLimit (nI sc) (nI dc) (nI n) (nI (st)) (nI (fc)) (nI (pt)) g_ready g_top g_errorPos (fun j => nI (t j)) cl sk fr b_wants b_inverse b_kinds b_values := by
      unfold wY_pass_25
      have eq1 : nI (q + 1) - 1 = nI q := nI_pred q
      rw [eq1]
      exact br_f (hnp 63 hne.1 (by omega)) (br_f (hnp 64 hne.2.1 (by omega)) (br_f (hnp 62 hne.2.2.2.2.1 (by omega)) (br_f (hnp 60 hne.2.2.2.2.2 (by omega)) (br_c h0 (fun z => h1 z _ (fun _ _ _ _ _ _ _ _ _ _ _ _ _ _ _ _ _ _ hq => hq))))))
    unfold wpY_pass
    refine And.intro (vp_in_nI (by omega) (by omega)) (nm_r (e' := nI (t s)) (by show nI (t (nI s).toNatClampNeg) = _; rw [nI_clamp (by omega)]) (ys_af X (by omega) ?_))
    rw [hAf]
    refine pk_eq lb 0 (fun z => ?_) (fun z => ?_) rfl rfl (by omega) (by omega)
    · rw [if_pos z] at h25; exact h25
    · rw [if_neg z] at h25; exact h25
  rcases Nat.le_one_iff_eq_zero_or_eq_one.mp htk with htk0 | htk1
  · subst htk0
    refine ⟨0, cl, sk, fr, st, pt, fc, ⟨i1, i2, i3, i4, i5, i6, i7⟩, fun f_valueTop f_operatorTop a_values a_operators Q hQ => hXs _ _ _ _ Q (fun _ => ?_) (fun z => (z rfl).elim) (fun z => (z rfl).elim), fun b_kinds b_values Q hQ => hYs _ _ Q (fun _ => ys_289 (tk := 0) (by omega) (hQ _ _)) (fun z => (z rfl).elim)⟩
    unfold wX_step_189
    exact xs_pass (tk := 0) (by omega) t3 hlb (by omega) (hQ _ _ _ _)
  · subst htk1
    by_cases h36 : t o = 36
    · -- SWAP
      have hT2 : gr_T t (o + 1) q := by
        rcases hr with ⟨h, _⟩ | ⟨_, h⟩
        · rw [h36] at h; exact absurd h (by decide)
        · exact h
      obtain ⟨d, hd⟩ := tg_of cl hT2
      have hdin := tg_in hd
      refine ⟨0, upd (upd cl c.toNatClampNeg (cl d.toNatClampNeg)) d.toNatClampNeg (cl c.toNatClampNeg), sk, fr, st, _, fc, mv, fun f_valueTop f_operatorTop a_values a_operators Q hQ => hXs _ _ _ _ Q (fun z => absurd z (by decide)) (fun _ _ P hP => ?_) (fun _ z => (z h36).elim), fun b_kinds b_values Q hQ => hYs _ _ Q (fun z => absurd z (by decide)) (fun _ P hP => ?_)⟩
      · unfold wpX_swap
        refine xs_targ X (by omega) hTg hc (fun _ _ _ _ => And.intro (vp_in_nI (by omega) (by omega)) ?_)
        rw [nI_clamp (n := s) (by omega), t7, nI_1]
        refine xs_targ X (by omega) hT2 hd (fun _ _ _ _ => And.intro hcin (nm_e (And.intro hdin (And.intro hcin (nm_e (And.intro hdin (nm_e (hP _ _ _ _ _ _ _ _ _ _ _ _ _ _ _ _ _ _ _ _ _ _ _ _ _ _ _ _ _ _ _ _ _ _ _ ?_))))))))
        unfold wX_step_189
        exact xs_pass (tk := 1) (by omega) t3 hlb (by omega) (hQ _ _ _ _)
      · unfold wpY_change
        refine ys_targ X (by omega) hTg hc (fun _ _ => ys_te X (by omega) (fun _ => hs93) ?_)
        rw [sc_Te_val hTg (by omega)]
        refine And.intro (vp_in_nI (by omega) (by omega)) ?_
        show (nI (t (nI o).toNatClampNeg) = 36 → _) ∧ (¬ nI (t (nI o).toNatClampNeg) = 36 → _)
        rw [nI_clamp (n := o) (by omega), h36, nI_1]
        exact br_t rfl (ys_targ X (by omega) hT2 hd (fun _ _ => And.intro hcin (nm_e (And.intro hdin (And.intro hcin (nm_e (And.intro hdin (nm_e (hP _ _ _ _ _ _ _ _ _ _ _ _ _ _ _ _ _ _ (ys_289 (tk := 1) (by omega) (hQ _ _)))))))))))
    · -- UPDATE
      obtain ⟨h2, hE⟩ : ex_lv (t o) = 2 ∧ gr_E t (o + 1) q := by
        rcases hr with h | ⟨h, _⟩
        · exact h
        · exact (h36 h).elim
      obtain ⟨v, hv⟩ := ev_of cl hE
      have hlv := ex_lv_at (k := t o) (by omega)
      have ho3 : t o = 43 ∨ t o = 45 ∨ t o = 94 := by
        rcases hlv with h | h | h | h | h | h | h
        · rw [h] at h2; exact absurd h2 (by decide)
        · rw [h] at h2; exact absurd h2 (by decide)
        · exact Or.inl h
        · exact Or.inr (Or.inl h)
        · exact Or.inr (Or.inr h)
        · rw [h] at h2; exact absurd h2 (by decide)
        · rw [h] at h2; exact absurd h2 (by decide)
      have hX3 : ∀ (f_valueTop f_operatorTop : Int32) (a_values a_operators : Nat → Int32) (P : SX → Prop), (t o = 94 → ∀ f_valueTop f_operatorTop a_values a_operators, P (f_textCap, nI sc, nI dc, f_ready, nI n, nI (st), nI (pt), nI (fc), f_symbolTop, f_pos, f_list, f_open, f_errorKind, f_errorPos, f_valueTop, f_operatorTop, fun j => nI (t j), upd cl c.toNatClampNeg (cl c.toNatClampNeg ^^^ v), sk, fr, T 0, T 1, T 2, T 3, T 4, T 5, T 6, T 7, a_procFirst, a_inverse, a_invFirst, a_invBegin, a_symbols, a_values, a_operators)) → (t o = 43 → ∀ f_valueTop f_operatorTop a_values a_operators, wX_update_69 P (nI lb) c v 1 f_textCap (nI sc) (nI dc) f_ready (nI n) (nI (st)) (nI (pt)) (nI (fc)) f_symbolTop f_pos f_list f_open f_errorKind f_errorPos f_valueTop f_operatorTop (fun j => nI (t j)) cl sk fr (T 0) (T 1) (T 2) (T 3) (T 4) (T 5) (T 6) (T 7) a_procFirst a_inverse a_invFirst a_invBegin a_symbols a_values a_operators) → (t o = 45 → ∀ f_valueTop f_operatorTop a_values a_operators, wX_update_69 P (nI lb) c v 0 f_textCap (nI sc) (nI dc) f_ready (nI n) (nI (st)) (nI (pt)) (nI (fc)) f_symbolTop f_pos f_list f_open f_errorKind f_errorPos f_valueTop f_operatorTop (fun j => nI (t j)) cl sk fr (T 0) (T 1) (T 2) (T 3) (T 4) (T 5) (T 6) (T 7) a_procFirst a_inverse a_invFirst a_invBegin a_symbols a_values a_operators) → wpX_update P (f_textCap, nI sc, nI dc, f_ready, nI n, nI (st), nI (pt), nI (fc), f_symbolTop, f_pos, f_list, f_open, f_errorKind, f_errorPos, f_valueTop, f_operatorTop, fun j => nI (t j), cl, sk, fr, T 0, T 1, T 2, T 3, T 4, T 5, T 6, T 7, a_procFirst, a_inverse, a_invFirst, a_invBegin, a_symbols, a_values, a_operators) (nI s) (nI lb) := by
        intro f_valueTop f_operatorTop a_values a_operators P g1 g2 g3
        unfold wpX_update
        refine And.intro (vp_in_nI (by omega) (by omega)) ?_
        rw [nI_clamp (n := s) (by omega), t7]
        refine xh_char hn (by omega) X.2.1 ?_
        rw [gr_ch_n (by omega)]
        refine xs_targ X (by omega) hTg hc (fun _ _ _ _ => And.intro (vp_in_nI (by omega) (by omega)) ?_)
        rw [t7, nI_1]
        refine xg_eval X hq (Or.inl h59) hv (fun _ _ _ _ => ?_)
        exact xp_eq 94 hto (fun e => And.intro hcin (And.intro hcin (nm_e (g1 e _ _ _ _)))) (fun n94 => xp_eq 43 hto (fun e => g2 e _ _ _ _) (fun n43 => g3 (by omega) _ _ _ _))
      have hY3 : ∀ (b_kinds b_values : Nat → Int32) (P : SY → Prop) (w : Int32), (∀ o', o' = (if lb = 0 then t o else if t o = 43 then 45 else if t o = 45 then 43 else t o) → 0 < ex_lv o' ∧ o' < 127 ∧ w = ex_ap o' (cl c.toNatClampNeg) v) → (∀ b_kinds b_values, P (g_textLimit, nI sc, nI dc, nI n, nI (st), nI (fc), nI (pt), g_ready, g_top, g_errorPos, fun j => nI (t j), upd cl c.toNatClampNeg w, sk, fr, b_wants, b_inverse, b_kinds, b_values)) → wpY_change P (g_textLimit, nI sc, nI dc, nI n, nI (st), nI (fc), nI (pt), g_ready, g_top, g_errorPos, fun j => nI (t j), cl, sk, fr, b_wants, b_inverse, b_kinds, b_values) (nI s) (nI q) (nI lb) := by
        intro b_kinds b_values P w hw hP
        obtain ⟨w1, w2, w3⟩ := hw _ rfl
        have h107 : ∀ b_kinds b_values, wY_change_107 P c v (nI (if lb = 0 then t o else if t o = 43 then 45 else if t o = 45 then 43 else t o)) g_textLimit (nI sc) (nI dc) (nI n) (nI (st)) (nI (fc)) (nI (pt)) g_ready g_top g_errorPos (fun j => nI (t j)) cl sk fr b_wants b_inverse b_kinds b_values := by
          intro k1 k2
          unfold wY_change_107
          refine And.intro hcin (yh_ap w2 w1 (And.intro hcin (nm_e ?_)))
          rw [← w3]; exact hP _ _
        unfold wpY_change
        refine ys_targ X (by omega) hTg hc (fun _ _ => ys_te X (by omega) (fun _ => hs93) ?_)
        rw [sc_Te_val hTg (by omega)]
        have hvo : vp_in (nI o) 200 := vp_in_nI (by omega) (by omega)
        refine And.intro hvo ?_
        show (nI (t (nI o).toNatClampNeg) = 36 → _) ∧ (¬ nI (t (nI o).toNatClampNeg) = 36 → _)
        rw [nI_clamp (n := o) (by omega), nI_1]
        refine br_f (fun z => h36 ((nI_eq (a := t o) (b := 36) (by omega) (by omega)).mp z)) (yw_value X (by omega) hv (fun k1 k2 => ?_))
        have h := h107 k1 k2
        refine pk_eq lb 0 (fun z => And.intro hvo ?_) (fun z => And.intro hvo ?_) rfl rfl (by omega) (by omega)
        · rw [if_pos z] at h; exact h
        · rw [if_neg z] at h
          unfold wpY_opposite
          refine pk_eq (t o) 43 (fun e => ?_) (fun n43 => pk_eq (t o) 45 (fun e => ?_) (fun n45 => pk_eq (t o) 60 (fun e => by omega) (fun n60 => pk_eq (t o) 62 (fun e => by omega) (fun n62 => ?_) rfl rfl (by omega) (by omega)) rfl rfl (by omega) (by omega)) rfl rfl (by omega) (by omega)) rfl rfl (by omega) (by omega)
          · rw [if_pos e] at h; exact h
          · rw [if_neg n43, if_pos e] at h; exact h
          · rw [if_neg n43, if_neg n45] at h; exact h
      have fin : ∀ w : Int32, (∀ (f_valueTop f_operatorTop : Int32) (a_values a_operators : Nat → Int32) (P : SX → Prop), (∀ f_valueTop f_operatorTop a_values a_operators, P (f_textCap, nI sc, nI dc, f_ready, nI n, nI (st), nI (pt), nI (fc), f_symbolTop, f_pos, f_list, f_open, f_errorKind, f_errorPos, f_valueTop, f_operatorTop, fun j => nI (t j), upd cl c.toNatClampNeg w, sk, fr, T 0, T 1, T 2, T 3, T 4, T 5, T 6, T 7, a_procFirst, a_inverse, a_invFirst, a_invBegin, a_symbols, a_values, a_operators)) → wpX_update P (f_textCap, nI sc, nI dc, f_ready, nI n, nI (st), nI (pt), nI (fc), f_symbolTop, f_pos, f_list, f_open, f_errorKind, f_errorPos, f_valueTop, f_operatorTop, fun j => nI (t j), cl, sk, fr, T 0, T 1, T 2, T 3, T 4, T 5, T 6, T 7, a_procFirst, a_inverse, a_invFirst, a_invBegin, a_symbols, a_values, a_operators) (nI s) (nI lb)) → (∀ o', o' = (if lb = 0 then t o else if t o = 43 then 45 else if t o = 45 then 43 else t o) → 0 < ex_lv o' ∧ o' < 127 ∧ w = ex_ap o' (cl c.toNatClampNeg) v) →
          sp_O t n sc dc T f_textCap f_ready f_symbolTop f_pos f_list f_open f_errorKind f_errorPos a_procFirst a_inverse a_invFirst a_invBegin a_symbols g_textLimit g_ready g_top g_errorPos b_wants b_inverse (fun f_valueTop f_operatorTop a_values a_operators Q => wX_step_73 Q (nI 1) (nI lb) (nI s) f_textCap (nI sc) (nI dc) f_ready (nI n) (nI (st)) (nI (pt)) (nI (fc)) f_symbolTop f_pos f_list f_open f_errorKind f_errorPos f_valueTop f_operatorTop (fun j => nI (t j)) cl sk fr (T 0) (T 1) (T 2) (T 3) (T 4) (T 5) (T 6) (T 7) a_procFirst a_inverse a_invFirst a_invBegin a_symbols a_values a_operators) (fun b_kinds b_values Q => wpY_pass Q (g_textLimit, nI sc, nI dc, nI n, nI (st), nI (fc), nI (pt), g_ready, g_top, g_errorPos, fun j => nI (t j), cl, sk, fr, b_wants, b_inverse, b_kinds, b_values) (nI s) (nI lb) (nI 1)) := by
        intro w hXw hYw
        refine ⟨0, upd cl c.toNatClampNeg w, sk, fr, st, _, fc, mv, fun f_valueTop f_operatorTop a_values a_operators Q hQ => hXs _ _ _ _ Q (fun z => absurd z (by decide)) (fun _ z => (h36 z).elim) (fun _ _ P hP => hXw _ _ _ _ P (fun _ _ _ _ => hP _ _ _ _ _ _ _ _ _ _ _ _ _ _ _ _ _ _ _ _ _ _ _ _ _ _ _ _ _ _ _ _ _ _ _ ?_)), fun b_kinds b_values Q hQ => hYs _ _ Q (fun z => absurd z (by decide)) (fun _ P hP => hY3 _ _ P w hYw (fun _ _ => hP _ _ _ _ _ _ _ _ _ _ _ _ _ _ _ _ _ _ (ys_289 (tk := 1) (by omega) (hQ _ _))))⟩
        unfold wX_step_189
        exact xs_pass (tk := 1) (by omega) t3 hlb (by omega) (hQ _ _ _ _)
      rcases ho3 with e | e | e
      · rcases Nat.le_one_iff_eq_zero_or_eq_one.mp hlb with h0 | h0
        · refine fin (cl c.toNatClampNeg + v) (fun _ _ _ _ P hP => hX3 _ _ _ _ P (fun z => by omega) (fun _ _ _ _ _ => ?_) (fun z => by omega)) (fun o' eo => ?_)
          · unfold wX_update_69
            rw [h0]
            exact br_f (by decide) (And.intro hcin (And.intro hcin (nm_e (hP _ _ _ _))))
          · rw [if_pos h0, e] at eo
            subst eo; exact ⟨by decide, by decide, rfl⟩
        · refine fin (cl c.toNatClampNeg - v) (fun _ _ _ _ P hP => hX3 _ _ _ _ P (fun z => by omega) (fun _ _ _ _ _ => ?_) (fun z => by omega)) (fun o' eo => ?_)
          · unfold wX_update_69
            rw [h0]
            exact br_t rfl (And.intro hcin (And.intro hcin (nm_e (hP _ _ _ _))))
          · rw [if_neg (by omega), if_pos e] at eo
            subst eo; exact ⟨by decide, by decide, rfl⟩
      · rcases Nat.le_one_iff_eq_zero_or_eq_one.mp hlb with h0 | h0
        · refine fin (cl c.toNatClampNeg - v) (fun _ _ _ _ P hP => hX3 _ _ _ _ P (fun z => by omega) (fun z => by omega) (fun _ _ _ _ _ => ?_)) (fun o' eo => ?_)
          · unfold wX_update_69
            rw [h0]
            exact br_t rfl (And.intro hcin (And.intro hcin (nm_e (hP _ _ _ _))))
          · rw [if_pos h0, e] at eo
            subst eo; exact ⟨by decide, by decide, rfl⟩
        · refine fin (cl c.toNatClampNeg + v) (fun _ _ _ _ P hP => hX3 _ _ _ _ P (fun z => by omega) (fun z => by omega) (fun _ _ _ _ _ => ?_)) (fun o' eo => ?_)
          · unfold wX_update_69
            rw [h0]
            exact br_f (by decide) (And.intro hcin (And.intro hcin (nm_e (hP _ _ _ _))))
          · rw [if_neg (by omega), if_neg (by omega), if_pos e] at eo
            subst eo; exact ⟨by decide, by decide, rfl⟩
      · refine fin (cl c.toNatClampNeg ^^^ v) (fun _ _ _ _ P hP => hX3 _ _ _ _ P (fun _ => hP) (fun z => by omega) (fun z => by omega)) (fun o' eo => ?_)
        have : o' = 94 := by
          rw [eo]
          split
          · exact e
          · rw [if_neg (by omega), if_neg (by omega)]; exact e
        subst this; exact ⟨by decide, by decide, rfl⟩
end
end
section
/-! a step as a whole -/
section
variable {g_textLimit g_stackLimit g_depthLimit g_length g_stackSize g_depth g_place g_ready g_top g_errorPos : Int32} {b_text b_cells b_stack b_frames b_wants b_inverse b_kinds b_values : Nat → Int32}
variable {t : Nat → Nat} {n : Nat} {post : Int32 → Prop}
theorem sc_Af_le {t : Nat → Nat} {n s : Nat} : sc_Af t n s ≤ n + 1 := by
  unfold sc_Af
  have := sc_Find_le (t := t) (n := n) (c := 59) (x := if t s = 63 ∨ t s = 64 then sc_Tl t n s else s)
  omega
theorem ys_sb15 {p : Nat} (X : xp_tx t n) (hp : p ≤ n) : ∀ m s z c, c + m = n → s < 1000 → z < 1000 → post (nI (sc_sb t n p m s z)) → ∀ k, m < k → wY_statementBefore_15 post (nI p) g_textLimit g_stackLimit g_depthLimit (nI n) g_stackSize g_depth g_place g_ready g_top g_errorPos (fun j => nI (t j)) b_cells b_stack b_frames b_wants b_inverse b_kinds b_values k (nI s) (nI z) (nI c) := by
  have hn := X.1
  intro m
  induction m with
  | zero =>
    intro s z c _ hs hz hp' k hk
    cases k with
    | zero => omega
    | succ k => exact br_t (nI_le (by omega) (by omega)) hp'
  | succ m ih =>
    intro s z c hm hs hz hp' k hk
    cases k with
    | zero => omega
    | succ k =>
      rw [sc_sb] at hp'
      refine br_f (nI_ge (by omega) (by omega)) (pk_le p z (fun h => ?_) (fun h => ys_af X (by omega) (nm_r (nI_1 c) ?_)) rfl rfl (by omega) (by omega))
      · rw [if_neg (by omega)] at hp'; exact hp'
      · rw [if_pos h] at hp'
        exact ih z (sc_Af t n z) (c + 1) (by omega) hz (by have := sc_Af_le (t := t) (n := n) (s := z); omega) hp' k (by omega)
theorem ys_sb {p : Nat} (X : xp_tx t n) (hp : p ≤ n) (hF : sc_Fst t p < n) (h : post (nI (sc_Sb t n p))) : wpY_statementBefore post (g_textLimit, g_stackLimit, g_depthLimit, nI n, g_stackSize, g_depth, g_place, g_ready, g_top, g_errorPos, fun j => nI (t j), b_cells, b_stack, b_frames, b_wants, b_inverse, b_kinds, b_values) (nI p) := by
  have hn := X.1
  unfold wpY_statementBefore
  exact ys_fst X hp (ys_af X hF ⟨n + 1, ys_sb15 X hp n (sc_Fst t p) (sc_Af t n (sc_Fst t p)) 0 (by omega) (by omega) (by have := sc_Af_le (t := t) (n := n) (s := sc_Fst t p); omega) h (n + 1) (by omega)⟩)
end
section
variable {cl sk fr : Nat → Int32}
variable {f_textCap f_ready f_symbolTop f_pos f_list f_open f_errorKind f_errorPos : Int32} {a_procFirst a_inverse a_invFirst a_invBegin a_symbols : Nat → Int32} {g_textLimit g_ready g_top g_errorPos : Int32} {b_wants b_inverse : Nat → Int32}
variable {t : Nat → Nat} {n sc dc : Nat} {T : Nat → Nat → Int32} {st pt fc : Nat}
/-- the step over the statement s -/
theorem sp_stmt (R : sp_R t n sc dc T a_procFirst) (I : sp_I t n sc dc fr fc pt st) {s q b lb tk : Nat} (hb : sc_bg t s) (hs : gr_s t s q) (hq : q < n) (hpt : sp_mn t pt ↔ sp_mn t s) (hbb : b ≤ 1) (hlb : lb = sp_lb t fr b fc) (htk : tk ≤ 1) :
    sp_O t n sc dc T f_textCap f_ready f_symbolTop f_pos f_list f_open f_errorKind f_errorPos a_procFirst a_inverse a_invFirst a_invBegin a_symbols g_textLimit g_ready g_top g_errorPos b_wants b_inverse (fun f_valueTop f_operatorTop a_values a_operators Q => wX_step_73 Q (nI tk) (nI lb) (nI s) f_textCap (nI sc) (nI dc) f_ready (nI n) (nI (st)) (nI (pt)) (nI (fc)) f_symbolTop f_pos f_list f_open f_errorKind f_errorPos f_valueTop f_operatorTop (fun j => nI (t j)) cl sk fr (T 0) (T 1) (T 2) (T 3) (T 4) (T 5) (T 6) (T 7) a_procFirst a_inverse a_invFirst a_invBegin a_symbols a_values a_operators) (fun b_kinds b_values Q => wY_step_63 Q (nI b) (nI tk) (nI lb) (nI s) g_textLimit (nI sc) (nI dc) (nI n) (nI (st)) (nI (fc)) (nI (pt)) g_ready g_top g_errorPos (fun j => nI (t j)) cl sk fr b_wants b_inverse b_kinds b_values) := by
  have X := R.1
  have hn := X.1
  have hlb1 : lb ≤ 1 := by rw [hlb]; exact sp_lb_le hbb _
  have hts := X.2.2 s
  have hlt := gr_S_lt hs
  have hY : t s ≠ 33 → t s ≠ 126 → ∀ (b_kinds b_values : Nat → Int32) (Q : Int32 → SY → Prop), (∀ Q' : Int32 → SY → Prop, (∀ r g_textLimit g_stackLimit g_depthLimit g_length g_stackSize g_depth g_place g_ready g_top g_errorPos b_text b_cells b_stack b_frames b_wants b_inverse b_kinds b_values, Q r (g_textLimit, g_stackLimit, g_depthLimit, g_length, g_stackSize, g_depth, g_place, g_ready, g_top, g_errorPos, b_text, b_cells, b_stack, b_frames, b_wants, b_inverse, b_kinds, b_values) → Q' r (g_textLimit, g_stackLimit, g_depthLimit, g_length, g_stackSize, g_depth, g_place, g_ready, g_top, g_errorPos, b_text, b_cells, b_stack, b_frames, b_wants, b_inverse, b_kinds, b_values)) → wpY_pass Q' (g_textLimit, nI sc, nI dc, nI n, nI (st), nI (fc), nI (pt), g_ready, g_top, g_errorPos, fun j => nI (t j), cl, sk, fr, b_wants, b_inverse, b_kinds, b_values) (nI s) (nI lb) (nI tk)) → wY_step_63 Q (nI b) (nI tk) (nI lb) (nI s) g_textLimit (nI sc) (nI dc) (nI n) (nI (st)) (nI (fc)) (nI (pt)) g_ready g_top g_errorPos (fun j => nI (t j)) cl sk fr b_wants b_inverse b_kinds b_values := by
    intro n33 n126 b_kinds b_values Q h
    unfold wY_step_63
    refine And.intro (vp_in_nI (by omega) (by omega)) ?_
    show (nI (t (nI s).toNatClampNeg) = 33 → _) ∧ (¬ nI (t (nI s).toNatClampNeg) = 33 → _)
    rw [nI_clamp (n := s) (by omega)]
    exact br_f (fun z => n33 ((nI_eq (a := t s) (b := 33) (by omega) (by omega)).mp z)) (And.intro (vp_in_nI (by omega) (by omega)) (br_f (fun z => n126 ((nI_eq (a := t s) (b := 126) (by omega) (by omega)).mp z)) (h _ (fun _ _ _ _ _ _ _ _ _ _ _ _ _ _ _ _ _ _ _ hq => hq))))
  rcases hs with ⟨o, hU⟩ | hK | hC | ⟨a, ea, eb, hB⟩
  · have h0 := gr_U_pl hU (Nat.le_refl _) hlt
    have hsr := gr_T_sr hU.1
    obtain ⟨r, cl', sk', fr', st', pt', fc', hI, hX, hY'⟩ := lf_upd (cl := cl) (sk := sk) R I hb hU hq hpt hlb1 htk
    exact ⟨r, cl', sk', fr', st', pt', fc', hI, hX, fun b_kinds b_values Q hQ => hY (by unfold gr_vr at hsr; omega) (by unfold gr_vr at hsr; omega) _ _ Q (fun Q' hQ' => hY' _ _ Q' (fun a b => hQ' _ _ _ _ _ _ _ _ _ _ _ _ _ _ _ _ _ _ _ (hQ a b)))⟩
  · have h0 := hK.1
    obtain ⟨r, cl', sk', fr', st', pt', fc', hI, hX, hY'⟩ := lf_stack (cl := cl) (sk := sk) R I hb hK hq hpt hlb1 htk
    exact ⟨r, cl', sk', fr', st', pt', fc', hI, hX, fun b_kinds b_values Q hQ => hY (by omega) (by omega) _ _ Q (fun Q' hQ' => hY' _ _ Q' (fun a b => hQ' _ _ _ _ _ _ _ _ _ _ _ _ _ _ _ _ _ _ _ (hQ a b)))⟩
  · have h0 := hC.1
    obtain ⟨_, _, rfl, _⟩ := id hC
    obtain ⟨r, cl', sk', fr', st', pt', fc', hI, hX, hY'⟩ := lf_call (cl := cl) (sk := sk) R I hb hC hq hpt hbb hlb htk
    refine ⟨r, cl', sk', fr', st', pt', fc', hI, fun f_valueTop f_operatorTop a_values a_operators Q hQ => ?_, fun b_kinds b_values Q hQ => ?_⟩
    · have h128 := hX f_valueTop f_operatorTop a_values a_operators Q hQ
      unfold wX_step_73
      refine br_t (nI_pos' (by omega)) (And.intro (vp_in_nI (by omega) (by omega)) (nm_r (e' := nI (t s)) (by show nI (t (nI s).toNatClampNeg) = _; rw [nI_clamp (by omega)]) ?_))
      exact pk_eq (t s) 63 (fun _ => by omega) (fun n63 => pk_eq (t s) 64 (fun _ => by omega) (fun n64 => pk_eq (t s) 33 (fun _ => h128) (fun n33 => pk_eq (t s) 126 (fun _ => h128) (fun n126 => by omega) rfl rfl (by omega) (by omega)) rfl rfl (by omega) (by omega)) rfl rfl (by omega) (by omega)) rfl rfl (by omega) (by omega)
    · have h89 : wY_step_89 Q (nI b) (nI tk) (nI s) g_textLimit (nI sc) (nI dc) (nI n) (nI (st)) (nI (fc)) (nI (pt)) g_ready g_top g_errorPos (fun j => nI (t j)) cl sk fr b_wants b_inverse b_kinds b_values := by
        unfold wY_step_89
        exact hY' _ _ _ hQ
      unfold wY_step_63
      refine And.intro (vp_in_nI (by omega) (by omega)) ?_
      show (nI (t (nI s).toNatClampNeg) = 33 → _) ∧ (¬ nI (t (nI s).toNatClampNeg) = 33 → _)
      rw [nI_clamp (n := s) (by omega)]
      exact pk_eq (t s) 33 (fun _ => h89) (fun n33 => And.intro (vp_in_nI (by omega) (by omega)) (pk_eq (t s) 126 (fun _ => h89) (fun n126 => by omega) rfl rfl (by omega) (by omega))) rfl rfl (by omega) (by omega)
  · have h0 := hB.1
    obtain ⟨r, cl', sk', fr', st', pt', fc', hI, hX, hY'⟩ := lf_comp (cl := cl) (sk := sk) R I hb hB hq hpt hlb1 htk
    refine ⟨r, cl', sk', fr', st', pt', fc', hI, fun f_valueTop f_operatorTop a_values a_operators Q hQ => ?_, fun b_kinds b_values Q hQ => hY (by omega) (by omega) _ _ Q (fun Q' hQ' => hY' _ _ Q' (fun a b => hQ' _ _ _ _ _ _ _ _ _ _ _ _ _ _ _ _ _ _ _ (hQ a b)))⟩
    have h105 := hX f_valueTop f_operatorTop a_values a_operators Q hQ
    unfold wX_step_73
    refine br_t (nI_pos' (by omega)) (And.intro (vp_in_nI (by omega) (by omega)) (nm_r (e' := nI (t s)) (by show nI (t (nI s).toNatClampNeg) = _; rw [nI_clamp (by omega)]) ?_))
    exact pk_eq (t s) 63 (fun _ => h105) (fun n63 => pk_eq (t s) 64 (fun _ => h105) (fun n64 => by omega) rfl rfl (by omega) (by omega)) rfl rfl (by omega) (by omega)
theorem sc_bg_l {t : Nat → Nat} {n l e : Nat} (h : sc_cx t n l e) : sc_bg t l := by
  rcases sc_cx_l h with h | ⟨h1, h2, _⟩ | ⟨h1, h2⟩
  · exact Or.inl h
  · exact Or.inr (Or.inr ⟨h1, h2⟩)
  · exact Or.inr (Or.inl ⟨h1, Or.inr h2⟩)
theorem sc_bg_in {t : Nat → Nat} {n l e x : Nat} (h : sc_cx t n l e) (hl : gr_l t l x) : sc_bg t x := by
  have hle := gr_l_le hl
  rcases Nat.lt_or_ge l x with h1 | h1
  · obtain ⟨s', q', _, hs', e'⟩ := gr_l_snoc hl h1
    rw [e']; exact sc_bg_1 (Or.inl (gr_s_59 hs'))
  · have : x = l := by omega
    rw [this]; exact sc_bg_l h
/-- at the edge of a list -/
theorem sp_edge (R : sp_R t n sc dc T a_procFirst) (I : sp_I t n sc dc fr fc pt st) {l e b lb tk : Nat} (hpt : sc_pt t n pt l e) (hbb : b ≤ 1) (hlb : lb = sp_lb t fr b fc) (htk : tk ≤ 1) :
    ∃ (r : Int32) (cl' sk' fr' : Nat → Int32) (st' pt' fc' : Nat), sp_I t n sc dc fr' fc' pt' st' ∧
      (∀ (f_valueTop f_operatorTop : Int32) (a_values a_operators : Nat → Int32) (Q : Int32 → SX → Prop), (∀ f_valueTop f_operatorTop a_values a_operators, Q r (f_textCap, nI sc, nI dc, f_ready, nI n, nI (st'), nI (pt'), nI (fc'), f_symbolTop, f_pos, f_list, f_open, f_errorKind, f_errorPos, f_valueTop, f_operatorTop, fun j => nI (t j), cl', sk', fr', T 0, T 1, T 2, T 3, T 4, T 5, T 6, T 7, a_procFirst, a_inverse, a_invFirst, a_invBegin, a_symbols, a_values, a_operators)) → wpX_leaveList Q (f_textCap, nI sc, nI dc, f_ready, nI n, nI (st), nI (pt), nI (fc), f_symbolTop, f_pos, f_list, f_open, f_errorKind, f_errorPos, f_valueTop, f_operatorTop, fun j => nI (t j), cl, sk, fr, T 0, T 1, T 2, T 3, T 4, T 5, T 6, T 7, a_procFirst, a_inverse, a_invFirst, a_invBegin, a_symbols, a_values, a_operators) (nI l) (nI lb) (nI tk)) ∧
      (∀ (b_kinds b_values : Nat → Int32) (Q : Int32 → SY → Prop), (∀ b_kinds b_values, Q r (g_textLimit, nI sc, nI dc, nI n, nI (st'), nI (fc'), nI (pt'), g_ready, g_top, g_errorPos, fun j => nI (t j), cl', sk', fr', b_wants, b_inverse, b_kinds, b_values)) → ∀ Q1 Q2 : Int32 → SY → Prop, (∀ r g_textLimit g_stackLimit g_depthLimit g_length g_stackSize g_depth g_place g_ready g_top g_errorPos b_text b_cells b_stack b_frames b_wants b_inverse b_kinds b_values, Q r (g_textLimit, g_stackLimit, g_depthLimit, g_length, g_stackSize, g_depth, g_place, g_ready, g_top, g_errorPos, b_text, b_cells, b_stack, b_frames, b_wants, b_inverse, b_kinds, b_values) → Q1 r (g_textLimit, g_stackLimit, g_depthLimit, g_length, g_stackSize, g_depth, g_place, g_ready, g_top, g_errorPos, b_text, b_cells, b_stack, b_frames, b_wants, b_inverse, b_kinds, b_values) ∧ Q2 r (g_textLimit, g_stackLimit, g_depthLimit, g_length, g_stackSize, g_depth, g_place, g_ready, g_top, g_errorPos, b_text, b_cells, b_stack, b_frames, b_wants, b_inverse, b_kinds, b_values)) →
        ((nI l = 0 → Q 2 (g_textLimit, nI sc, nI dc, nI n, nI (st), nI (fc), nI (pt), g_ready, g_top, g_errorPos, fun j => nI (t j), cl, sk, fr, b_wants, b_inverse, b_kinds, b_values)) ∧ (¬ nI l = 0 → (vp_in (nI l - 2) 200 ∧ (((nI (t (nI l - 2).toNatClampNeg)) = 58 → wpY_leave Q1 (g_textLimit, nI sc, nI dc, nI n, nI (st), nI (fc), nI (pt), g_ready, g_top, g_errorPos, fun j => nI (t j), cl, sk, fr, b_wants, b_inverse, b_kinds, b_values) (nI b) (nI tk)) ∧ (¬ (nI (t (nI l - 2).toNatClampNeg)) = 58 → wpY_edge Q2 (g_textLimit, nI sc, nI dc, nI n, nI (st), nI (fc), nI (pt), g_ready, g_top, g_errorPos, fun j => nI (t j), cl, sk, fr, b_wants, b_inverse, b_kinds, b_values) (nI l) (nI lb) (nI tk))))))) := by
  have X := R.1
  have hn := X.1
  have hT := R.2.2.1
  obtain ⟨p1, p2, p3, p4, p5, p6⟩ := hpt
  have hlb1 : lb ≤ 1 := by rw [hlb]; exact sp_lb_le hbb _
  rcases p4 with ⟨h0 | ⟨h1, h2, h3⟩, _⟩ | ⟨s, a, ea, eb, q, hbs, hq, hB, hle⟩
  · -- MAIN
    subst h0
    have t2 : T 2 0 = -1 := by
      have e2 : xt_S t n 2 0 = -1 := by
        rw [xt_S2]; exact xt_if_f (fun h => by have := h.1; omega)
      rw [hT.1 2 0 (by omega) (by omega) e2, e2]
    refine ⟨2, cl, sk, fr, st, pt, fc, I, fun f_valueTop f_operatorTop a_values a_operators Q hQ => ?_, fun b_kinds b_values Q hQ Q1 Q2 _ => br_t rfl (hQ _ _)⟩
    unfold wpX_leaveList
    exact And.intro (vp_in_nI (by omega) (by omega)) (nm_r (e' := -1) (by rw [nI_clamp (by omega)]; exact t2) (br_f (by decide) (br_t rfl (hQ _ _ _ _))))
  · have hfc : fc ≠ 0 := fun h => I.2.2.2.2.1.mpr h (l - 2) (by omega) h2
    obtain ⟨r, cl', sk', fr', st', pt', fc', hI, hX, hY⟩ := lf_leave (cl := cl) (sk := sk) R I h1 (by omega) h2 h3 hfc hbb hlb htk
    refine ⟨r, cl', sk', fr', st', pt', fc', hI, hX, fun b_kinds b_values Q hQ Q1 Q2 h12 => br_f (nI_ne0 (by omega) (by omega)) ?_⟩
    have e2 : nI l - 2 = nI (l - 2) := pk_sub (a := l) (b := 2) (by omega)
    rw [e2, nI_clamp (n := l - 2) (by omega), h2]
    exact And.intro (vp_in_nI (by omega) (by omega)) (br_t rfl (hY _ _ Q1 (fun a b => (h12 _ _ _ _ _ _ _ _ _ _ _ _ _ _ _ _ _ _ _ (hQ a b)).1)))
  · obtain ⟨r, cl', sk', fr', st', pt', fc', hI, hX, hY⟩ := lf_edge (cl := cl) (sk := sk) R I hbs hB hq hle ⟨p1, p2⟩ hlb1 htk
    obtain ⟨_, _, _, _, _, b1, b2, b3, b4⟩ := sc_b_val hB hq
    have h58 : t (l - 2) ≠ 58 := by
      rcases hle with ⟨h, _⟩ | ⟨h, _⟩
      · have e1 : l - 2 = a - 1 := by omega
        rw [e1]
        exact (gr_xc_pl (gr_E_xc hB.2.1 (i := a - 1) (by omega) (by omega))).1
      · have e1 : l - 2 = ea := by omega
        rw [e1]
        have := hB.2.2.2.2.2.1
        omega
    refine ⟨r, cl', sk', fr', st', pt', fc', hI, hX, fun b_kinds b_values Q hQ Q1 Q2 h12 => br_f (nI_ne0 (by omega) (by omega)) ?_⟩
    have e2 : nI l - 2 = nI (l - 2) := pk_sub (a := l) (b := 2) (by omega)
    have := X.2.2 (l - 2)
    rw [e2, nI_clamp (n := l - 2) (by omega)]
    exact And.intro (vp_in_nI (by omega) (by omega)) (br_f (fun z => h58 ((nI_eq (a := t (l - 2)) (b := 58) (by omega) (by omega)).mp z)) (hY _ _ Q2 (fun a b => (h12 _ _ _ _ _ _ _ _ _ _ _ _ _ _ _ _ _ _ _ (hQ a b)).2)))
/-- one step of both sides -/
theorem sp_step (R : sp_R t n sc dc T a_procFirst) (I : sp_I t n sc dc fr fc pt st) {b tk : Nat} (hbb : b ≤ 1) (htk : tk ≤ 1) :
    sp_O t n sc dc T f_textCap f_ready f_symbolTop f_pos f_list f_open f_errorKind f_errorPos a_procFirst a_inverse a_invFirst a_invBegin a_symbols g_textLimit g_ready g_top g_errorPos b_wants b_inverse (fun f_valueTop f_operatorTop a_values a_operators Q => wpX_step Q (f_textCap, nI sc, nI dc, f_ready, nI n, nI (st), nI (pt), nI (fc), f_symbolTop, f_pos, f_list, f_open, f_errorKind, f_errorPos, f_valueTop, f_operatorTop, fun j => nI (t j), cl, sk, fr, T 0, T 1, T 2, T 3, T 4, T 5, T 6, T 7, a_procFirst, a_inverse, a_invFirst, a_invBegin, a_symbols, a_values, a_operators) (nI b) (nI tk)) (fun b_kinds b_values Q => wpY_step Q (g_textLimit, nI sc, nI dc, nI n, nI (st), nI (fc), nI (pt), g_ready, g_top, g_errorPos, fun j => nI (t j), cl, sk, fr, b_wants, b_inverse, b_kinds, b_values) (nI b) (nI tk)) := by
  have X := R.1
  have hn := X.1
  have hG := R.2.1
  have hT := R.2.2.1
  have hdc := R.2.2.2.2.2.2
  have i1 := I.1
  have i2 := I.2.1
  have i3 := I.2.2.1
  have i4 := I.2.2.2.1
  obtain ⟨l, e, hpt⟩ := sc_pts hG pt i1 i2
  have hF := sc_pt_fst hpt
  have hE := sc_pt_end hpt
  have hpt' := hpt
  obtain ⟨p1, p2, p3, p4, p5, p6⟩ := hpt'
  obtain ⟨lb, hlb⟩ : ∃ lb, lb = sp_lb t fr b fc := ⟨_, rfl⟩
  have hlb1 : lb ≤ 1 := by rw [hlb]; exact sp_lb_le hbb _
  have t0 : T 0 pt = nI l := by rw [hT.2 0 pt i1 ⟨i2, Or.inl rfl⟩, xt_S0, hF]
  have hpl : sc_pt t n l l e := ⟨Nat.le_refl _, by omega, p3, p4, gr_l_nil, gr_l_app p5 p6⟩
  have t1 : T 1 l = nI e := by
    have hd : xt_D t n 1 l := by
      refine ⟨sc_bg_l p4, Or.inr (Or.inl ⟨rfl, ?_⟩)⟩
      rcases sc_cx_l p4 with h | ⟨h1, h2, _⟩ | ⟨h1, h2⟩
      · exact Or.inl h
      · exact Or.inr (Or.inr ⟨h1, h2⟩)
      · exact Or.inr (Or.inl h2)
    rw [hT.2 1 l (by omega) hd, xt_S1, sc_pt_end hpl]
  have hXs : ∀ (f_valueTop f_operatorTop : Int32) (a_values a_operators : Nat → Int32) (Q : Int32 → SX → Prop), wX_step_33 Q (nI tk) (nI lb) (nI l) (nI (if lb = 0 then e else l)) f_textCap (nI sc) (nI dc) f_ready (nI n) (nI (st)) (nI (pt)) (nI (fc)) f_symbolTop f_pos f_list f_open f_errorKind f_errorPos f_valueTop f_operatorTop (fun j => nI (t j)) cl sk fr (T 0) (T 1) (T 2) (T 3) (T 4) (T 5) (T 6) (T 7) a_procFirst a_inverse a_invFirst a_invBegin a_symbols a_values a_operators → wpX_step Q (f_textCap, nI sc, nI dc, f_ready, nI n, nI (st), nI (pt), nI (fc), f_symbolTop, f_pos, f_list, f_open, f_errorKind, f_errorPos, f_valueTop, f_operatorTop, fun j => nI (t j), cl, sk, fr, T 0, T 1, T 2, T 3, T 4, T 5, T 6, T 7, a_procFirst, a_inverse, a_invFirst, a_invBegin, a_symbols, a_values, a_operators) (nI b) (nI tk) := by
    intro f_valueTop f_operatorTop a_values a_operators Q h33
    unfold wpX_step
    refine xs_lb X hbb (by omega) i4 ?_
    rw [← hlb]
    refine And.intro (vp_in_nI (by omega) (by omega)) (nm_r (e' := nI l) (by rw [nI_clamp (by omega)]; exact t0) ?_)
    refine pk_eq lb 0 (fun z => And.intro (vp_in_nI (by omega) (by omega)) ?_) (fun z => ?_) rfl rfl (by omega) (by omega)
    · rw [nI_clamp (n := l) (by omega), t1]
      rw [if_pos z] at h33; exact h33
    · rw [if_neg z] at h33; exact h33
  have hYs : ∀ (b_kinds b_values : Nat → Int32) (Q : Int32 → SY → Prop), wY_step_41 Q (nI b) (nI tk) (nI lb) (nI l) (nI (if lb = 0 then e else l)) (nI pt) g_textLimit (nI sc) (nI dc) (nI n) (nI (st)) (nI (fc)) (nI (pt)) g_ready g_top g_errorPos (fun j => nI (t j)) cl sk fr b_wants b_inverse b_kinds b_values → wpY_step Q (g_textLimit, nI sc, nI dc, nI n, nI (st), nI (fc), nI (pt), g_ready, g_top, g_errorPos, fun j => nI (t j), cl, sk, fr, b_wants, b_inverse, b_kinds, b_values) (nI b) (nI tk) := by
    intro b_kinds b_values Q h41
    unfold wpY_step
    refine ys_lb X hbb (by omega) i4 ?_
    rw [← hlb]
    refine ys_fst X i1 ?_
    rw [hF]
    refine ys_end X (by omega) ?_
    rw [hE]
    refine pk_eq lb 0 (fun z => ?_) (fun z => ?_) rfl rfl (by omega) (by omega)
    · rw [if_pos z] at h41; exact h41
    · rw [if_neg z] at h41; exact h41
  by_cases hedge : pt = (if lb = 0 then e else l)
  · obtain ⟨r, cl', sk', fr', st', pt', fc', hI, hX, hY⟩ := sp_edge (cl := cl) (sk := sk) (f_textCap := f_textCap) (f_ready := f_ready) (f_symbolTop := f_symbolTop) (f_pos := f_pos) (f_list := f_list) (f_open := f_open) (f_errorKind := f_errorKind) (f_errorPos := f_errorPos) (a_inverse := a_inverse) (a_invFirst := a_invFirst) (a_invBegin := a_invBegin) (a_symbols := a_symbols) (g_textLimit := g_textLimit) (g_ready := g_ready) (g_top := g_top) (g_errorPos := g_errorPos) (b_wants := b_wants) (b_inverse := b_inverse) R I hpt hbb hlb htk
    refine ⟨r, cl', sk', fr', st', pt', fc', hI, fun f_valueTop f_operatorTop a_values a_operators Q hQ => hXs _ _ _ _ Q ?_, fun b_kinds b_values Q hQ => hYs _ _ Q ?_⟩
    · unfold wX_step_33
      exact br_t (congrArg nI hedge) (hX _ _ _ _ _ hQ)
    · unfold wY_step_41
      refine br_t (congrArg nI hedge) (hY _ _ Q hQ _ _ ?_)
      exact fun _ _ _ _ _ _ _ _ _ _ _ _ _ _ _ _ _ _ _ hq => ⟨hq, hq⟩
  · -- a statement s
    have hlt200 : (if lb = 0 then e else l) ≤ 200 := by
      rcases sp_list (a := e) (b := l) (lb := lb) with h | h <;> rw [h] <;> omega
    have hne : ¬ nI pt = nI (if lb = 0 then e else l) := fun z => hedge ((nI_eq (by omega) (by omega)).mp z)
    obtain ⟨s, q, hs, hls, hse, hq, hsX, hsY⟩ : ∃ s q, gr_s t s q ∧ gr_l t l s ∧ s ≤ e ∧ q < e ∧ ((lb = 0 ∧ s = pt) ∨ (lb = 1 ∧ pt = q + 1)) ∧ True := by
      rcases Nat.le_one_iff_eq_zero_or_eq_one.mp hlb1 with h0 | h0
      · rw [if_pos h0] at hedge
        rcases sc_pt_cases hpt with ⟨h, _⟩ | ⟨q, hs, hq, _, _⟩
        · exact (hedge h).elim
        · exact ⟨pt, q, hs, p5, by omega, hq, Or.inl ⟨h0, rfl⟩, trivial⟩
      · rw [if_neg (by omega)] at hedge
        obtain ⟨s, q, h1, h2, h3⟩ := gr_l_snoc p5 (by omega)
        have := gr_S_lt h2
        exact ⟨s, q, h2, h1, by omega, by omega, Or.inr ⟨h0, h3⟩, trivial⟩
    have hbs : sc_bg t s := sc_bg_in p4 hls
    have hle := gr_l_le hls
    have hok := sc_l (gr_l_app p5 p6)
    have hmn : sp_mn t pt ↔ sp_mn t s := sp_mn_s (fun i a b => hok.2.2 i a b) ⟨p1, p2⟩ ⟨hle, hse⟩
    have hltq := gr_S_lt hs
    obtain ⟨r, cl', sk', fr', st', pt', fc', hI, hX, hY⟩ := sp_stmt (cl := cl) (sk := sk) R I hbs hs (by omega) hmn hbb hlb htk
    refine ⟨r, cl', sk', fr', st', pt', fc', hI, fun f_valueTop f_operatorTop a_values a_operators Q hQ => hXs _ _ _ _ Q ?_, fun b_kinds b_values Q hQ => hYs _ _ Q ?_⟩
    · have h73 := hX f_valueTop f_operatorTop a_values a_operators Q hQ
      unfold wX_step_33
      refine br_f hne ?_
      rcases hsX with ⟨h0, h1⟩ | ⟨h0, h1⟩
      · rw [h1] at h73
        exact br_t (by rw [h0]; rfl) h73
      · have hSb : sc_Sb t n pt = s := by
          rw [h1]
          exact sc_Sb_val hls hs (by omega) (by rw [← h1]; exact hF)
        have t4 : T 4 pt = nI s := by
          have e1 : pt - 1 = q := by omega
          rw [hT.2 4 pt i1 ⟨i2, Or.inr (Or.inr (Or.inr (Or.inl ⟨rfl, by omega, by rw [e1]; exact gr_s_59 hs⟩)))⟩, xt_S4, hSb]
        refine br_f (by rw [h0]; decide) (And.intro (vp_in_nI (by omega) (by omega)) ?_)
        rw [nI_clamp (n := pt) (by omega), t4]
        exact h73
    · have h63 := hY b_kinds b_values Q hQ
      unfold wY_step_41
      refine br_f hne ?_
      rcases hsX with ⟨h0, h1⟩ | ⟨h0, h1⟩
      · rw [h1] at h63
        exact br_t (by rw [h0]; rfl) h63
      · have hSb : sc_Sb t n pt = s := by
          rw [h1]
          exact sc_Sb_val hls hs (by omega) (by rw [← h1]; exact hF)
        refine br_f (by rw [h0]; decide) (ys_sb X i1 (by rw [hF]; omega) ?_)
        rw [hSb]
        exact h63
end
end
section
/-! runs -/
section
variable {f_textCap f_ready f_symbolTop f_pos f_list f_open f_errorKind f_errorPos : Int32} {a_procFirst a_inverse a_invFirst a_invBegin a_symbols : Nat → Int32} {g_textLimit g_ready g_top g_errorPos : Int32} {b_wants b_inverse : Nat → Int32}
variable {t : Nat → Nat} {n sc dc : Nat} {T : Nat → Nat → Int32}
theorem sp_run (R : sp_R t n sc dc T a_procFirst) {b w : Nat} (hbb : b ≤ 1) (hw : w ≤ 100) : ∀ d i (cl sk fr : Nat → Int32) (st pt fc : Nat), i + d = w → sp_I t n sc dc fr fc pt st →
    sp_O t n sc dc T f_textCap f_ready f_symbolTop f_pos f_list f_open f_errorKind f_errorPos a_procFirst a_inverse a_invFirst a_invBegin a_symbols g_textLimit g_ready g_top g_errorPos b_wants b_inverse (fun f_valueTop f_operatorTop a_values a_operators Q => wX_run_30 Q (nI b) (nI w) (d + 1) (nI i) f_textCap (nI sc) (nI dc) f_ready (nI n) (nI (st)) (nI (pt)) (nI (fc)) f_symbolTop f_pos f_list f_open f_errorKind f_errorPos f_valueTop f_operatorTop (fun j => nI (t j)) cl sk fr (T 0) (T 1) (T 2) (T 3) (T 4) (T 5) (T 6) (T 7) a_procFirst a_inverse a_invFirst a_invBegin a_symbols a_values a_operators) (fun b_kinds b_values Q => wY_run_23 Q (nI b) (nI w) (d + 1) (nI i) g_textLimit (nI sc) (nI dc) (nI n) (nI (st)) (nI (fc)) (nI (pt)) g_ready g_top g_errorPos (fun j => nI (t j)) cl sk fr b_wants b_inverse b_kinds b_values) := by
  intro d
  induction d with
  | zero =>
    intro i cl sk fr st pt fc hi I
    refine ⟨nI w, cl, sk, fr, st, pt, fc, I, fun _ _ _ _ Q hQ => br_t (nI_le (by omega) (by omega)) (hQ _ _ _ _), fun _ _ Q hQ => br_t (nI_le (by omega) (by omega)) (hQ _ _)⟩
  | succ d ih =>
    intro i cl sk fr st pt fc hi I
    obtain ⟨r, cl', sk', fr', st', pt', fc', hI, hX, hY⟩ := sp_step (cl := cl) (sk := sk) (f_textCap := f_textCap) (f_ready := f_ready) (f_symbolTop := f_symbolTop) (f_pos := f_pos) (f_list := f_list) (f_open := f_open) (f_errorKind := f_errorKind) (f_errorPos := f_errorPos) (a_inverse := a_inverse) (a_invFirst := a_invFirst) (a_invBegin := a_invBegin) (a_symbols := a_symbols) (g_textLimit := g_textLimit) (g_ready := g_ready) (g_top := g_top) (g_errorPos := g_errorPos) (b_wants := b_wants) (b_inverse := b_inverse) R I hbb (tk := 1) (Nat.le_refl _)
    by_cases hr : r = 0
    · obtain ⟨r2, cl2, sk2, fr2, st2, pt2, fc2, hI2, hX2, hY2⟩ := ih (i + 1) cl' sk' fr' st' pt' fc' (by omega) hI
      refine ⟨r2, cl2, sk2, fr2, st2, pt2, fc2, hI2, fun _ _ _ _ Q hQ => ?_, fun _ _ Q hQ => ?_⟩
      · refine br_f (nI_ge (by omega) (by omega)) (hX _ _ _ _ _ (fun _ _ _ _ => br_t hr (nm_r (nI_1 i) (hX2 _ _ _ _ Q hQ))))
      · refine br_f (nI_ge (by omega) (by omega)) (hY _ _ _ (fun _ _ => br_t hr (nm_r (nI_1 i) (hY2 _ _ Q hQ))))
    · refine ⟨nI i, cl', sk', fr', st', pt', fc', hI, fun _ _ _ _ Q hQ => ?_, fun _ _ Q hQ => ?_⟩
      · exact br_f (nI_ge (by omega) (by omega)) (hX _ _ _ _ _ (fun _ _ _ _ => br_f hr (hQ _ _ _ _)))
      · exact br_f (nI_ge (by omega) (by omega)) (hY _ _ _ (fun _ _ => br_f hr (hQ _ _)))
/-- forward and backward, of a text that is ready -/
theorem sp_fb (R : sp_R t n sc dc T a_procFirst) {b : Nat} (hbb : b ≤ 1) (v1 : Int32) {cl sk fr : Nat → Int32} {st pt fc : Nat} (I : sp_I t n sc dc fr fc pt st) (hrx : f_ready = 1) (hry : g_ready = 1) :
    sp_O t n sc dc T f_textCap f_ready f_symbolTop f_pos f_list f_open f_errorKind f_errorPos a_procFirst a_inverse a_invFirst a_invBegin a_symbols g_textLimit g_ready g_top g_errorPos b_wants b_inverse (fun f_valueTop f_operatorTop a_values a_operators Q => wpX_run Q (f_textCap, nI sc, nI dc, f_ready, nI n, nI (st), nI (pt), nI (fc), f_symbolTop, f_pos, f_list, f_open, f_errorKind, f_errorPos, f_valueTop, f_operatorTop, fun j => nI (t j), cl, sk, fr, T 0, T 1, T 2, T 3, T 4, T 5, T 6, T 7, a_procFirst, a_inverse, a_invFirst, a_invBegin, a_symbols, a_values, a_operators) v1 (nI b)) (fun b_kinds b_values Q => wpY_run Q (g_textLimit, nI sc, nI dc, nI n, nI (st), nI (fc), nI (pt), g_ready, g_top, g_errorPos, fun j => nI (t j), cl, sk, fr, b_wants, b_inverse, b_kinds, b_values) v1 (nI b)) := by
  have hn0 : ¬ (1 : Int32) = 0 := by decide
  subst hrx
  subst hry
  by_cases h1 : (1 : Int32) ≤ v1
  · have h0 : (0 : Int32) ≤ v1 := Int32.le_trans (by decide) h1
    have main : ∀ w, w ≤ 100 → (∀ (Q : Int32 → SX → Prop) f_valueTop f_operatorTop a_values a_operators, (∃ n30 : Nat, wX_run_30 Q (nI b) (nI w) n30 0 f_textCap (nI sc) (nI dc) 1 (nI n) (nI (st)) (nI (pt)) (nI (fc)) f_symbolTop f_pos f_list f_open f_errorKind f_errorPos f_valueTop f_operatorTop (fun j => nI (t j)) cl sk fr (T 0) (T 1) (T 2) (T 3) (T 4) (T 5) (T 6) (T 7) a_procFirst a_inverse a_invFirst a_invBegin a_symbols a_values a_operators) → wpX_run Q (f_textCap, nI sc, nI dc, 1, nI n, nI (st), nI (pt), nI (fc), f_symbolTop, f_pos, f_list, f_open, f_errorKind, f_errorPos, f_valueTop, f_operatorTop, fun j => nI (t j), cl, sk, fr, T 0, T 1, T 2, T 3, T 4, T 5, T 6, T 7, a_procFirst, a_inverse, a_invFirst, a_invBegin, a_symbols, a_values, a_operators) v1 (nI b)) → (∀ (Q : Int32 → SY → Prop) b_kinds b_values, (∃ n23 : Nat, wY_run_23 Q (nI b) (nI w) n23 0 g_textLimit (nI sc) (nI dc) (nI n) (nI (st)) (nI (fc)) (nI (pt)) 1 g_top g_errorPos (fun j => nI (t j)) cl sk fr b_wants b_inverse b_kinds b_values) → wpY_run Q (g_textLimit, nI sc, nI dc, nI n, nI (st), nI (fc), nI (pt), 1, g_top, g_errorPos, fun j => nI (t j), cl, sk, fr, b_wants, b_inverse, b_kinds, b_values) v1 (nI b)) →
        sp_O t n sc dc T f_textCap 1 f_symbolTop f_pos f_list f_open f_errorKind f_errorPos a_procFirst a_inverse a_invFirst a_invBegin a_symbols g_textLimit 1 g_top g_errorPos b_wants b_inverse (fun f_valueTop f_operatorTop a_values a_operators Q => wpX_run Q (f_textCap, nI sc, nI dc, 1, nI n, nI (st), nI (pt), nI (fc), f_symbolTop, f_pos, f_list, f_open, f_errorKind, f_errorPos, f_valueTop, f_operatorTop, fun j => nI (t j), cl, sk, fr, T 0, T 1, T 2, T 3, T 4, T 5, T 6, T 7, a_procFirst, a_inverse, a_invFirst, a_invBegin, a_symbols, a_values, a_operators) v1 (nI b)) (fun b_kinds b_values Q => wpY_run Q (g_textLimit, nI sc, nI dc, nI n, nI (st), nI (fc), nI (pt), 1, g_top, g_errorPos, fun j => nI (t j), cl, sk, fr, b_wants, b_inverse, b_kinds, b_values) v1 (nI b)) := by
      intro w hw h2 h3
      obtain ⟨r, cl', sk', fr', st', pt', fc', hI, hX, hY⟩ := sp_run (f_textCap := f_textCap) (f_ready := 1) (f_symbolTop := f_symbolTop) (f_pos := f_pos) (f_list := f_list) (f_open := f_open) (f_errorKind := f_errorKind) (f_errorPos := f_errorPos) (a_inverse := a_inverse) (a_invFirst := a_invFirst) (a_invBegin := a_invBegin) (a_symbols := a_symbols) (g_textLimit := g_textLimit) (g_ready := 1) (g_top := g_top) (g_errorPos := g_errorPos) (b_wants := b_wants) (b_inverse := b_inverse) R hbb hw w 0 cl sk fr st pt fc (by omega) I
      exact ⟨r, cl', sk', fr', st', pt', fc', hI, fun _ _ _ _ Q hQ => h2 Q _ _ _ _ ⟨_, hX _ _ _ _ Q hQ⟩, fun _ _ Q hQ => h3 Q _ _ ⟨_, hY _ _ Q hQ⟩⟩
    by_cases h100 : v1 ≤ (100 : Int32)
    · obtain ⟨w, hw, rfl⟩ : ∃ w : Nat, w ≤ 100 ∧ v1 = nI w := nI_of2 (M := 100) (n := 100) (by decide) (Int32.not_lt.mpr h0) h100
      exact main w hw (fun Q _ _ _ _ h => br_f hn0 (br_t h1 (br_t h100 h))) (fun Q _ _ h => br_f hn0 (br_t h0 (br_t h100 h)))
    · exact main 100 (Nat.le_refl _) (fun Q _ _ _ _ h => br_f hn0 (br_t h1 (br_f h100 h))) (fun Q _ _ h => br_f hn0 (br_t h0 (br_f h100 h)))
  · refine ⟨0, cl, sk, fr, st, pt, fc, I, fun _ _ _ _ Q hQ => br_f hn0 (br_f h1 (hQ _ _ _ _)), fun _ _ Q hQ => br_f hn0 ?_⟩
    by_cases h0 : (0 : Int32) ≤ v1
    · have : v1 = 0 := by
        apply Int32.toInt_inj.mp
        rw [Int32.le_iff_toInt_le] at h0 h1
        have e1 : (1 : Int32).toInt = 1 := by decide
        have e0 : (0 : Int32).toInt = 0 := by decide
        rw [e0] at h0 ⊢
        rw [e1] at h1
        omega
      subst this
      exact br_t (by decide) (br_t (by decide) ⟨1, br_t (by decide) (hQ _ _)⟩)
    · exact br_f h0 ⟨1, br_t (by decide) (hQ _ _)⟩
end
end
section
/-! the inverse text: where lists, statements and characters come to be -/
theorem iv_pg : ∀ n (g : Nat → Nat), (∀ i, i < n → g i < n) → (∀ i j, i < n → j < n → g i = g j → i = j) → ∀ y, y < n → ∃ i, i < n ∧ g i = y := by
  intro n
  induction n with
  | zero => intro g _ _ y hy; omega
  | succ n ih =>
    intro g hg hi y hy
    have hgn := hg n (by omega)
    have h1 : ∀ i, i < n → (if g i = n then g n else g i) < n := by
      intro i h
      have := hg i (by omega)
      split
      · rename_i e
        rcases Nat.lt_or_ge (g n) n with h2 | h2
        · exact h2
        · have e2 : g i = g n := by omega
          have := hi i n (by omega) (by omega) e2
          omega
      · omega
    have h2 : ∀ i j, i < n → j < n → (if g i = n then g n else g i) = (if g j = n then g n else g j) → i = j := by
      intro i j h3 h4 e
      by_cases e1 : g i = n
      · by_cases e2 : g j = n
        · exact hi i j (by omega) (by omega) (by omega)
        · rw [if_pos e1, if_neg e2] at e
          have := hi n j (by omega) (by omega) e
          omega
      · by_cases e2 : g j = n
        · rw [if_neg e1, if_pos e2] at e
          have := hi i n (by omega) (by omega) e
          omega
        · rw [if_neg e1, if_neg e2] at e
          exact hi i j (by omega) (by omega) e
    by_cases hyn : y = g n
    · exact ⟨n, by omega, hyn.symm⟩
    · by_cases hy2 : y = n
      · have hgn2 : g n < n := by omega
        obtain ⟨i, hi1, hi2⟩ := ih _ h1 h2 (g n) hgn2
        by_cases e1 : g i = n
        · exact ⟨i, by omega, by omega⟩
        · rw [if_neg e1] at hi2
          have := hi i n (by omega) (by omega) hi2
          omega
      · obtain ⟨i, hi1, hi2⟩ := ih _ h1 h2 y (by omega)
        by_cases e1 : g i = n
        · rw [if_pos e1] at hi2; omega
        · rw [if_neg e1] at hi2
          exact ⟨i, by omega, hi2⟩
def iv_F (t : Nat → Nat) (n : Nat) : Nat → Nat → Nat
  | 0, l => l
  | k + 1, l => if 1 ≤ l ∧ t (l - 1) = 123 then iv_F t n k (sc_Fst t (sc_Ow t l)) + sc_End t n (sc_Ow t l) - sc_Af t n (sc_Ow t l) + (sc_Af t n (sc_Ow t l) - sc_Tl t n (sc_Ow t l) - 1) + 2 + (l - sc_Fa t n (sc_Ow t l)) else l
/-- FIRST of the inverted list -/
def iv_IF (t : Nat → Nat) (n l : Nat) : Nat := iv_F t n l l
/-- where the inverted statement begins -/
def iv_IB (t : Nat → Nat) (n s : Nat) : Nat := iv_IF t n (sc_Fst t s) + sc_End t n s - sc_Af t n s
/-- a block's owner -/
theorem iv_own {t : Nat → Nat} {n l e : Nat} (hc : sc_cx t n l e) (hl : 1 ≤ l ∧ t (l - 1) = 123) : ∃ s a ea eb q, sc_bg t s ∧ q < n ∧ gr_b t s a ea eb q ∧ ((l = a + 1 ∧ e = ea) ∨ (l = ea + 2 ∧ e = eb)) ∧ sc_Ow t l = s ∧ s < l := by
  rcases hc with ⟨h | ⟨_, _, h⟩, _⟩ | ⟨s, a, ea, eb, q, h1, h2, h3, h4⟩
  · omega
  · unfold gr_nm at h; omega
  · obtain ⟨w1, w2⟩ := sc_Ow_val h3
    obtain ⟨_, _, _, _, _, b1, b2, b3, b4⟩ := sc_b_val h3 h2
    refine ⟨s, a, ea, eb, q, h1, h2, h3, h4, ?_, ?_⟩
    · rcases h4 with ⟨e1, _⟩ | ⟨e1, _⟩
      · rw [e1]; exact w1
      · rw [e1]; exact w2
    · omega
theorem iv_F_fuel {t : Nat → Nat} {n : Nat} (hG : gr_G t n) : ∀ N l e, l ≤ N → sc_cx t n l e → ∀ k, l ≤ k → iv_F t n k l = iv_F t n l l := by
  intro N
  induction N with
  | zero =>
    intro l e hl _ k _
    have : l = 0 := by omega
    subst this
    cases k with
    | zero => rfl
    | succ k => exact if_neg (fun z => absurd z.1 (by decide))
  | succ N ih =>
    intro l e hl hc k hk
    cases l with
    | zero =>
      cases k with
      | zero => rfl
      | succ k => exact if_neg (fun z => absurd z.1 (by decide))
    | succ l' =>
      obtain ⟨k', rfl⟩ : ∃ k', k = k' + 1 := ⟨k - 1, by omega⟩
      by_cases h : 1 ≤ l' + 1 ∧ t (l' + 1 - 1) = 123
      · obtain ⟨s, a, ea, eb, q, h1, h2, h3, h4, h5, h6⟩ := iv_own hc h
        have hlt := gr_S_lt (Or.inr (Or.inr (Or.inr ⟨a, ea, eb, h3⟩)) : gr_s t s q)
        obtain ⟨l0, e0, hpt⟩ := sc_pts hG s (by omega) h1
        have hF := sc_pt_fst hpt
        obtain ⟨p1, p2, p3, p4, p5, p6⟩ := hpt
        rw [iv_F, iv_F, if_pos h, if_pos h, h5, hF, ih l0 e0 (by omega) p4 k' (by omega), ih l0 e0 (by omega) p4 l' (by omega)]
      · rw [iv_F, iv_F, if_neg h, if_neg h]
theorem iv_top {t : Nat → Nat} {n l e : Nat} (h : sc_tp t n l e) : iv_IF t n l = l := by
  unfold iv_IF
  cases l with
  | zero => rfl
  | succ l =>
    rw [iv_F, if_neg (fun z => ?_)]
    have h2 := z.2
    rcases h.1 with h | ⟨_, _, h⟩
    · omega
    · unfold gr_nm at h; omega
theorem iv_ib {t : Nat → Nat} {n s q l e : Nat} (hpt : sc_pt t n s l e) (hs : gr_s t s q) (hq : q < n) : iv_IB t n s = iv_IF t n l + e - (q + 1) := by
  unfold iv_IB
  rw [sc_pt_fst hpt, sc_pt_end hpt, sc_Af_val hs hq]
theorem iv_blk {t : Nat → Nat} {n s a ea eb q : Nat} (hG : gr_G t n) (hb : sc_bg t s) (hB : gr_b t s a ea eb q) (hq : q < n) : iv_IF t n (a + 1) = iv_IB t n s + (q - eb - 1) + 2 ∧ iv_IF t n (ea + 2) = iv_IB t n s + (q - eb - 1) + 2 + (ea + 1 - a) := by
  obtain ⟨v1, v2, v3, v4, v5, b1, b2, b3, b4⟩ := sc_b_val hB hq
  obtain ⟨w1, w2⟩ := sc_Ow_val hB
  have hs : gr_s t s q := Or.inr (Or.inr (Or.inr ⟨a, ea, eb, hB⟩))
  have hAf := sc_Af_val hs hq
  obtain ⟨l0, e0, hpt⟩ := sc_pts hG s (by omega) hb
  have hF := sc_pt_fst hpt
  have hE := sc_pt_end hpt
  have hib : iv_IB t n s = iv_IF t n l0 + e0 - (q + 1) := iv_ib hpt hs hq
  obtain ⟨p1, p2, p3, p4, p5, p6⟩ := hpt
  have h3 := hB.2.2.1
  have h7 := hB.2.2.2.2.2.2.1
  have c1 : 1 ≤ a + 1 ∧ t (a + 1 - 1) = 123 := ⟨by omega, by rw [Nat.add_sub_cancel]; exact h3⟩
  have c2 : 1 ≤ ea + 2 ∧ t (ea + 2 - 1) = 123 := ⟨by omega, h7⟩
  constructor
  · unfold iv_IF
    rw [iv_F, if_pos c1, w1, hF, hE, hAf, v3, v1, iv_F_fuel hG l0 l0 e0 (Nat.le_refl _) p4 a (by omega)]
    have : iv_F t n l0 l0 = iv_IF t n l0 := rfl
    rw [this, hib]; omega
  · unfold iv_IF
    have e2 : ea + 2 = (ea + 1) + 1 := rfl
    rw [e2, iv_F]
    rw [if_pos c2, w2, hF, hE, hAf, v3, v1, iv_F_fuel hG l0 l0 e0 (Nat.le_refl _) p4 (ea + 1) (by omega)]
    have : iv_F t n l0 l0 = iv_IF t n l0 := rfl
    rw [this, hib]; omega
/-- the character j comes to i -/
def iv_M (t : Nat → Nat) (n j i : Nat) : Prop := (j < n ∧ (t j = 58 ∨ (1 ≤ j ∧ t (j - 1) = 58)) ∧ i = j) ∨
  ∃ s q, sc_bg t s ∧ q < n ∧ gr_s t s q ∧ s ≤ j ∧ j ≤ q ∧ ((t s ≠ 63 ∧ t s ≠ 64 ∧ i = iv_IB t n s + (j - s)) ∨
    ∃ a ea eb, gr_b t s a ea eb q ∧ ((j = s ∧ i = iv_IB t n s) ∨ (j = q ∧ i = iv_IB t n s + (q - s)) ∨ (s < j ∧ j < a ∧ i = iv_IB t n s + (j - s) + (q - eb - 1) + (eb - a) + 1) ∨ (eb < j ∧ j < q ∧ i = iv_IB t n s + (j - eb)) ∨
      ((j = a ∨ j = ea ∨ j = ea + 1 ∨ j = eb) ∧ i = iv_IB t n s + (j - a) + (q - eb - 1) + 1)))
/-- a statement that begins within a block ends within it -/
theorem sc_within {t : Nat → Nat} {x y s q : Nat} (hl : gr_l t x y) (hy : t y = 125) (hs : gr_s t s q) (h1 : x ≤ s) (h2 : s ≤ y) : q < y := by
  obtain ⟨a1, a2, a3⟩ := sc_l hl
  obtain ⟨b1, b2, b3⟩ := sc_s hs
  have hd := sc_D_c hy
  have c1 := a2 s h1 h2
  have hlt := gr_S_lt hs
  rcases Nat.lt_or_ge q y with h | h
  · exact h
  · have := b2 (y + 1) (by omega) (by omega)
    omega
theorem iv_58 {t : Nat → Nat} {n s : Nat} (hG : gr_G t n) (hb : sc_bg t s) (hs : s ≤ n) (h1 : 1 ≤ s) : t (s - 1) ≠ 58 := by
  obtain ⟨l, e, hpt⟩ := sc_pts hG s hs hb
  exact sc_ne58 hpt.2.2.2.1 hpt.2.2.2.2.1 h1
/-- j is a character of s's own -/
def iv_ow (t : Nat → Nat) (s q j : Nat) : Prop := s ≤ j ∧ j ≤ q ∧ ∀ a ea eb, gr_b t s a ea eb q → ¬ (a < j ∧ j < ea) ∧ ¬ (ea + 1 < j ∧ j < eb)
theorem iv_ow_lt {t : Nat → Nat} {n s q s' q' j : Nat} (hG : gr_G t n) (hb : sc_bg t s) (hq : q < n) (hs : gr_s t s q) (hb' : sc_bg t s') (hq' : q' < n) (hs' : gr_s t s' q') (ho : iv_ow t s q j) (ho' : iv_ow t s' q' j) : ¬ s < s' := by
  intro hlt
  have l1 := gr_S_lt hs
  obtain ⟨o1, o2, o3⟩ := ho
  obtain ⟨o1', o2', o3'⟩ := ho'
  obtain ⟨a, ea, eb, hB, hin⟩ := sc_in hs (iv_58 hG hb (by omega)) hlt (by omega) hb'
  have hno := o3 a ea eb hB
  obtain ⟨g1, g2, g3, g4, g5, g6, g7, g8, g9, g10, g11, g12⟩ := hB
  rcases hin with ⟨i1, i2⟩ | ⟨i1, i2⟩
  · have := sc_within g5 g6 hs' i1 i2
    omega
  · have := sc_within g9 g10 hs' i1 i2
    omega
theorem iv_ow_eq {t : Nat → Nat} {n s q s' q' j : Nat} (hG : gr_G t n) (hb : sc_bg t s) (hq : q < n) (hs : gr_s t s q) (hb' : sc_bg t s') (hq' : q' < n) (hs' : gr_s t s' q') (ho : iv_ow t s q j) (ho' : iv_ow t s' q' j) : s = s' ∧ q = q' := by
  have h1 := iv_ow_lt hG hb hq hs hb' hq' hs' ho ho'
  have h2 := iv_ow_lt hG hb' hq' hs' hb hq hs ho' ho
  have e : s = s' := by omega
  subst e
  have a1 := sc_Af_val hs hq
  have a2 := sc_Af_val hs' hq'
  exact ⟨rfl, by omega⟩
theorem iv_b_eq {t : Nat → Nat} {n s q a ea eb a' ea' eb' : Nat} (hq : q < n) (h : gr_b t s a ea eb q) (h' : gr_b t s a' ea' eb' q) : a' = a ∧ ea' = ea ∧ eb' = eb := by
  obtain ⟨v1, v2, v3, _⟩ := sc_b_val h hq
  obtain ⟨v1', v2', v3', _⟩ := sc_b_val h' hq
  exact ⟨by omega, by omega, by omega⟩
/-- what iv_M says, for the own statement -/
theorem iv_M_ow {t : Nat → Nat} {n s q j i : Nat} (hq : q < n) (hs : gr_s t s q) (h1 : s ≤ j) (h2 : j ≤ q) (h : (t s ≠ 63 ∧ t s ≠ 64 ∧ i = iv_IB t n s + (j - s)) ∨
    ∃ a ea eb, gr_b t s a ea eb q ∧ ((j = s ∧ i = iv_IB t n s) ∨ (j = q ∧ i = iv_IB t n s + (q - s)) ∨ (s < j ∧ j < a ∧ i = iv_IB t n s + (j - s) + (q - eb - 1) + (eb - a) + 1) ∨ (eb < j ∧ j < q ∧ i = iv_IB t n s + (j - eb)) ∨
      ((j = a ∨ j = ea ∨ j = ea + 1 ∨ j = eb) ∧ i = iv_IB t n s + (j - a) + (q - eb - 1) + 1))) : iv_ow t s q j := by
  refine ⟨h1, h2, fun a' ea' eb' hB' => ?_⟩
  obtain ⟨_, _, _, _, _, b1, b2, b3, b4⟩ := sc_b_val hB' hq
  rcases h with ⟨n63, n64, _⟩ | ⟨a, ea, eb, hB, h⟩
  · have := hB'.1; omega
  · obtain ⟨rfl, rfl, rfl⟩ := iv_b_eq hq hB hB'
    omega
theorem iv_M_fun {t : Nat → Nat} {n j i i' : Nat} (hG : gr_G t n) (h : iv_M t n j i) (h' : iv_M t n j i') : i = i' := by
  have hx : ∀ s q, sc_bg t s → q < n → gr_s t s q → s ≤ j → j ≤ q → ¬ (t j = 58 ∨ (1 ≤ j ∧ t (j - 1) = 58)) := by
    intro s q hb hq hs h1 h2 h3
    have hok := (sc_s hs).2.2
    have hlt := gr_S_lt hs
    rcases h3 with h3 | ⟨h3, h4⟩
    · exact hok j h1 (by omega) h3
    · rcases Nat.lt_or_ge (j - 1) s with h5 | h5
      · have : j = s := by omega
        subst this
        exact iv_58 hG hb (by omega) h3 h4
      · exact hok (j - 1) h5 (by omega) h4
  rcases h with ⟨h1, h2, rfl⟩ | ⟨s, q, hb, hq, hs, h1, h2, h3⟩
  · rcases h' with ⟨_, _, rfl⟩ | ⟨s', q', hb', hq', hs', h1', h2', h3'⟩
    · rfl
    · exact (hx s' q' hb' hq' hs' h1' h2' h2).elim
  · rcases h' with ⟨_, h2', rfl⟩ | ⟨s', q', hb', hq', hs', h1', h2', h3'⟩
    · exact (hx s q hb hq hs h1 h2 h2').elim
    · obtain ⟨rfl, rfl⟩ := iv_ow_eq hG hb hq hs hb' hq' hs' (iv_M_ow hq hs h1 h2 h3) (iv_M_ow hq' hs' h1' h2' h3')
      rcases h3 with ⟨n63, n64, e⟩ | ⟨a, ea, eb, hB, h3⟩
      · rcases h3' with ⟨_, _, e'⟩ | ⟨a', ea', eb', hB', _⟩
        · omega
        · have := hB'.1; omega
      · rcases h3' with ⟨n63, n64, _⟩ | ⟨a', ea', eb', hB', h3'⟩
        · have := hB.1; omega
        · obtain ⟨_, _, _, _, _, b1, b2, b3, b4⟩ := sc_b_val hB hq
          obtain ⟨rfl, rfl, rfl⟩ := iv_b_eq hq hB hB'
          omega
/-- every place in the inverted list is taken -/
theorem iv_onto {t : Nat → Nat} {n : Nat} (hG : gr_G t n) : ∀ f x e l, gr_L t f x e → sc_cx t n l e → e ≤ n → gr_l t l x → sc_bg t x → ∀ i, iv_IF t n l ≤ i → i < iv_IF t n l + (e - x) → ∃ j, x ≤ j ∧ j < e ∧ iv_M t n j i := by
  intro f
  induction f with
  | zero =>
    intro x e l h _ _ _ _ i h1 h2
    have : x = e := h
    omega
  | succ f ih =>
    intro x e l h hc he hl hb i h1 h2
    have hxe : gr_l t x e := ⟨f + 1, h⟩
    rcases h with rfl | ⟨q, hS, hL⟩
    · omega
    have hs : gr_s t x q := gr_S_s hS
    have hqe := gr_L_le _ _ _ hL
    have hxq := gr_S_lt hs
    have hlx := gr_l_le hl
    have hpt : sc_pt t n x l e := ⟨hlx, by omega, he, hc, hl, hxe⟩
    have hib := iv_ib hpt hs (by omega)
    rcases Nat.lt_or_ge i (iv_IF t n l + (e - (q + 1))) with h3 | h3
    · obtain ⟨j, j1, j2, j3⟩ := ih (q + 1) e l hL hc he (gr_l_app hl (gr_l_cons hs gr_l_nil)) (sc_bg_1 (Or.inl (gr_s_59 hs))) i h1 h3
      exact ⟨j, by omega, j2, j3⟩
    · -- in the inverted statement
      by_cases hcomp : t x = 63 ∨ t x = 64
      · have hB0 : ∃ a ea eb, gr_B t (gr_L t f) x a ea eb q := by
          rcases hS with ⟨o, h⟩ | h | h | h
          · have := gr_U_pl h (Nat.le_refl _) hxq; unfold gr_pl at this; omega
          · have := h.1; omega
          · have := h.1; omega
          · exact h
        obtain ⟨a, ea, eb, hB⟩ := hB0
        have hb' : gr_b t x a ea eb q := gr_B_mono (fun _ _ h => ⟨f, h⟩) hB
        obtain ⟨_, _, _, _, _, b1, b2, b3, b4⟩ := sc_b_val hb' (n := n) (by omega)
        obtain ⟨f1, f2⟩ := iv_blk hG hb hb' (by omega)
        obtain ⟨g1, g2, g3, g4, g5, g6, g7, g8, g9, g10, g11, g12⟩ := hB
        have mk : ∀ j i, x ≤ j → j ≤ q → ((j = x ∧ i = iv_IB t n x) ∨ (j = q ∧ i = iv_IB t n x + (q - x)) ∨ (x < j ∧ j < a ∧ i = iv_IB t n x + (j - x) + (q - eb - 1) + (eb - a) + 1) ∨ (eb < j ∧ j < q ∧ i = iv_IB t n x + (j - eb)) ∨ ((j = a ∨ j = ea ∨ j = ea + 1 ∨ j = eb) ∧ i = iv_IB t n x + (j - a) + (q - eb - 1) + 1)) → iv_M t n j i :=
          fun j i k1 k2 k3 => Or.inr ⟨x, q, hb, by omega, hs, k1, k2, Or.inr ⟨a, ea, eb, hb', k3⟩⟩
        generalize hI : iv_IB t n x = B at *
        rcases Nat.lt_or_ge B i with c0 | c0
        · rcases Nat.lt_or_ge i (B + (q - eb)) with c1 | c1
          · -- e2
            exact ⟨eb + (i - B), by omega, by omega, mk _ _ (by omega) (by omega) (Or.inr (Or.inr (Or.inr (Or.inl (⟨by omega, by omega, by omega⟩)))))⟩
          · rcases Nat.lt_or_ge (B + (q - eb)) i with c2 | c2
            · rcases Nat.lt_or_ge i (B + (q - eb) + (ea - a)) with c3 | c3
              · -- A
                obtain ⟨j, j1, j2, j3⟩ := ih (a + 1) ea (a + 1) g5 (Or.inr ⟨x, a, ea, eb, q, hb, by omega, hb', Or.inl ⟨rfl, rfl⟩⟩) (by omega) gr_l_nil (sc_bg_1 (Or.inr g3)) i (by omega) (by omega)
                exact ⟨j, by omega, by omega, j3⟩
              · rcases Nat.lt_or_ge (B + (q - eb) + (ea - a)) i with c4 | c4
                · rcases Nat.lt_or_ge (B + (q - eb) + (ea - a) + 1) i with c5 | c5
                  · rcases Nat.lt_or_ge i (B + (q - eb) + (eb - a)) with c6 | c6
                    · -- B
                      obtain ⟨j, j1, j2, j3⟩ := ih (ea + 2) eb (ea + 2) g9 (Or.inr ⟨x, a, ea, eb, q, hb, by omega, hb', Or.inr ⟨rfl, rfl⟩⟩) (by omega) gr_l_nil (sc_bg_1 (p := ea + 1) (Or.inr g7)) i (by omega) (by omega)
                      exact ⟨j, by omega, by omega, j3⟩
                    · rcases Nat.lt_or_ge (B + (q - eb) + (eb - a)) i with c7 | c7
                      · rcases Nat.lt_or_ge i (B + (q - x)) with c8 | c8
                        · -- e1
                          exact ⟨x + (i - (B + (q - eb) + (eb - a))), by omega, by omega, mk _ _ (by omega) (by omega) (Or.inr (Or.inr (Or.inl (⟨by omega, by omega, by omega⟩))))⟩
                        · exact ⟨q, by omega, by omega, mk _ _ (by omega) (by omega) (Or.inr (Or.inl (⟨rfl, by omega⟩)))⟩
                      · exact ⟨eb, by omega, by omega, mk _ _ (by omega) (by omega) (Or.inr (Or.inr (Or.inr (Or.inr (⟨Or.inr (Or.inr (Or.inr rfl)), by omega⟩)))))⟩
                  · exact ⟨ea + 1, by omega, by omega, mk _ _ (by omega) (by omega) (Or.inr (Or.inr (Or.inr (Or.inr (⟨Or.inr (Or.inr (Or.inl rfl)), by omega⟩)))))⟩
                · exact ⟨ea, by omega, by omega, mk _ _ (by omega) (by omega) (Or.inr (Or.inr (Or.inr (Or.inr (⟨Or.inr (Or.inl rfl), by omega⟩)))))⟩
            · exact ⟨a, by omega, by omega, mk _ _ (by omega) (by omega) (Or.inr (Or.inr (Or.inr (Or.inr (⟨Or.inl rfl, by omega⟩)))))⟩
        · exact ⟨x, by omega, by omega, mk _ _ (by omega) (by omega) (Or.inl (⟨rfl, by omega⟩))⟩
      · refine ⟨x + (i - iv_IB t n x), by omega, by omega, Or.inr ⟨x, q, hb, by omega, hs, by omega, by omega, Or.inl ⟨by omega, by omega, by omega⟩⟩⟩
end
section
/-! the inverse text: one to one, and its characters -/
theorem iv_on {t : Nat → Nat} {n : Nat} (hG : gr_G t n) : ∀ i, i < n → ∃ j, j < n ∧ iv_M t n j i := by
  have hG' := hG
  obtain ⟨e0, he0, hl0, f, hQ⟩ := hG'
  have hqe : ∀ f e, gr_Q t n f e → e = n ∨ t e = 58 := by
    intro f e h
    cases f with
    | zero => exact Or.inl h
    | succ f =>
      rcases h with h | ⟨_, h, _⟩
      · exact Or.inl h
      · exact Or.inr h
  have hq : ∀ f p, gr_Q t n f p → p ≤ n → ∀ i, p ≤ i → i < n → ∃ j, j < n ∧ iv_M t n j i := by
    intro f
    induction f with
    | zero => intro p h _ i h1 h2; have : p = n := h; omega
    | succ f ih =>
      intro p h hp i h1 h2
      rcases h with h | ⟨h3, h4, h5, e, he, hl, hQ⟩
      · omega
      have hcx : sc_tp t n (p + 2) e := ⟨Or.inr ⟨by omega, h4, h5⟩, hqe f e hQ⟩
      have hle := gr_l_le hl
      rcases Nat.lt_or_ge p i with i1 | i1
      · rcases Nat.lt_or_ge (p + 1) i with i2 | i2
        · rcases Nat.lt_or_ge i e with i3 | i3
          · obtain ⟨g, hg⟩ := hl
            have hF := iv_top hcx
            obtain ⟨j, j1, j2, j3⟩ := iv_onto hG g (p + 2) e (p + 2) hg (Or.inl hcx) he gr_l_nil (sc_bg_2 h4) i (by rw [hF]; exact i2) (by rw [hF]; omega)
            exact ⟨j, by omega, j3⟩
          · exact ih e hQ he i i3 h2
        · have : i = p + 1 := by omega
          subst this
          exact ⟨p + 1, h2, Or.inl ⟨h2, Or.inr ⟨by omega, by rw [Nat.add_sub_cancel]; exact h4⟩, rfl⟩⟩
      · have : i = p := by omega
        subst this
        exact ⟨i, h2, Or.inl ⟨h2, Or.inl h4, rfl⟩⟩
  intro i hi
  rcases Nat.lt_or_ge i e0 with h | h
  · have hcx : sc_tp t n 0 e0 := ⟨Or.inl rfl, hqe f e0 hQ⟩
    obtain ⟨g, hg⟩ := hl0
    have hF := iv_top hcx
    obtain ⟨j, j1, j2, j3⟩ := iv_onto hG g 0 e0 0 hg (Or.inl hcx) he0 gr_l_nil (Or.inl rfl) i (by rw [hF]; omega) (by rw [hF]; omega)
    exact ⟨j, by omega, j3⟩
  · exact hq f e0 hQ he0 i h hi
/-- the places are exchanged -/
theorem iv_bij {t : Nat → Nat} {n : Nat} (hG : gr_G t n) : ∃ g : Nat → Nat, (∀ i, i < n → g i < n ∧ iv_M t n (g i) i) ∧ (∀ j i, j < n → iv_M t n j i → i < n ∧ g i = j) ∧ (∀ j, j < n → ∃ i, i < n ∧ iv_M t n j i) := by
  have hex : ∀ i, ∃ j, i < n → (j < n ∧ iv_M t n j i) := by
    intro i
    rcases Nat.lt_or_ge i n with h | h
    · obtain ⟨j, j1, j2⟩ := iv_on hG i h
      exact ⟨j, fun _ => ⟨j1, j2⟩⟩
    · exact ⟨0, fun z => by omega⟩
  have hg : ∀ i, i < n → (Classical.choose (hex i) < n ∧ iv_M t n (Classical.choose (hex i)) i) := fun i hi => Classical.choose_spec (hex i) hi
  have hsur := iv_pg n (fun i => Classical.choose (hex i)) (fun i hi => (hg i hi).1) (fun i j hi hj e => by
    have h1 := (hg i hi).2
    have h2 := (hg j hj).2
    have e' : Classical.choose (hex i) = Classical.choose (hex j) := e
    rw [e'] at h1
    exact iv_M_fun hG h1 h2)
  refine ⟨fun i => Classical.choose (hex i), hg, fun j i hj hM => ?_, fun j hj => ?_⟩
  · obtain ⟨i2, h1, h2⟩ := hsur j hj
    have h2' : Classical.choose (hex i2) = j := h2
    have h3 := (hg i2 h1).2
    rw [h2'] at h3
    have e := iv_M_fun hG hM h3
    subst e
    exact ⟨h1, h2⟩
  · obtain ⟨i, h1, h2⟩ := hsur j hj
    have h2' : Classical.choose (hex i) = j := h2
    have h3 := (hg i h1).2
    rw [h2'] at h3
    exact ⟨i, h1, h3⟩
def iv_op (c : Nat) : Nat := if c = 43 then 45 else if c = 45 then 43 else if c = 60 then 62 else if c = 62 then 60 else c
def iv_mk (t : Nat → Nat) (n s : Nat) : Nat := if t s = 62 ∨ t s = 60 then s else sc_Te t n s
/-- the character j is written as c -/
def iv_T (t : Nat → Nat) (n j c : Nat) : Prop := ∃ s, s ≤ j ∧ sc_bg t s ∧ (∀ i, s < i → i ≤ j → ¬ sc_bg t i) ∧ ((j = iv_mk t n s ∧ sm_ac (t s) ∧ c = iv_op (t j)) ∨ (¬ (j = iv_mk t n s ∧ sm_ac (t s)) ∧ c = t j))
theorem iv_T_ex (t : Nat → Nat) (n j : Nat) : ∃ c, iv_T t n j c := by
  have hb : ∀ j, ∃ s, s ≤ j ∧ sc_bg t s ∧ (∀ i, s < i → i ≤ j → ¬ sc_bg t i) := by
    intro j
    induction j with
    | zero => exact ⟨0, Nat.le_refl _, Or.inl rfl, fun i a b => by omega⟩
    | succ j ih =>
      rcases Classical.em (sc_bg t (j + 1)) with h | h
      · exact ⟨j + 1, Nat.le_refl _, h, fun i a b => by omega⟩
      · obtain ⟨s, s1, s2, s3⟩ := ih
        refine ⟨s, by omega, s2, fun i a b => ?_⟩
        rcases Nat.lt_or_ge j i with h1 | h1
        · have : i = j + 1 := by omega
          rw [this]; exact h
        · exact s3 i a h1
  obtain ⟨s, s1, s2, s3⟩ := hb j
  rcases Classical.em (j = iv_mk t n s ∧ sm_ac (t s)) with h | h
  · exact ⟨_, s, s1, s2, s3, Or.inl ⟨h.1, h.2, rfl⟩⟩
  · exact ⟨_, s, s1, s2, s3, Or.inr ⟨h, rfl⟩⟩
theorem iv_T_fun {t : Nat → Nat} {n j c c' : Nat} (h : iv_T t n j c) (h' : iv_T t n j c') : c = c' := by
  obtain ⟨s, s1, s2, s3, s4⟩ := h
  obtain ⟨s', s1', s2', s3', s4'⟩ := h'
  have e : s = s' := by
    rcases Nat.lt_trichotomy s s' with h | h | h
    · exact (s3 s' h s1' s2').elim
    · exact h
    · exact (s3' s h s1 s2).elim
  subst e
  rcases s4 with ⟨a, b, c⟩ | ⟨a, c⟩
  · rcases s4' with ⟨_, _, c'⟩ | ⟨a', _⟩
    · omega
    · exact (a' ⟨a, b⟩).elim
  · rcases s4' with ⟨a', b', _⟩ | ⟨_, c'⟩
    · exact (a ⟨a', b'⟩).elim
    · omega
/-- ct is the inverse text -/
def iv_C (t : Nat → Nat) (n : Nat) (ct : Nat → Nat) : Prop := ∀ j i c, j < n → iv_M t n j i → iv_T t n j c → ct i = c
theorem iv_C_ex {t : Nat → Nat} {n : Nat} (hG : gr_G t n) : ∃ ct, iv_C t n ct := by
  obtain ⟨g, g1, g2, g3⟩ := iv_bij hG
  refine ⟨fun i => Classical.choose (iv_T_ex t n (g i)), fun j i c hj hM hT => ?_⟩
  obtain ⟨h1, h2⟩ := g2 j i hj hM
  subst h2
  exact iv_T_fun (Classical.choose_spec (iv_T_ex t n (g i))) hT
/-- the nearest point of a statement's own character -/
theorem iv_nb_pl {t : Nat → Nat} {n s q : Nat} (hG : gr_G t n) (hb : sc_bg t s) (hs : gr_s t s q) (hq : q < n) (hc : t s ≠ 63 ∧ t s ≠ 64) {j : Nat} (h1 : s ≤ j) (h2 : j ≤ q) : ∀ i, s < i → i ≤ j → ¬ sc_bg t i := by
  intro i a b hbi
  have hlt := gr_S_lt hs
  obtain ⟨a', ea, eb, hB, _⟩ := sc_in hs (iv_58 hG hb (by omega)) a (by omega) hbi
  have := hB.1; omega
theorem iv_T_U {t : Nat → Nat} {n s o q : Nat} (hG : gr_G t n) (hb : sc_bg t s) (hU : gr_U t s o q) (hq : q < n) {j : Nat} (h1 : s ≤ j) (h2 : j ≤ q) : iv_T t n j (if j = o then iv_op (t j) else t j) := by
  have hs : gr_s t s q := Or.inl ⟨o, hU⟩
  have hlt := gr_S_lt hs
  have h0 := gr_U_pl hU (Nat.le_refl _) hlt
  have hsr := gr_T_sr hU.1
  have hoq : o < q := by
    rcases hU.2.2 with ⟨_, h⟩ | ⟨_, h⟩
    · have := gr_E_ne h; omega
    · have := gr_T_lt h; omega
  have hac : sm_ac (t s) := by
    unfold sm_ac
    rcases hsr with h | h
    · exact Or.inl h
    · exact Or.inr (Or.inl h)
  have emk : iv_mk t n s = o := by
    unfold iv_mk
    rw [if_neg (by rcases hsr with h | h
                   · unfold gr_vr at h; omega
                   · omega)]
    exact sc_Te_val hU.1 (by omega)
  refine ⟨s, h1, hb, iv_nb_pl hG hb hs hq ⟨h0.2.2.2.2.1, h0.2.2.2.2.2⟩ h1 h2, ?_⟩
  rw [emk]
  by_cases e : j = o
  · rw [if_pos e]; exact Or.inl ⟨e, hac, rfl⟩
  · rw [if_neg e]; exact Or.inr ⟨fun z => e z.1, rfl⟩
theorem iv_T_K {t : Nat → Nat} {n s q : Nat} (hG : gr_G t n) (hb : sc_bg t s) (hK : gr_K t s q) (hq : q < n) {j : Nat} (h1 : s ≤ j) (h2 : j ≤ q) : iv_T t n j (if j = s then iv_op (t j) else t j) := by
  have hs : gr_s t s q := Or.inr (Or.inl hK)
  have h0 := hK.1
  have hac : sm_ac (t s) := by unfold sm_ac; omega
  have emk : iv_mk t n s = s := if_pos h0
  refine ⟨s, h1, hb, iv_nb_pl hG hb hs hq (by omega) h1 h2, ?_⟩
  rw [emk]
  by_cases e : j = s
  · rw [if_pos e]; exact Or.inl ⟨e, hac, rfl⟩
  · rw [if_neg e]; exact Or.inr ⟨fun z => e z.1, rfl⟩
theorem iv_T_C {t : Nat → Nat} {n s q : Nat} (hG : gr_G t n) (hb : sc_bg t s) (hC : gr_C t s q) (hq : q < n) {j : Nat} (h1 : s ≤ j) (h2 : j ≤ q) : iv_T t n j (t j) := by
  have hs : gr_s t s q := Or.inr (Or.inr (Or.inl hC))
  have h0 := hC.1
  exact ⟨s, h1, hb, iv_nb_pl hG hb hs hq (by omega) h1 h2, Or.inr ⟨fun z => by have := z.2; unfold sm_ac gr_vr at this; omega, rfl⟩⟩
/-- a character whose nearest point is no atomic statement -/
theorem iv_T_n {t : Nat → Nat} {n s j : Nat} (h1 : s ≤ j) (hb : sc_bg t s) (hn : ∀ i, s < i → i ≤ j → ¬ sc_bg t i) (hc : t s = 63 ∨ t s = 64 ∨ t s = 125 ∨ t s = 58) : iv_T t n j (t j) :=
  ⟨s, h1, hb, hn, Or.inr ⟨fun z => by have := z.2; unfold sm_ac gr_vr at this; omega, rfl⟩⟩
theorem iv_T_B {t : Nat → Nat} {n s a ea eb q : Nat} (hG : gr_G t n) (hb : sc_bg t s) (hB : gr_b t s a ea eb q) (hq : q < n) {j : Nat} (h : (s ≤ j ∧ j ≤ a) ∨ j = ea ∨ j = ea + 1 ∨ (eb ≤ j ∧ j ≤ q)) : iv_T t n j (t j) := by
  have hs : gr_s t s q := Or.inr (Or.inr (Or.inr ⟨a, ea, eb, hB⟩))
  have hlt := gr_S_lt hs
  obtain ⟨_, _, _, _, _, b1, b2, b3, b4⟩ := sc_b_val hB hq
  have hin : ∀ i, s < i → i ≤ q → sc_bg t i → (a + 1 ≤ i ∧ i ≤ ea) ∨ (ea + 2 ≤ i ∧ i ≤ eb) := by
    intro i k1 k2 hbi
    obtain ⟨a', ea', eb', hB', h'⟩ := sc_in hs (iv_58 hG hb (by omega)) k1 k2 hbi
    obtain ⟨rfl, rfl, rfl⟩ := iv_b_eq hq hB hB'
    exact h'
  obtain ⟨g1, g2, g3, g4, g5, g6, g7, g8, g9, g10, g11, g12⟩ := hB
  have ba : sc_bg t (a + 1) := sc_bg_1 (Or.inr g3)
  have bb : sc_bg t (ea + 2) := sc_bg_1 (p := ea + 1) (Or.inr g7)
  have bea : sc_bg t ea := by
    rcases Nat.lt_or_ge (a + 1) ea with h | h
    · obtain ⟨s', q', _, hs', e⟩ := gr_l_snoc g5 h
      rw [e]; exact sc_bg_1 (Or.inl (gr_s_59 hs'))
    · have : ea = a + 1 := by omega
      rw [this]; exact ba
  have beb : sc_bg t eb := by
    rcases Nat.lt_or_ge (ea + 2) eb with h | h
    · obtain ⟨s', q', _, hs', e⟩ := gr_l_snoc g9 h
      rw [e]; exact sc_bg_1 (Or.inl (gr_s_59 hs'))
    · have : eb = ea + 2 := by omega
      rw [this]; exact bb
  rcases h with ⟨h1, h2⟩ | h | h | ⟨h1, h2⟩
  · refine iv_T_n h1 hb (fun i k1 k2 hbi => ?_) (by omega)
    have := hin i k1 (by omega) hbi; omega
  · refine iv_T_n (s := ea) (by omega) bea (fun i k1 k2 hbi => by omega) (by omega)
  · refine iv_T_n (s := ea) (by omega) bea (fun i k1 k2 hbi => ?_) (by omega)
    have := hin i (by omega) (by omega) hbi; omega
  · refine iv_T_n (s := eb) h1 beb (fun i k1 k2 hbi => ?_) (by omega)
    have := hin i (by omega) (by omega) hbi; omega
/-- colons and the names behind them -/
theorem iv_T_colon {t : Nat → Nat} {n p : Nat} (hG : gr_G t n) (hp : p < n) (h58 : t p = 58) (hb : sc_bg t p) : iv_T t n p 58 ∧ iv_T t n (p + 1) (t (p + 1)) := by
  have hne : ¬ sc_bg t (p + 1) := by
    refine sc_nbg (by omega) (by rw [Nat.add_sub_cancel]; omega) (by rw [Nat.add_sub_cancel]; omega) (fun h => ?_)
    have e : p + 1 - 2 = p - 1 := by omega
    rw [e]; exact iv_58 hG hb (by omega) (by omega)
  constructor
  · have := iv_T_n (n := n) (j := p) (Nat.le_refl _) hb (fun i k1 k2 _ => by omega) (Or.inr (Or.inr (Or.inr h58)))
    rw [h58] at this; exact this
  · refine iv_T_n (s := p) (by omega) hb (fun i k1 k2 hbi => ?_) (Or.inr (Or.inr (Or.inr h58)))
    have : i = p + 1 := by omega
    rw [this] at hbi; exact hne hbi
end
section
/-! the inverse text is of right syntax; points and frames in it -/
theorem gr_E_shift {t t' : Nat → Nat} {x y x' : Nat} (h : gr_E t x y) (hc : ∀ d, d < y - x → t' (x' + d) = t (x + d)) : gr_E t' x' (x' + (y - x)) := by
  obtain ⟨h1, f, hf⟩ := h
  have e := gr_sg_shift (t := t) (t' := t') (y - x) (x := x) (x' := x') hc
  have e2 : x + (y - x) = y := by omega
  rw [e2] at e
  exact ⟨by omega, f, by rw [e]; exact hf⟩
theorem gr_T_shift {t t' : Nat → Nat} {x y x' : Nat} (h : gr_T t x y) (hc : ∀ d, d < y - x → t' (x' + d) = t (x + d)) : gr_T t' x' (x' + (y - x)) := by
  rcases h with ⟨rfl, hv⟩ | ⟨y', rfl, hx, hy, hE⟩
  · have e : x + 1 - x = 1 := by omega
    rw [e] at hc ⊢
    have h0 := hc 0 (by omega)
    rw [Nat.add_zero, Nat.add_zero] at h0
    exact Or.inl ⟨rfl, by rw [h0]; exact hv⟩
  · have hlt := gr_E_ne hE
    have e : x' + (y' + 1 - x) = (x' + (y' - x)) + 1 := by omega
    rw [e]
    have h0 := hc 0 (by omega)
    rw [Nat.add_zero, Nat.add_zero] at h0
    have h1 := hc (y' - x) (by omega)
    have e1 : x + (y' - x) = y' := by omega
    rw [e1] at h1
    refine Or.inr ⟨_, rfl, by rw [h0]; exact hx, by rw [h1]; exact hy, ?_⟩
    have := gr_E_shift (t' := t') (x' := x' + 1) hE (fun d hd => by
      have := hc (d + 1) (by omega)
      have a1 : x' + 1 + d = x' + (d + 1) := by omega
      have a2 : x + 1 + d = x + (d + 1) := by omega
      rw [a1, a2]; exact this)
    have e2 : x' + 1 + (y' - (x + 1)) = x' + (y' - x) := by omega
    rw [e2] at this
    exact this
theorem iv_op_lv {c : Nat} (h : ex_lv c = 2) : ex_lv (iv_op c) = 2 := by
  have hc := ex_lv_at (k := c) (by omega)
  rcases hc with rfl | rfl | rfl | rfl | rfl | rfl | rfl
  · exact absurd h (by decide)
  · exact absurd h (by decide)
  · decide
  · decide
  · decide
  · exact absurd h (by decide)
  · exact absurd h (by decide)
section
variable {t : Nat → Nat} {n : Nat} {ct : Nat → Nat}
/-- the inverted statement -/
theorem nt_S (hG : gr_G t n) (hC : iv_C t n ct) {x q : Nat} (hb : sc_bg t x) (hs : gr_s t x q) (hq : q < n)
    (hA : ∀ a ea eb, gr_b t x a ea eb q → gr_l ct (iv_IF t n (a + 1)) (iv_IF t n (a + 1) + (ea - (a + 1))) ∧ gr_l ct (iv_IF t n (ea + 2)) (iv_IF t n (ea + 2) + (eb - (ea + 2)))) :
    gr_s ct (iv_IB t n x) (iv_IB t n x + (q - x)) := by
  have hxq := gr_S_lt hs
  have hs' := hs
  rcases hs with ⟨o, hU⟩ | hK | hCl | ⟨a, ea, eb, hB⟩
  · have h0 := gr_U_pl hU (Nat.le_refl _) hxq
    have hat : ∀ j, x ≤ j → j ≤ q → ct (iv_IB t n x + (j - x)) = if j = o then iv_op (t j) else t j := fun j h1 h2 => hC j _ _ (by omega) (Or.inr ⟨x, q, hb, hq, hs', h1, h2, Or.inl ⟨h0.2.2.2.2.1, h0.2.2.2.2.2, rfl⟩⟩) (iv_T_U hG hb hU hq h1 h2)
    generalize iv_IB t n x = B at *
    obtain ⟨hT, h59, hr⟩ := hU
    have hxo := gr_T_lt hT
    have hoq : o + 1 < q := by
      rcases hr with ⟨_, h⟩ | ⟨_, h⟩
      · exact gr_E_ne h
      · exact gr_T_lt h
    have eo := hat o (by omega) (by omega)
    rw [if_pos rfl] at eo
    have eq := hat q (by omega) (by omega)
    rw [if_neg (by omega)] at eq
    refine Or.inl ⟨B + (o - x), gr_T_shift hT (fun d hd => ?_), by rw [eq]; exact h59, ?_⟩
    · have := hat (x + d) (by omega) (by omega)
      rw [if_neg (by omega)] at this
      have e : x + d - x = d := by omega
      rw [e] at this; exact this
    · rcases hr with ⟨ho, hE⟩ | ⟨ho, hT2⟩
      · refine Or.inl ⟨by rw [eo]; exact iv_op_lv ho, ?_⟩
        have := gr_E_shift (t' := ct) (x' := B + (o - x) + 1) hE (fun d hd => by
          have := hat (o + 1 + d) (by omega) (by omega)
          rw [if_neg (by omega)] at this
          have e : B + (o - x) + 1 + d = B + (o + 1 + d - x) := by omega
          rw [e]; exact this)
        have e : B + (o - x) + 1 + (q - (o + 1)) = B + (q - x) := by omega
        rw [e] at this; exact this
      · refine Or.inr ⟨by rw [eo, ho]; rfl, ?_⟩
        have := gr_T_shift (t' := ct) (x' := B + (o - x) + 1) hT2 (fun d hd => by
          have := hat (o + 1 + d) (by omega) (by omega)
          rw [if_neg (by omega)] at this
          have e : B + (o - x) + 1 + d = B + (o + 1 + d - x) := by omega
          rw [e]; exact this)
        have e : B + (o - x) + 1 + (q - (o + 1)) = B + (q - x) := by omega
        rw [e] at this; exact this
  · have h0 := hK.1
    have hat : ∀ j, x ≤ j → j ≤ q → ct (iv_IB t n x + (j - x)) = if j = x then iv_op (t j) else t j := fun j h1 h2 => hC j _ _ (by omega) (Or.inr ⟨x, q, hb, hq, hs', h1, h2, Or.inl ⟨by omega, by omega, rfl⟩⟩) (iv_T_K hG hb hK hq h1 h2)
    generalize iv_IB t n x = B at *
    obtain ⟨hx, hT, h59⟩ := hK
    have hlt := gr_T_lt hT
    have ex := hat x (by omega) (by omega)
    rw [if_pos rfl] at ex
    have exx : x - x = 0 := by omega
    rw [exx, Nat.add_zero] at ex
    have eq := hat q (by omega) (by omega)
    rw [if_neg (by omega)] at eq
    refine Or.inr (Or.inl ⟨?_, ?_, by rw [eq]; exact h59⟩)
    · rw [ex]
      rcases hx with h | h
      · rw [h]; exact Or.inr rfl
      · rw [h]; exact Or.inl rfl
    · have := gr_T_shift (t' := ct) (x' := B + 1) hT (fun d hd => by
        have := hat (x + 1 + d) (by omega) (by omega)
        rw [if_neg (by omega)] at this
        have e : B + 1 + d = B + (x + 1 + d - x) := by omega
        rw [e]; exact this)
      have e : B + 1 + (q - (x + 1)) = B + (q - x) := by omega
      rw [e] at this; exact this
  · have h0 := hCl.1
    have hat : ∀ j, x ≤ j → j ≤ q → ct (iv_IB t n x + (j - x)) = t j := fun j h1 h2 => hC j _ _ (by omega) (Or.inr ⟨x, q, hb, hq, hs', h1, h2, Or.inl ⟨by omega, by omega, rfl⟩⟩) (iv_T_C hG hb hCl hq h1 h2)
    generalize iv_IB t n x = B at *
    obtain ⟨hx, hn, rfl, h59⟩ := hCl
    have ex := hat x (by omega) (by omega)
    have exx : x - x = 0 := by omega
    rw [exx, Nat.add_zero] at ex
    have e1 := hat (x + 1) (by omega) (by omega)
    have e2 := hat (x + 2) (by omega) (by omega)
    have exx1 : x + 1 - x = 1 := by omega
    have exx2 : x + 2 - x = 2 := by omega
    rw [exx1] at e1
    rw [exx2] at e2 ⊢
    exact Or.inr (Or.inr (Or.inl ⟨by rw [ex]; exact hx, by rw [e1]; exact hn, rfl, by rw [e2]; exact h59⟩))
  · obtain ⟨k1, k2⟩ := hA a ea eb hB
    obtain ⟨f1, f2⟩ := iv_blk hG hb hB hq
    obtain ⟨_, _, _, _, _, b1, b2, b3, b4⟩ := sc_b_val hB hq
    have mk : ∀ j i, j < n → x ≤ j → j ≤ q → ((j = x ∧ i = iv_IB t n x) ∨ (j = q ∧ i = iv_IB t n x + (q - x)) ∨ (x < j ∧ j < a ∧ i = iv_IB t n x + (j - x) + (q - eb - 1) + (eb - a) + 1) ∨ (eb < j ∧ j < q ∧ i = iv_IB t n x + (j - eb)) ∨ ((j = a ∨ j = ea ∨ j = ea + 1 ∨ j = eb) ∧ i = iv_IB t n x + (j - a) + (q - eb - 1) + 1)) → ((x ≤ j ∧ j ≤ a) ∨ j = ea ∨ j = ea + 1 ∨ (eb ≤ j ∧ j ≤ q)) → ct i = t j :=
      fun j i hj k1 k2 k3 k4 => hC j i _ hj (Or.inr ⟨x, q, hb, hq, hs', k1, k2, Or.inr ⟨a, ea, eb, hB, k3⟩⟩) (iv_T_B hG hb hB hq k4)
    obtain ⟨g1, g2, g3, g4, g5, g6, g7, g8, g9, g10, g11, g12⟩ := hB
    generalize iv_IB t n x = B at *
    have cx := mk x B (by omega) (by omega) (by omega) (Or.inl ⟨rfl, rfl⟩) (Or.inl ⟨by omega, by omega⟩)
    have cq := mk q (B + (q - x)) (by omega) (by omega) (by omega) (Or.inr (Or.inl ⟨rfl, rfl⟩)) (Or.inr (Or.inr (Or.inr ⟨by omega, by omega⟩)))
    have ca := mk a (B + (q - eb)) (by omega) (by omega) (by omega) (Or.inr (Or.inr (Or.inr (Or.inr ⟨Or.inl rfl, by omega⟩)))) (Or.inl ⟨by omega, by omega⟩)
    have cea := mk ea (B + (q - eb) + (ea - a)) (by omega) (by omega) (by omega) (Or.inr (Or.inr (Or.inr (Or.inr ⟨Or.inr (Or.inl rfl), by omega⟩)))) (Or.inr (Or.inl rfl))
    have cea1 := mk (ea + 1) (B + (q - eb) + (ea - a) + 1) (by omega) (by omega) (by omega) (Or.inr (Or.inr (Or.inr (Or.inr ⟨Or.inr (Or.inr (Or.inl rfl)), by omega⟩)))) (Or.inr (Or.inr (Or.inl rfl)))
    have ceb := mk eb (B + (q - eb) + (eb - a)) (by omega) (by omega) (by omega) (Or.inr (Or.inr (Or.inr (Or.inr ⟨Or.inr (Or.inr (Or.inr rfl)), by omega⟩)))) (Or.inr (Or.inr (Or.inr ⟨by omega, by omega⟩)))
    have r1 : B + (q - eb) + 1 = iv_IF t n (a + 1) := by omega
    have r2 : B + (q - eb) + (ea - a) = iv_IF t n (a + 1) + (ea - (a + 1)) := by omega
    have r3 : B + (q - eb) + (ea - a) + 2 = iv_IF t n (ea + 2) := by omega
    have r4 : B + (q - eb) + (eb - a) = iv_IF t n (ea + 2) + (eb - (ea + 2)) := by omega
    refine Or.inr (Or.inr (Or.inr ⟨B + (q - eb), B + (q - eb) + (ea - a), B + (q - eb) + (eb - a), by rw [cx]; exact g1, ?_, by rw [ca]; exact g3, by omega, by rw [r1, r2]; exact k1, by rw [cea]; exact g6, by rw [cea1]; exact g7, by omega, by rw [r3, r4]; exact k2, by rw [ceb]; exact g10, ?_, by rw [cq]; exact g12⟩))
    · have := gr_E_shift (t' := ct) (x' := B + 1) g11 (fun d hd => mk (eb + 1 + d) (B + 1 + d) (by omega) (by omega) (by omega) (Or.inr (Or.inr (Or.inr (Or.inl ⟨by omega, by omega, by omega⟩)))) (Or.inr (Or.inr (Or.inr ⟨by omega, by omega⟩))))
      have e : B + 1 + (q - (eb + 1)) = B + (q - eb) := by omega
      rw [e] at this; exact this
    · have := gr_E_shift (t' := ct) (x' := B + (q - eb) + (eb - a) + 1) g2 (fun d hd => mk (x + 1 + d) (B + (q - eb) + (eb - a) + 1 + d) (by omega) (by omega) (by omega) (Or.inr (Or.inr (Or.inl ⟨by omega, by omega, by omega⟩))) (Or.inl ⟨by omega, by omega⟩))
      have e : B + (q - eb) + (eb - a) + 1 + (a - (x + 1)) = B + (q - x) := by omega
      rw [e] at this; exact this
theorem nt_L (hG : gr_G t n) (hC : iv_C t n ct) : ∀ f x e l, gr_L t f x e → sc_cx t n l e → e ≤ n → gr_l t l x → sc_bg t x → gr_l ct (iv_IF t n l) (iv_IF t n l + (e - x)) := by
  intro f
  induction f with
  | zero =>
    intro x e l h _ _ _ _
    have : x = e := h
    subst this
    rw [Nat.sub_self]; exact gr_l_nil
  | succ f ih =>
    intro x e l h hc he hl hb
    have hxe : gr_l t x e := ⟨f + 1, h⟩
    rcases h with rfl | ⟨q, hS, hL⟩
    · rw [Nat.sub_self]; exact gr_l_nil
    have hs : gr_s t x q := gr_S_s hS
    have hqe := gr_L_le _ _ _ hL
    have hxq := gr_S_lt hs
    have hlx := gr_l_le hl
    have hpt : sc_pt t n x l e := ⟨hlx, by omega, he, hc, hl, hxe⟩
    have hib := iv_ib hpt hs (by omega)
    have h1 := ih (q + 1) e l hL hc he (gr_l_app hl (gr_l_cons hs gr_l_nil)) (sc_bg_1 (Or.inl (gr_s_59 hs)))
    have h2 : gr_s ct (iv_IB t n x) (iv_IB t n x + (q - x)) := by
      refine nt_S hG hC hb hs (by omega) (fun a ea eb hB => ?_)
      have hB0 : gr_B t (gr_L t f) x a ea eb q := by
        rcases hS with ⟨o, h⟩ | h | h | ⟨a', ea', eb', h⟩
        · have h1 := gr_U_pl h (Nat.le_refl _) hxq; have h2 := hB.1; unfold gr_pl at h1; omega
        · have h1 := h.1; have h2 := hB.1; omega
        · have h1 := h.1; have h2 := hB.1; omega
        · obtain ⟨rfl, rfl, rfl⟩ := iv_b_eq (n := n) (by omega) hB (gr_B_mono (fun _ _ h => ⟨f, h⟩) h)
          exact h
      obtain ⟨g1, g2, g3, g4, g5, g6, g7, g8, g9, g10, g11, g12⟩ := hB0
      have le2 := gr_E_ne g11
      exact ⟨ih (a + 1) ea (a + 1) g5 (Or.inr ⟨x, a, ea, eb, q, hb, by omega, hB, Or.inl ⟨rfl, rfl⟩⟩) (by omega) gr_l_nil (sc_bg_1 (Or.inr g3)), ih (ea + 2) eb (ea + 2) g9 (Or.inr ⟨x, a, ea, eb, q, hb, by omega, hB, Or.inr ⟨rfl, rfl⟩⟩) (by omega) gr_l_nil (sc_bg_1 (p := ea + 1) (Or.inr g7))⟩
    have e1 : iv_IF t n l + (e - (q + 1)) = iv_IB t n x := by omega
    have e2 : iv_IF t n l + (e - x) = iv_IB t n x + (q - x) + 1 := by omega
    rw [e1] at h1
    rw [e2]
    exact gr_l_app h1 (gr_l_cons h2 gr_l_nil)
theorem nt_colon (hG : gr_G t n) (hC : iv_C t n ct) {p : Nat} (hp : p + 1 < n) (h58 : t p = 58) (hb : sc_bg t p) : ct p = 58 ∧ ct (p + 1) = t (p + 1) := by
  obtain ⟨h1, h2⟩ := iv_T_colon hG (by omega) h58 hb
  exact ⟨hC p p 58 (by omega) (Or.inl ⟨by omega, Or.inl h58, rfl⟩) h1, hC (p + 1) (p + 1) _ hp (Or.inl ⟨hp, Or.inr ⟨by omega, by rw [Nat.add_sub_cancel]; exact h58⟩, rfl⟩) h2⟩
/-- colons are points -/
theorem nt_cb (hG : gr_G t n) : ∀ p, p < n → t p = 58 → sc_bg t p ∧ p + 1 < n ∧ gr_nm (t (p + 1)) := by
  intro p hp h58
  have h2 := (sm_name hG p hp).2 (Or.inr (Or.inr h58))
  refine ⟨?_, h2⟩
  obtain ⟨e0, he0, hl0, f, hQ⟩ := hG
  have hqe : ∀ f e, gr_Q t n f e → e = n ∨ t e = 58 := by
    intro f e h
    cases f with
    | zero => exact Or.inl h
    | succ f =>
      rcases h with h | ⟨_, h, _⟩
      · exact Or.inl h
      · exact Or.inr h
  have hq : ∀ f x, gr_Q t n f x → x ≤ p → sc_bg t x → sc_bg t p := by
    intro f
    induction f with
    | zero => intro x h h1; have : x = n := h; omega
    | succ f ih =>
      intro x h h1 hbx
      rcases h with h | ⟨h3, h4, h5, e, he, hl, hQ⟩
      · omega
      rcases Nat.lt_or_ge x p with h6 | h6
      · have hcx : sc_cx t n (x + 2) e := Or.inl ⟨Or.inr ⟨by omega, h4, h5⟩, hqe f e hQ⟩
        have hx1 : p ≠ x + 1 := fun z => by rw [z] at h58; unfold gr_nm at h5; omega
        rcases Nat.lt_or_ge p e with h7 | h7
        · exact ((sc_l hl).2.2 p (by omega) h7 h58).elim
        · exact ih e hQ h7 (sc_bg_in hcx hl)
      · have : p = x := by omega
        rw [this]; exact hbx
  rcases Nat.lt_or_ge p e0 with h | h
  · exact ((sc_l hl0).2.2 p (Nat.zero_le _) h h58).elim
  · exact hq f e0 hQ h (sc_bg_in (Or.inl ⟨Or.inl rfl, hqe f e0 hQ⟩) hl0)
theorem nt_G (hG : gr_G t n) (hC : iv_C t n ct) : gr_G ct n := by
  have hG' := hG
  obtain ⟨e0, he0, hl0, f, hQ⟩ := hG'
  have hqe : ∀ f e, gr_Q t n f e → e = n ∨ t e = 58 := by
    intro f e h
    cases f with
    | zero => exact Or.inl h
    | succ f =>
      rcases h with h | ⟨_, h, _⟩
      · exact Or.inl h
      · exact Or.inr h
  have hq : ∀ f p, gr_Q t n f p → gr_Q ct n f p := by
    intro f
    induction f with
    | zero => intro p h; exact h
    | succ f ih =>
      intro p h
      rcases h with h | ⟨h3, h4, h5, e, he, hl, hQ⟩
      · exact Or.inl h
      have hcx : sc_tp t n (p + 2) e := ⟨Or.inr ⟨by omega, h4, h5⟩, hqe f e hQ⟩
      obtain ⟨c1, c2⟩ := nt_colon hG hC (p := p) (by omega) h4 (nt_cb hG p (by omega) h4).1
      have hle := gr_l_le hl
      obtain ⟨g, hg⟩ := hl
      have hL := nt_L hG hC g (p + 2) e (p + 2) hg (Or.inl hcx) he gr_l_nil (sc_bg_2 h4)
      rw [iv_top hcx] at hL
      have e2 : p + 2 + (e - (p + 2)) = e := by omega
      rw [e2] at hL
      exact Or.inr ⟨h3, c1, by rw [c2]; exact h5, e, he, hL, ih e hQ⟩
  have hcx : sc_tp t n 0 e0 := ⟨Or.inl rfl, hqe f e0 hQ⟩
  obtain ⟨g, hg⟩ := hl0
  have hL := nt_L hG hC g 0 e0 0 hg (Or.inl hcx) he0 gr_l_nil (Or.inl rfl)
  rw [iv_top hcx] at hL
  have e2 : 0 + (e0 - 0) = e0 := by omega
  rw [e2] at hL
  exact ⟨e0, he0, hL, f, hq f e0 hQ⟩
/-- every character of the inverse comes from one of the text -/
theorem nt_from (hG : gr_G t n) (hC : iv_C t n ct) : ∀ i, i < n → ∃ j, j < n ∧ iv_M t n j i ∧ (ct i = t j ∨ ct i = iv_op (t j)) := by
  intro i hi
  obtain ⟨j, hj, hM⟩ := iv_on hG i hi
  obtain ⟨c, hc⟩ := iv_T_ex t n j
  have e := hC j i c hj hM hc
  refine ⟨j, hj, hM, ?_⟩
  rw [e]
  obtain ⟨s, _, _, _, h | h⟩ := hc
  · exact Or.inr h.2.2
  · exact Or.inl h.2
theorem iv_op_r {c : Nat} (h : 33 ≤ c ∧ c < 127) : 33 ≤ iv_op c ∧ iv_op c < 127 := by
  unfold iv_op
  repeat' split
  all_goals omega
theorem iv_op_58 {c : Nat} : iv_op c = 58 ↔ c = 58 := by
  unfold iv_op
  repeat' split
  all_goals omega
theorem iv_op_nm {c : Nat} (h : gr_nm (iv_op c)) : iv_op c = c := by
  unfold gr_nm at h
  unfold iv_op at h ⊢
  repeat' split
  all_goals first | rfl | skip
  all_goals (repeat' split at h)
  all_goals omega
theorem nt_58 (hG : gr_G t n) (hC : iv_C t n ct) : ∀ i, i < n → (ct i = 58 ↔ t i = 58) := by
  intro i hi
  constructor
  · intro h
    obtain ⟨j, hj, hM, hc⟩ := nt_from hG hC i hi
    have h58 : t j = 58 := by
      rcases hc with hc | hc
      · omega
      · rw [h] at hc; exact iv_op_58.mp hc.symm
    have := iv_M_fun hG hM (Or.inl ⟨hj, Or.inl h58, rfl⟩)
    rw [this]; exact h58
  · intro h
    obtain ⟨a, b, _⟩ := nt_cb hG i hi h
    exact (nt_colon hG hC b h a).1
theorem nt_body (hG : gr_G t n) (hC : iv_C t n ct) (c : Nat) : sc_Body ct c n = sc_Body t c n := by
  unfold sc_Body
  have h : ∀ d k, k + d + 1 ≤ n → sc_bo ct c d k = sc_bo t c d k := by
    intro d
    induction d with
    | zero => intro k _; rfl
    | succ d ih =>
      intro k hk
      rw [sc_bo, sc_bo, ih (k + 1) (by omega)]
      have e58 := nt_58 hG hC k (by omega)
      by_cases h58 : t k = 58
      · have e1 := (nt_colon hG hC (p := k) (by omega) h58 (nt_cb hG k (by omega) h58).1).2
        rw [e1, h58, e58.mpr h58]
      · rw [if_neg (fun z => h58 (e58.mp z.1)), if_neg (fun z => h58 z.1)]
  cases n with
  | zero => rfl
  | succ n => exact h n 0 (by omega)
theorem nt_nd (hG : gr_G t n) (hC : iv_C t n ct) (hnd : sp_nd t n) : sp_nd ct n := by
  intro i hi hnm
  obtain ⟨j, hj, hM, hc⟩ := nt_from hG hC i hi
  have e : ct i = t j := by
    rcases hc with hc | hc
    · exact hc
    · rw [hc] at hnm ⊢; exact iv_op_nm hnm
  rw [e] at hnm
  obtain ⟨v, hv⟩ := hnd j hj hnm
  exact ⟨v, by rw [e, nt_body hG hC]; exact hv⟩
/-- the section that a list lies in, and its inverse too -/
theorem iv_sec (hG : gr_G t n) : ∀ N l e, l ≤ N → sc_cx t n l e → e ≤ n → gr_l t l e → ∃ L E, E ≤ n ∧ (∀ i, L ≤ i → i < E → t i ≠ 58) ∧ L ≤ l ∧ e ≤ E ∧ L ≤ iv_IF t n l ∧ iv_IF t n l + (e - l) ≤ E := by
  intro N
  induction N with
  | zero =>
    intro l e hl hc he hle
    have h0 : l = 0 := by omega
    subst h0
    have := gr_l_le hle
    have hF : iv_IF t n 0 = 0 := rfl
    exact ⟨0, e, he, (sc_l hle).2.2, Nat.le_refl _, Nat.le_refl _, Nat.zero_le _, by omega⟩
  | succ N ih =>
    intro l e hl hc he hle
    have hlel := gr_l_le hle
    rcases hc with htp | ⟨s, a, ea, eb, q, hb, hq, hB, hor⟩
    · have hF := iv_top htp
      exact ⟨l, e, he, (sc_l hle).2.2, Nat.le_refl _, Nat.le_refl _, by omega, by omega⟩
    · have hs : gr_s t s q := Or.inr (Or.inr (Or.inr ⟨a, ea, eb, hB⟩))
      obtain ⟨_, _, _, _, _, b1, b2, b3, b4⟩ := sc_b_val hB hq
      obtain ⟨f1, f2⟩ := iv_blk hG hb hB hq
      obtain ⟨l0, e0, hpt⟩ := sc_pts hG s (by omega) hb
      have hib := iv_ib hpt hs hq
      rcases sc_pt_cases hpt with ⟨_, h⟩ | ⟨q', hs', hq', _, _⟩
      · exact (h ⟨by omega, gr_S_sr hs⟩).elim
      have a1 := sc_Af_val hs hq
      obtain ⟨p1, p2, p3, p4, p5, p6⟩ := hpt
      have a2 := sc_Af_val hs' (by omega : q' < n)
      obtain ⟨L, E, h1, h2, h3, h4, h5, h6⟩ := ih l0 e0 (by omega) p4 p3 (gr_l_app p5 p6)
      refine ⟨L, E, h1, h2, by omega, by omega, ?_, ?_⟩
      · rcases hor with ⟨e1, e2⟩ | ⟨e1, e2⟩
        · rw [e1]; omega
        · rw [e1]; omega
      · rcases hor with ⟨e1, e2⟩ | ⟨e1, e2⟩
        · rw [e1, e2]; omega
        · rw [e1, e2]; omega
/-- a point of the inverse -/
theorem nt_pt (hG : gr_G t n) (hC : iv_C t n ct) {p l e : Nat} (hpt : sc_pt t n p l e) : iv_IF t n l + (e - p) ≤ n ∧ sc_bg ct (iv_IF t n l + (e - p)) ∧ (sp_mn ct (iv_IF t n l + (e - p)) ↔ sp_mn t p) := by
  have hpt' := hpt
  obtain ⟨p1, p2, p3, p4, p5, p6⟩ := hpt'
  obtain ⟨L, E, h1, h2, h3, h4, h5, h6⟩ := iv_sec hG l l e (Nat.le_refl _) p4 p3 (gr_l_app p5 p6)
  refine ⟨by omega, ?_, ?_⟩
  · rcases sc_pt_cases hpt with ⟨rfl, _⟩ | ⟨q, hs, hq, _, _⟩
    · rw [Nat.sub_self, Nat.add_zero]
      rcases p4 with htp | ⟨s, a, ea, eb, q, hb, hq, hB, hor⟩
      · rw [iv_top htp]
        rcases htp.1 with h | ⟨h7, h8, _⟩
        · exact Or.inl h
        · have hc := (nt_colon hG hC (p := l - 2) (by
            have := (nt_cb hG (l - 2) (by omega) h8).2.1; exact this) h8 (nt_cb hG (l - 2) (by omega) h8).1).1
          exact Or.inr (Or.inr ⟨h7, hc⟩)
      · have hs : gr_s t s q := Or.inr (Or.inr (Or.inr ⟨a, ea, eb, hB⟩))
        obtain ⟨_, _, _, _, _, b1, b2, b3, b4⟩ := sc_b_val hB hq
        obtain ⟨f1, f2⟩ := iv_blk hG hb hB hq
        have ca : ct (iv_IB t n s + (a - a) + (q - eb - 1) + 1) = t a := hC a _ _ (by omega) (Or.inr ⟨s, q, hb, hq, hs, by omega, by omega, Or.inr ⟨a, ea, eb, hB, Or.inr (Or.inr (Or.inr (Or.inr ⟨Or.inl rfl, rfl⟩)))⟩⟩) (iv_T_B hG hb hB hq (Or.inl ⟨by omega, by omega⟩))
        have cb : ct (iv_IB t n s + (ea + 1 - a) + (q - eb - 1) + 1) = t (ea + 1) := hC (ea + 1) _ _ (by omega) (Or.inr ⟨s, q, hb, hq, hs, by omega, by omega, Or.inr ⟨a, ea, eb, hB, Or.inr (Or.inr (Or.inr (Or.inr ⟨Or.inr (Or.inr (Or.inl rfl)), rfl⟩)))⟩⟩) (iv_T_B hG hb hB hq (Or.inr (Or.inr (Or.inl rfl))))
        have g3 := hB.2.2.1
        have g7 := hB.2.2.2.2.2.2.1
        rcases hor with ⟨e1, _⟩ | ⟨e1, _⟩
        · rw [e1]
          have e3 : iv_IF t n (a + 1) = (iv_IB t n s + (a - a) + (q - eb - 1) + 1) + 1 := by omega
          rw [e3]
          exact sc_bg_1 (Or.inr (by rw [ca]; exact g3))
        · rw [e1]
          have e3 : iv_IF t n (ea + 2) = (iv_IB t n s + (ea + 1 - a) + (q - eb - 1) + 1) + 1 := by omega
          rw [e3]
          exact sc_bg_1 (Or.inr (by rw [cb]; exact g7))
    · have hlt := gr_S_lt hs
      have hib := iv_ib hpt hs (by omega)
      have e3 : iv_IF t n l + (e - p) = (iv_IB t n p + (q - p)) + 1 := by omega
      rw [e3]
      refine sc_bg_1 (Or.inl ?_)
      have hbp := sc_bg_in p4 p5
      -- the inverted statement's semicolon
      have hq59 := gr_s_59 hs
      have hs' := hs
      rcases hs with ⟨o, hU⟩ | hK | hCl | ⟨a, ea, eb, hB⟩
      · have h0 := gr_U_pl hU (Nat.le_refl _) hlt
        have hoq : o < q := by
          rcases hU.2.2 with ⟨_, h⟩ | ⟨_, h⟩
          · have := gr_E_ne h; omega
          · have := gr_T_lt h; omega
        have := hC q _ _ (by omega) (Or.inr ⟨p, q, hbp, by omega, hs', by omega, Nat.le_refl _, Or.inl ⟨h0.2.2.2.2.1, h0.2.2.2.2.2, rfl⟩⟩) (iv_T_U hG hbp hU (by omega) (by omega) (Nat.le_refl _))
        rw [if_neg (by omega)] at this
        rw [this]; exact hq59
      · have h0 := hK.1
        have := hC q _ _ (by omega) (Or.inr ⟨p, q, hbp, by omega, hs', by omega, Nat.le_refl _, Or.inl ⟨by omega, by omega, rfl⟩⟩) (iv_T_K hG hbp hK (by omega) (by omega) (Nat.le_refl _))
        rw [if_neg (by omega)] at this
        rw [this]; exact hq59
      · have h0 := hCl.1
        have := hC q _ _ (by omega) (Or.inr ⟨p, q, hbp, by omega, hs', by omega, Nat.le_refl _, Or.inl ⟨by omega, by omega, rfl⟩⟩) (iv_T_C hG hbp hCl (by omega) (by omega) (Nat.le_refl _))
        rw [this]; exact hq59
      · obtain ⟨_, _, _, _, _, b1, b2, b3, b4⟩ := sc_b_val hB (n := n) (by omega)
        have := hC q _ _ (by omega) (Or.inr ⟨p, q, hbp, by omega, hs', by omega, Nat.le_refl _, Or.inr ⟨a, ea, eb, hB, Or.inr (Or.inl ⟨rfl, rfl⟩)⟩⟩) (iv_T_B hG hbp hB (by omega) (Or.inr (Or.inr (Or.inr ⟨by omega, Nat.le_refl _⟩))))
        rw [this]; exact hq59
  · have e1 : sp_mn ct (iv_IF t n l + (e - p)) ↔ sp_mn t (iv_IF t n l + (e - p)) := by
      constructor
      · intro h i hi h58
        exact h i hi ((nt_58 hG hC i (by omega)).mpr h58)
      · intro h i hi h58
        exact h i hi ((nt_58 hG hC i (by omega)).mp h58)
    exact e1.trans (sp_mn_s h2 ⟨by omega, by omega⟩ ⟨by omega, by omega⟩)
/-- a call in the inverse -/
theorem nt_call (hG : gr_G t n) (hC : iv_C t n ct) {s : Nat} (hb : sc_bg t s) (hCl : gr_C t s (s + 2)) (hs2 : s + 2 < n) : iv_IB t n s + 2 < n ∧ sc_bg ct (iv_IB t n s) ∧ gr_C ct (iv_IB t n s) (iv_IB t n s + 2) ∧ (sp_mn ct (iv_IB t n s) ↔ sp_mn t s) := by
  have hs : gr_s t s (s + 2) := Or.inr (Or.inr (Or.inl hCl))
  obtain ⟨l, e, hpt⟩ := sc_pts hG s (by omega) hb
  have hib := iv_ib hpt hs hs2
  rcases sc_pt_cases hpt with ⟨_, h⟩ | ⟨q', hs', hq', _, hpt2⟩
  · exact (h ⟨by omega, gr_S_sr hs⟩).elim
  have a1 := sc_Af_val hs hs2
  have a2 := sc_Af_val hs' (by have := hpt.2.2.1; omega : q' < n)
  have eq' : q' = s + 2 := by omega
  subst eq'
  obtain ⟨n1, n2, n3⟩ := nt_pt hG hC hpt2
  obtain ⟨m1, m2, m3⟩ := nt_pt hG hC hpt
  have e1 : iv_IF t n l + (e - (s + 2 + 1)) = iv_IB t n s := by omega
  rw [e1] at n2 n3
  have h0 := hCl.1
  have hat : ∀ j, s ≤ j → j ≤ s + 2 → ct (iv_IB t n s + (j - s)) = t j := fun j h1 h2 => hC j _ _ (by omega) (Or.inr ⟨s, s + 2, hb, hs2, hs, h1, h2, Or.inl ⟨by omega, by omega, rfl⟩⟩) (iv_T_C hG hb hCl hs2 h1 h2)
  obtain ⟨hx, hn, _, h59⟩ := hCl
  have c0 := hat s (by omega) (by omega)
  have c1 := hat (s + 1) (by omega) (by omega)
  have c2 := hat (s + 2) (by omega) (by omega)
  have x0 : s - s = 0 := by omega
  have x1 : s + 1 - s = 1 := by omega
  have x2 : s + 2 - s = 2 := by omega
  rw [x0, Nat.add_zero] at c0
  rw [x1] at c1
  rw [x2] at c2
  refine ⟨by omega, n2, ⟨by rw [c0]; exact hx, by rw [c1]; exact hn, rfl, by rw [c2]; exact h59⟩, n3.trans ?_⟩
  have hok := (sc_s hs).2.2
  exact sp_mn_s (a := s) (b := s + 2 + 1) hok ⟨by omega, by omega⟩ ⟨by omega, by omega⟩
/-- the inverse text, with the old characters behind it -/
theorem nt_ex (X : xp_tx t n) (hG : gr_G t n) : ∃ ct, iv_C t n ct ∧ xp_tx ct n ∧ ∀ i, n ≤ i → ct i = t i := by
  obtain ⟨c0, hc0⟩ := iv_C_ex hG
  obtain ⟨g, g1, g2, g3⟩ := iv_bij hG
  have hC : iv_C t n (fun i => if i < n then c0 i else t i) := by
    intro j i c hj hM hT
    have := (g2 j i hj hM).1
    show (if i < n then c0 i else t i) = c
    rw [if_pos this]; exact hc0 j i c hj hM hT
  refine ⟨fun i => if i < n then c0 i else t i, hC, ⟨X.1, fun i hi => ?_, fun i => ?_⟩, fun i hi => if_neg (by omega)⟩
  · obtain ⟨j, hj, hM, hc⟩ := nt_from hG hC i hi
    have h1 := X.2.1 j hj
    have h2 := X.2.2 j
    have h3 := iv_op_r ⟨h1, h2⟩
    show 33 ≤ (if i < n then c0 i else t i)
    rcases hc with hc | hc <;> rw [hc] <;> omega
  · rcases Nat.lt_or_ge i n with hi | hi
    · obtain ⟨j, hj, hM, hc⟩ := nt_from hG hC i hi
      have h1 := X.2.1 j hj
      have h2 := X.2.2 j
      have h3 := iv_op_r ⟨h1, h2⟩
      show (if i < n then c0 i else t i) < 127
      rcases hc with hc | hc <;> rw [hc] <;> omega
    · show (if i < n then c0 i else t i) < 127
      rw [if_neg (by omega)]; exact X.2.2 i
end
end
section
/-! Y: image, turned, the inverse text -/
theorem sc_bg_93 {t : Nat → Nat} {n s : Nat} (hG : gr_G t n) (hb : sc_bg t s) (hs : s < n) : t s ≠ 93 := by
  obtain ⟨l, e, hpt⟩ := sc_pts hG s (by omega) hb
  rcases sc_pt_cases hpt with ⟨rfl, _⟩ | ⟨q, _, _, h, _⟩
  · rcases sc_cx_e hpt.2.2.2.1 with h | h | h <;> omega
  · have := h.2; unfold sc_sr gr_vr at this; omega
def sc_tf (t : Nat → Nat) : Nat → Nat
  | 0 => 0
  | k + 1 => if t k = 58 then k + 2 else sc_tf t k
theorem sc_tf_val {t : Nat → Nat} {L : Nat} (hL : L = 0 ∨ (2 ≤ L ∧ t (L - 2) = 58 ∧ t (L - 1) ≠ 58)) : ∀ i, L ≤ i → (∀ k, L ≤ k → k < i → t k ≠ 58) → sc_tf t i = L := by
  intro i
  induction i with
  | zero => intro h _; have : L = 0 := by omega
            rw [this]; rfl
  | succ i ih =>
    intro h1 h2
    rcases Nat.lt_or_ge i L with h3 | h3
    · have e : L = i + 1 := by omega
      rcases hL with h | ⟨h4, h5, h6⟩
      · omega
      · have e1 : L - 1 = i := by omega
        rw [e1] at h6
        rw [sc_tf, if_neg h6]
        cases i with
        | zero => omega
        | succ i' =>
          have e2 : L - 2 = i' := by omega
          rw [e2] at h5
          rw [sc_tf, if_pos h5]; omega
    · rw [sc_tf, if_neg (h2 i h3 (by omega))]
      exact ih h3 (fun k a b => h2 k a (by omega))
section
variable {g_textLimit g_stackLimit g_depthLimit g_length g_stackSize g_depth g_place g_ready g_top g_errorPos : Int32} {b_text b_cells b_stack b_frames b_wants b_inverse b_kinds b_values : Nat → Int32}
variable {t : Nat → Nat} {n : Nat} {post : Int32 → Prop}
theorem yh_opp {c : Nat} (hc : c < 127) (h : post (nI (iv_op c))) : wpY_opposite post (g_textLimit, g_stackLimit, g_depthLimit, g_length, g_stackSize, g_depth, g_place, g_ready, g_top, g_errorPos, b_text, b_cells, b_stack, b_frames, b_wants, b_inverse, b_kinds, b_values) (nI c) := by
  unfold iv_op at h
  unfold wpY_opposite
  refine pk_eq c 43 (fun e => ?_) (fun n1 => pk_eq c 45 (fun e => ?_) (fun n2 => pk_eq c 60 (fun e => ?_) (fun n3 => pk_eq c 62 (fun e => ?_) (fun n4 => ?_) rfl rfl (by omega) (by omega)) rfl rfl (by omega) (by omega)) rfl rfl (by omega) (by omega)) rfl rfl (by omega) (by omega)
  · rw [if_pos e] at h; exact h
  · rw [if_neg n1, if_pos e] at h; exact h
  · rw [if_neg n1, if_neg n2, if_pos e] at h; exact h
  · rw [if_neg n1, if_neg n2, if_neg n3, if_pos e] at h; exact h
  · rw [if_neg n1, if_neg n2, if_neg n3, if_neg n4] at h; exact h
theorem yi_turn {j c : Nat} (X : xp_tx t n) (hG : gr_G t n) (hj : j < n) (hT : iv_T t n j c) (H : post (nI c)) : wpY_turned post (g_textLimit, g_stackLimit, g_depthLimit, nI n, g_stackSize, g_depth, g_place, g_ready, g_top, g_errorPos, fun j => nI (t j), b_cells, b_stack, b_frames, b_wants, b_inverse, b_kinds, b_values) (nI j) := by
  have hn := X.1
  obtain ⟨s, s1, s2, s3, s4⟩ := hT
  have hts := X.2.2 s
  have htj := X.2.2 j
  have h57 : ∀ z, z < 1000 → z = iv_mk t n s → wY_turned_57 post (nI j) (nI s) (nI z) g_textLimit g_stackLimit g_depthLimit (nI n) g_stackSize g_depth g_place g_ready g_top g_errorPos (fun j => nI (t j)) b_cells b_stack b_frames b_wants b_inverse b_kinds b_values := by
    intro z hz ez
    have hvj : vp_in (nI j) 200 := vp_in_nI (by omega) (by omega)
    unfold wY_turned_57
    refine pk_eq j z (fun e => And.intro (vp_in_nI (by omega) (by omega)) ?_) (fun e => And.intro hvj ?_) rfl rfl (by omega) (by omega)
    · show wpY_atomic _ _ (nI (t (nI s).toNatClampNeg))
      rw [nI_clamp (n := s) (by omega)]
      refine yh_atomic hts (fun hac => br_f (by decide) (And.intro hvj ?_)) (fun hac => br_t rfl (And.intro hvj ?_))
      · show wpY_opposite _ _ (nI (t (nI j).toNatClampNeg))
        rw [nI_clamp (n := j) (by omega)]
        refine yh_opp htj ?_
        rcases s4 with ⟨_, _, rfl⟩ | ⟨h, _⟩
        · exact H
        · exact (h ⟨by omega, hac⟩).elim
      · show post (nI (t (nI j).toNatClampNeg))
        rw [nI_clamp (n := j) (by omega)]
        rcases s4 with ⟨_, h, _⟩ | ⟨_, rfl⟩
        · exact (hac h).elim
        · exact H
    · show post (nI (t (nI j).toNatClampNeg))
      rw [nI_clamp (n := j) (by omega)]
      rcases s4 with ⟨h, _⟩ | ⟨_, rfl⟩
      · omega
      · exact H
  have h26 : wY_turned_26 post (nI j) (nI s) g_textLimit g_stackLimit g_depthLimit (nI n) g_stackSize g_depth g_place g_ready g_top g_errorPos (fun j => nI (t j)) b_cells b_stack b_frames b_wants b_inverse b_kinds b_values := by
    unfold wY_turned_26
    refine And.intro (vp_in_nI (by omega) (by omega)) ?_
    show (nI (t (nI s).toNatClampNeg) = 62 → _) ∧ (¬ nI (t (nI s).toNatClampNeg) = 62 → _)
    rw [nI_clamp (n := s) (by omega)]
    refine pk_eq (t s) 62 (fun e => ?_) (fun n62 => And.intro (vp_in_nI (by omega) (by omega)) (pk_eq (t s) 60 (fun e => ?_) (fun n60 => ?_) rfl rfl (by omega) (by omega))) rfl rfl (by omega) (by omega)
    · unfold wY_turned_48
      exact h57 s (by omega) (by unfold iv_mk; rw [if_pos (Or.inl e)])
    · unfold wY_turned_48
      exact h57 s (by omega) (by unfold iv_mk; rw [if_pos (Or.inr e)])
    · refine ys_te X (by omega) (fun h => sc_bg_93 hG s2 h) (h57 _ ?_ (by unfold iv_mk; rw [if_neg (by omega)]))
      have : sc_Te t n s ≤ n := by
        unfold sc_Te
        have hle : ∀ d k i, i + d ≤ n → sc_te t n d k i ≤ n := by
          intro d
          induction d with
          | zero => intro k i _; exact Nat.le_refl _
          | succ d ih =>
            intro k i h
            rw [sc_te]
            generalize (if t i = 91 then _ else _) = k'
            split
            · omega
            · exact ih _ (i + 1) (by omega)
        exact hle _ _ _ (by omega)
      omega
  have loop : ∀ d i, s + d = i → i ≤ j → ∀ k, d < k → wY_turned_4 post (nI j) g_textLimit g_stackLimit g_depthLimit (nI n) g_stackSize g_depth g_place g_ready g_top g_errorPos (fun j => nI (t j)) b_cells b_stack b_frames b_wants b_inverse b_kinds b_values k (nI i) (nI (j - i)) := by
    intro d
    induction d with
    | zero =>
      intro i hi hij k hk
      have : i = s := by omega
      subst this
      cases k with
      | zero => omega
      | succ k => exact br_c (fun _ => h26) (fun _ => ys_bg X (by omega) (fun _ => br_f (by decide) h26) (fun h => (h s2).elim))
    | succ d ih =>
      intro i hi hij k hk
      cases k with
      | zero => omega
      | succ k =>
        refine br_f (nI_ge (by omega) (by omega)) (ys_bg X (by omega) (fun h => (s3 i (by omega) hij h).elim) (fun _ => br_t rfl ?_))
        have e1 : nI i + (-1) = nI (i - 1) := by
          obtain ⟨i', rfl⟩ : ∃ i', i = i' + 1 := ⟨i - 1, by omega⟩
          exact pk_m1 i'
        have e2 : j - i + 1 = j - (i - 1) := by omega
        exact nm_r e1 (nm_r ((nI_1 _).trans (by rw [e2])) (ih (i - 1) (by omega) (by omega) k (by omega)))
  unfold wpY_turned
  refine ⟨j - s + 1, ?_⟩
  have := loop (j - s) j (by omega) (Nat.le_refl _) (j - s + 1) (by omega)
  rw [Nat.sub_self] at this
  exact this
/-- the search for the statement that holds the place i -/
theorem yi_114 {J : Int32 → Int32 → Int32 → Prop} {i pm z cnt x y : Nat} (X : xp_tx t n) (hy : y ≤ n) (hc : sc_cx t n x y) (hiy : i ≤ y)
    (H : ∀ s q, gr_l t x s → gr_s t s q → s ≤ i → q < y → gr_l t (q + 1) y → (i ≤ q ∨ (i = y ∧ q + 1 = y)) → wY_image_154 post J (nI i) (nI pm) (nI z) (nI cnt) (nI y) (nI s) (nI (q + 1)) g_textLimit g_stackLimit g_depthLimit (nI n) g_stackSize g_depth g_place g_ready g_top g_errorPos (fun j => nI (t j)) b_cells b_stack b_frames b_wants b_inverse b_kinds b_values) :
    ∀ d s q m, y - s ≤ d → gr_l t x s → gr_s t s q → s ≤ i → q < y → gr_l t (q + 1) y → m ≤ s → ∀ k, d < k → wY_image_114 post J (nI i) (nI pm) (nI z) (nI cnt) (nI y) g_textLimit g_stackLimit g_depthLimit (nI n) g_stackSize g_depth g_place g_ready g_top g_errorPos (fun j => nI (t j)) b_cells b_stack b_frames b_wants b_inverse b_kinds b_values k (nI s) (nI (q + 1)) (nI m) := by
  have hn := X.1
  intro d
  induction d with
  | zero =>
    intro s q m h1 h2 h3 h4 h5 h6 hm k hk
    have := gr_S_lt h3
    omega
  | succ d ih =>
    intro s q m h1 h2 h3 h4 h5 h6 hm k hk
    have hlt := gr_S_lt h3
    cases k with
    | zero => omega
    | succ k =>
      refine br_f (nI_ge (by omega) (by omega)) (pk_lt i (q + 1) (fun h => H s q h2 h3 h4 h5 h6 (Or.inl (by omega))) (fun h => pk_le y (q + 1) (fun h' => H s q h2 h3 h4 h5 h6 (Or.inr ⟨by omega, by omega⟩)) (fun h' => ?_) rfl rfl (by omega) (by omega)) rfl rfl (by omega) (by omega))
      rcases gr_l_inv h6 with h7 | ⟨q2, h7, h8⟩
      · omega
      · have hlt2 := gr_S_lt h7
        have hle := gr_l_le h8
        refine ys_af X (by omega) ?_
        rw [sc_Af_val h7 (by omega)]
        exact nm_r (nI_1 m) (ih (q + 1) q2 (m + 1) (by omega) (gr_l_app h2 (gr_l_cons h3 gr_l_nil)) h7 h (by omega) h8 (by omega) k (by omega))
/-- the descent: a character -/
theorem yi_74 {j i : Nat} (X : xp_tx t n) (hG : gr_G t n) (hM : iv_M t n j i) (hj : j < n) (H : post (nI i)) : ∀ d x y cnt, y - x ≤ d → sc_cx t n x y → y ≤ n → gr_l t x y → x ≤ j → j < y → cnt ≤ x → ∀ k, d < k → wY_image_74 post (nI j) 0 g_textLimit g_stackLimit g_depthLimit (nI n) g_stackSize g_depth g_place g_ready g_top g_errorPos (fun j => nI (t j)) b_cells b_stack b_frames b_wants b_inverse b_kinds b_values k (nI x) (nI (iv_IF t n x)) (nI cnt) := by
  have hn := X.1
  intro d
  induction d with
  | zero => intro x y cnt h1 _ _ _ h2 h3; omega
  | succ d ih =>
    intro x y cnt hd hc hy hl hxj hjy hcnt k hk
    have hxpt : sc_pt t n x x y := ⟨Nat.le_refl _, by omega, hy, hc, gr_l_nil, hl⟩
    cases k with
    | zero => omega
    | succ k =>
      obtain ⟨L, E, z1, z2, z3, z4, z5, z6⟩ := iv_sec hG x x y (Nat.le_refl _) hc hy hl
      refine br_f (nI_nlt (by omega) (by omega)) (ys_end X (by omega) ?_)
      rw [sc_pt_end hxpt]
      refine br_f (nI_ge (by omega) (by omega)) ?_
      rcases gr_l_inv hl with h7 | ⟨q0, h7, h8⟩
      · omega
      have hlt0 := gr_S_lt h7
      have hle0 := gr_l_le h8
      refine ys_af X (by omega) ?_
      rw [sc_Af_val h7 (by omega)]
      refine ⟨y - x + 1, ?_⟩
      refine yi_114 (pm := 0) X hy hc (by omega) ?_ (y - x) x q0 0 (Nat.le_refl _) gr_l_nil h7 hxj (by omega) h8 (Nat.zero_le _) _ (by omega)
      intro s q h1 h2 h3 h4 h5 h6
      have hjq : j ≤ q := by omega
      have hlt := gr_S_lt h2
      have hbs : sc_bg t s := sc_bg_in hc h1
      have hles := gr_l_le h1
      have hspt : sc_pt t n s x y := ⟨hles, by omega, hy, hc, h1, gr_l_cons h2 h5⟩
      have hib := iv_ib hspt h2 (by omega)
      have hts := X.2.2 s
      have hB0 : iv_IF t n x + (y - (q + 1)) = iv_IB t n s := by omega
      have hBn : iv_IB t n s + (q + 1 - s) ≤ n := by omega
      unfold wY_image_154
      refine br_t rfl ?_
      unfold wY_image_178
      refine nm_r (e' := nI (iv_IB t n s)) (by rw [pk_sub (by omega), nI_add, hB0]) (And.intro (vp_in_nI (by omega) (by omega)) ?_)
      show (nI (t (nI s).toNatClampNeg) = 63 → _) ∧ (¬ nI (t (nI s).toNatClampNeg) = 63 → _)
      rw [nI_clamp (n := s) (by omega)]
      have h212 : t s = 63 ∨ t s = 64 → wY_image_212 post (wY_image_74 post (nI j) 0 g_textLimit g_stackLimit g_depthLimit (nI n) g_stackSize g_depth g_place g_ready g_top g_errorPos (fun j => nI (t j)) b_cells b_stack b_frames b_wants b_inverse b_kinds b_values k) (nI j) 0 (nI (iv_IB t n s)) (nI cnt) (nI s) (nI (q + 1)) g_textLimit g_stackLimit g_depthLimit (nI n) g_stackSize g_depth g_place g_ready g_top g_errorPos (fun j => nI (t j)) b_cells b_stack b_frames b_wants b_inverse b_kinds b_values := by
        intro hcmp
        obtain ⟨a, ea, eb, hB⟩ : ∃ a ea eb, gr_b t s a ea eb q := by
          rcases h2 with ⟨o, h⟩ | h | h | h
          · have := gr_U_pl h (Nat.le_refl _) hlt; unfold gr_pl at this; omega
          · have := h.1; omega
          · have := h.1; omega
          · exact h
        obtain ⟨v1, v2, v3, v4, v5, b1, b2, b3, b4⟩ := sc_b_val hB (n := n) (by omega)
        obtain ⟨f1, f2⟩ := iv_blk hG hbs hB (by omega)
        have mk : ∀ i', ((j = s ∧ i' = iv_IB t n s) ∨ (j = q ∧ i' = iv_IB t n s + (q - s)) ∨ (s < j ∧ j < a ∧ i' = iv_IB t n s + (j - s) + (q - eb - 1) + (eb - a) + 1) ∨ (eb < j ∧ j < q ∧ i' = iv_IB t n s + (j - eb)) ∨ ((j = a ∨ j = ea ∨ j = ea + 1 ∨ j = eb) ∧ i' = iv_IB t n s + (j - a) + (q - eb - 1) + 1)) → post (nI i') := by
          intro i' h
          have := iv_M_fun hG hM (Or.inr ⟨s, q, hbs, by omega, h2, h3, hjq, Or.inr ⟨a, ea, eb, hB, h⟩⟩)
          rw [← this]; exact H
        obtain ⟨g1, g2, g3, g4, g5, g6, g7, g8, g9, g10, g11, g12⟩ := hB
        have hBj : nI (iv_IB t n s) + nI j - nI s = nI (iv_IB t n s + j - s) := by rw [nI_add, pk_sub (by omega)]
        have eq1 : nI (q + 1) - 1 = nI q := nI_pred q
        unfold wY_image_212
        rw [hBj, eq1]
        refine pk_eq j s (fun e => ?_) (fun ns => pk_eq j q (fun e => ?_) (fun nq => ?_) rfl rfl (by omega) (by omega)) rfl rfl (by omega) (by omega)
        · have e2 : iv_IB t n s + j - s = iv_IB t n s := by omega
          rw [e2]; exact mk _ (Or.inl ⟨e, rfl⟩)
        · have e2 : iv_IB t n s + j - s = iv_IB t n s + (q - s) := by omega
          rw [e2]; exact mk _ (Or.inr (Or.inl ⟨e, rfl⟩))
        · refine ys_fa X (by omega) ?_
          rw [v1]
          refine ys_fb X (by omega) ?_
          rw [v2]
          refine ys_end X (by omega) ?_
          rw [v5]
          have en1 : (nI (a + 1) - nI s) - 2 = nI (a - s - 1) := by
            rw [pk_sub (by omega)]
            have := pk_sub (a := a + 1 - s) (b := 2) (by omega)
            have e : a + 1 - s - 2 = a - s - 1 := by omega
            rw [e] at this; exact this
          have en2 : (nI (q + 1) - nI eb) - 2 = nI (q - eb - 1) := by
            rw [pk_sub (by omega)]
            have := pk_sub (a := q + 1 - eb) (b := 2) (by omega)
            have e : q + 1 - eb - 2 = q - eb - 1 := by omega
            rw [e] at this; exact this
          have ea1 : nI (a + 1) - 1 = nI a := nI_pred a
          have eb2 : nI (ea + 2) - 2 = nI ea := by
            have := pk_sub (a := ea + 2) (b := 2) (by omega)
            have e : ea + 2 - 2 = ea := by omega
            rw [e] at this; exact this
          have eb1 : nI (ea + 2) - 1 = nI (ea + 1) := nI_pred (ea + 1)
          refine nm_r en1 (nm_r en2 ?_)
          rw [ea1, eb2, eb1]
          refine pk_le a j (fun k1 => pk_le j eb (fun k2 => br_t rfl ?_) (fun k2 => ?_) rfl rfl (by omega) (by omega)) (fun k1 => ?_) rfl rfl (by omega) (by omega)
          · have h351 : (j = a ∨ j = ea ∨ j = ea + 1 ∨ j = eb) → wY_image_351 post (nI j) (nI (iv_IB t n s)) (nI s) (nI (a - s - 1)) (nI (q - eb - 1)) g_textLimit g_stackLimit g_depthLimit (nI n) g_stackSize g_depth g_place g_ready g_top g_errorPos (fun j => nI (t j)) b_cells b_stack b_frames b_wants b_inverse b_kinds b_values := by
              intro h
              unfold wY_image_351
              rw [hBj, nI_add, pk_sub (by omega)]
              have e2 : iv_IB t n s + j - s + (q - eb - 1) - (a - s - 1) = iv_IB t n s + (j - a) + (q - eb - 1) + 1 := by omega
              rw [e2]
              exact mk _ (Or.inr (Or.inr (Or.inr (Or.inr ⟨h, rfl⟩))))
            refine pk_eq j a (fun e => h351 (by omega)) (fun na => pk_eq j ea (fun e => h351 (by omega)) (fun nea => pk_eq j (ea + 1) (fun e => h351 (by omega)) (fun nea1 => pk_eq j eb (fun e => h351 (by omega)) (fun neb => ?_) rfl rfl (by omega) (by omega)) rfl rfl (by omega) (by omega)) rfl rfl (by omega) (by omega)) rfl rfl (by omega) (by omega)
            unfold wY_image_365
            rw [eb1]
            refine pk_le (ea + 1) j (fun k3 => ?_) (fun k3 => ?_) rfl rfl (by omega) (by omega)
            · unfold wY_image_380
              refine nm_r (e' := nI (iv_IF t n (ea + 2))) ?_ (nm_r (nI_1 cnt) ?_)
              · rw [pk_sub (a := ea + 2) (by omega), nI_add, pk_sub (by omega), nI_add, f2]
                congr 1; omega
              · exact ih (ea + 2) eb (cnt + 1) (by omega) (Or.inr ⟨s, a, ea, eb, q, hbs, by omega, ⟨g1, g2, g3, g4, g5, g6, g7, g8, g9, g10, g11, g12⟩, Or.inr ⟨rfl, rfl⟩⟩) (by omega) g9 (by omega) (by omega) (by omega) k (by omega)
            · unfold wY_image_380
              refine nm_r (e' := nI (iv_IF t n (a + 1))) ?_ (nm_r (nI_1 cnt) ?_)
              · rw [pk_sub (a := a + 1) (by omega), nI_add, pk_sub (by omega), nI_add, f1]
                congr 1; omega
              · exact ih (a + 1) ea (cnt + 1) (by omega) (Or.inr ⟨s, a, ea, eb, q, hbs, by omega, ⟨g1, g2, g3, g4, g5, g6, g7, g8, g9, g10, g11, g12⟩, Or.inl ⟨rfl, rfl⟩⟩) (by omega) g5 (by omega) (by omega) (by omega) k (by omega)
          · rw [nI_add, pk_sub (by omega)]
            have e2 : iv_IB t n s + j - eb = iv_IB t n s + (j - eb) := by omega
            rw [e2]
            exact mk _ (Or.inr (Or.inr (Or.inr (Or.inl ⟨by omega, by omega, rfl⟩))))
          · rw [nI_add, nI_add, pk_sub (by omega)]
            have e3 : nI (iv_IB t n s + j - s + (q - eb - 1) + eb - (a + 1)) + 2 = nI (iv_IB t n s + j - s + (q - eb - 1) + eb - (a + 1) + 2) := nI_add _ 2
            rw [e3]
            have e2 : iv_IB t n s + j - s + (q - eb - 1) + eb - (a + 1) + 2 = iv_IB t n s + (j - s) + (q - eb - 1) + (eb - a) + 1 := by omega
            rw [e2]
            exact mk _ (Or.inr (Or.inr (Or.inl ⟨by omega, by omega, rfl⟩)))
      refine pk_eq (t s) 63 (fun e => h212 (Or.inl e)) (fun n63 => And.intro (vp_in_nI (by omega) (by omega)) (pk_eq (t s) 64 (fun e => h212 (Or.inr e)) (fun n64 => ?_) rfl rfl (by omega) (by omega))) rfl rfl (by omega) (by omega)
      rw [nI_add, pk_sub (by omega)]
      have := iv_M_fun hG hM (Or.inr ⟨s, q, hbs, by omega, h2, h3, hjq, Or.inl ⟨n63, n64, rfl⟩⟩)
      have e2 : iv_IB t n s + j - s = iv_IB t n s + (j - s) := by omega
      rw [e2, ← this]; exact H
end
end
section
/-! Y: image of a point, the whole image, the inverse text -/
theorem sc_tps {t : Nat → Nat} {n : Nat} (hG : gr_G t n) : ∀ p, p ≤ n → (∃ L E, L ≤ p ∧ p ≤ E ∧ E ≤ n ∧ sc_tp t n L E ∧ gr_l t L E) ∨ (1 ≤ p ∧ t (p - 1) = 58) := by
  obtain ⟨e0, he0, hl0, f, hQ⟩ := hG
  have hq : ∀ f p0, gr_Q t n f p0 → p0 ≤ n → ∀ p, p0 < p → p ≤ n → (∃ L E, L ≤ p ∧ p ≤ E ∧ E ≤ n ∧ sc_tp t n L E ∧ gr_l t L E) ∨ (1 ≤ p ∧ t (p - 1) = 58) := by
    intro f
    induction f with
    | zero => intro p0 h _ p h1 h2; have : p0 = n := h; omega
    | succ f ih =>
      intro p0 h hp0 p h1 h2
      rcases h with h | ⟨h3, h4, h5, e, he, hl, hQ⟩
      · omega
      have hQe : e = n ∨ t e = 58 := by
        cases f with
        | zero => exact Or.inl hQ
        | succ f =>
          rcases hQ with h | ⟨_, h, _⟩
          · exact Or.inl h
          · exact Or.inr h
      rcases Nat.lt_or_ge (p0 + 1) p with h6 | h6
      · rcases Nat.lt_or_ge e p with h7 | h7
        · exact ih e hQ he p h7 h2
        · exact Or.inl ⟨p0 + 2, e, h6, h7, he, ⟨Or.inr ⟨by omega, h4, h5⟩, hQe⟩, hl⟩
      · have e1 : p - 1 = p0 := by omega
        exact Or.inr ⟨by omega, by rw [e1]; exact h4⟩
  have hQe : e0 = n ∨ t e0 = 58 := by
    cases f with
    | zero => exact Or.inl hQ
    | succ f =>
      rcases hQ with h | ⟨_, h, _⟩
      · exact Or.inl h
      · exact Or.inr h
  intro p hp
  rcases Nat.lt_or_ge e0 p with h7 | h7
  · exact hq f e0 hQ he0 p h7 hp
  · exact Or.inl ⟨0, e0, Nat.zero_le _, h7, he0, ⟨Or.inl rfl, hQe⟩, hl0⟩
section
variable {g_textLimit g_stackLimit g_depthLimit g_length g_stackSize g_depth g_place g_ready g_top g_errorPos : Int32} {b_text b_cells b_stack b_frames b_wants b_inverse b_kinds b_values : Nat → Int32}
variable {t : Nat → Nat} {n : Nat} {post : Int32 → Prop}
/-- the descent: a point -/
theorem yi_74p {p l e : Nat} (X : xp_tx t n) (hG : gr_G t n) (hpt : sc_pt t n p l e) (H : post (nI (iv_IF t n l + (e - p)))) : ∀ d x y cnt, y - x < d → sc_cx t n x y → y ≤ n → gr_l t x y → x ≤ p → p ≤ y → cnt ≤ x → ∀ k, d < k → wY_image_74 post (nI p) 1 g_textLimit g_stackLimit g_depthLimit (nI n) g_stackSize g_depth g_place g_ready g_top g_errorPos (fun j => nI (t j)) b_cells b_stack b_frames b_wants b_inverse b_kinds b_values k (nI x) (nI (iv_IF t n x)) (nI cnt) := by
  have hn := X.1
  have hbp : sc_bg t p := sc_bg_in hpt.2.2.2.1 hpt.2.2.2.2.1
  have hpn : p ≤ n := Nat.le_trans hpt.2.1 hpt.2.2.1
  intro d
  induction d with
  | zero => intro x y cnt h1; omega
  | succ d ih =>
    intro x y cnt hd hc hy hl hxj hjy hcnt k hk
    have hxpt : sc_pt t n x x y := ⟨Nat.le_refl _, by omega, hy, hc, gr_l_nil, hl⟩
    have hypt : sc_pt t n y x y := ⟨by omega, Nat.le_refl _, hy, hc, hl, gr_l_nil⟩
    cases k with
    | zero => omega
    | succ k =>
      obtain ⟨L, E, z1, z2, z3, z4, z5, z6⟩ := iv_sec hG x x y (Nat.le_refl _) hc hy hl
      have fin : ∀ s, sc_pt t n s x y → p = s → post ((nI (iv_IF t n x) + nI y) - nI p) := by
        intro s hs e0
        subst e0
        have f1 := sc_pt_fst hs
        have f2 := sc_pt_fst hpt
        have f3 := sc_pt_end hs
        have f4 := sc_pt_end hpt
        have e1 : l = x := by omega
        have e2 : e = y := by omega
        rw [e1, e2] at H
        rw [nI_add, pk_sub (by omega)]
        have e3 : iv_IF t n x + y - p = iv_IF t n x + (y - p) := by omega
        rw [e3]; exact H
      refine br_f (nI_nlt (by omega) (by omega)) (ys_end X (by omega) ?_)
      rw [sc_pt_end hxpt]
      refine pk_le y x (fun hyx => ?_) (fun hyx => ?_) rfl rfl (by omega) (by omega)
      · have exy : x = y := by omega
        refine ⟨1, ?_⟩
        have h154 : wY_image_154 post (wY_image_74 post (nI p) 1 g_textLimit g_stackLimit g_depthLimit (nI n) g_stackSize g_depth g_place g_ready g_top g_errorPos (fun j => nI (t j)) b_cells b_stack b_frames b_wants b_inverse b_kinds b_values k) (nI p) 1 (nI (iv_IF t n x)) (nI cnt) (nI y) (nI x) (nI y) g_textLimit g_stackLimit g_depthLimit (nI n) g_stackSize g_depth g_place g_ready g_top g_errorPos (fun j => nI (t j)) b_cells b_stack b_frames b_wants b_inverse b_kinds b_values := by
          unfold wY_image_154
          refine br_f (by decide) (br_t (by rw [show p = x by omega]) (fin x hxpt (by omega)))
        exact br_c (fun _ => h154) (fun _ => pk_lt p y (fun h => by omega) (fun _ => br_t (nI_le (by omega) (by omega)) h154) rfl rfl (by omega) (by omega))
      rcases gr_l_inv hl with h7 | ⟨q0, h7, h8⟩
      · omega
      have hlt0 := gr_S_lt h7
      have hle0 := gr_l_le h8
      refine ys_af X (by omega) ?_
      rw [sc_Af_val h7 (by omega)]
      refine ⟨y - x + 1, ?_⟩
      refine yi_114 (pm := 1) X hy hc (by omega) ?_ (y - x) x q0 0 (Nat.le_refl _) gr_l_nil h7 hxj (by omega) h8 (Nat.zero_le _) _ (by omega)
      intro s q h1 h2 h3 h4 h5 h6
      have hlt := gr_S_lt h2
      have hbs : sc_bg t s := sc_bg_in hc h1
      have hles := gr_l_le h1
      have hspt : sc_pt t n s x y := ⟨hles, by omega, hy, hc, h1, gr_l_cons h2 h5⟩
      have hib := iv_ib hspt h2 (by omega)
      have hts := X.2.2 s
      have hB0 : iv_IF t n x + (y - (q + 1)) = iv_IB t n s := by omega
      have hBn : iv_IB t n s + (q + 1 - s) ≤ n := by omega
      unfold wY_image_154
      refine br_f (by decide) (pk_eq p s (fun e => fin s hspt e) (fun ns => pk_eq p y (fun e => fin y hypt e) (fun ny => ?_) rfl rfl (by omega) (by omega)) rfl rfl (by omega) (by omega))
      have hpq : p ≤ q := by omega
      obtain ⟨a, ea, eb, hB, hin⟩ := sc_in h2 (iv_58 hG hbs (by omega)) (by omega : s < p) hpq hbp
      obtain ⟨v1, v2, v3, v4, v5, b1, b2, b3, b4⟩ := sc_b_val hB (n := n) (by omega)
      obtain ⟨f1, f2⟩ := iv_blk hG hbs hB (by omega)
      unfold wY_image_178
      refine nm_r (e' := nI (iv_IB t n s)) (by rw [pk_sub (by omega), nI_add, hB0]) (And.intro (vp_in_nI (by omega) (by omega)) ?_)
      show (nI (t (nI s).toNatClampNeg) = 63 → _) ∧ (¬ nI (t (nI s).toNatClampNeg) = 63 → _)
      rw [nI_clamp (n := s) (by omega)]
      have hBcopy := hB
      obtain ⟨g1, g2, g3, g4, g5, g6, g7, g8, g9, g10, g11, g12⟩ := hB
      have h212 : wY_image_212 post (wY_image_74 post (nI p) 1 g_textLimit g_stackLimit g_depthLimit (nI n) g_stackSize g_depth g_place g_ready g_top g_errorPos (fun j => nI (t j)) b_cells b_stack b_frames b_wants b_inverse b_kinds b_values k) (nI p) 1 (nI (iv_IB t n s)) (nI cnt) (nI s) (nI (q + 1)) g_textLimit g_stackLimit g_depthLimit (nI n) g_stackSize g_depth g_place g_ready g_top g_errorPos (fun j => nI (t j)) b_cells b_stack b_frames b_wants b_inverse b_kinds b_values := by
        have eq1 : nI (q + 1) - 1 = nI q := nI_pred q
        unfold wY_image_212
        rw [eq1]
        refine pk_eq p s (fun e => by omega) (fun _ => pk_eq p q (fun e => by omega) (fun nq => ?_) rfl rfl (by omega) (by omega)) rfl rfl (by omega) (by omega)
        refine ys_fa X (by omega) ?_
        rw [v1]
        refine ys_fb X (by omega) ?_
        rw [v2]
        refine ys_end X (by omega) ?_
        rw [v5]
        have en1 : (nI (a + 1) - nI s) - 2 = nI (a - s - 1) := by
          rw [pk_sub (by omega)]
          have := pk_sub (a := a + 1 - s) (b := 2) (by omega)
          have e : a + 1 - s - 2 = a - s - 1 := by omega
          rw [e] at this; exact this
        have en2 : (nI (q + 1) - nI eb) - 2 = nI (q - eb - 1) := by
          rw [pk_sub (by omega)]
          have := pk_sub (a := q + 1 - eb) (b := 2) (by omega)
          have e : q + 1 - eb - 2 = q - eb - 1 := by omega
          rw [e] at this; exact this
        have ea1 : nI (a + 1) - 1 = nI a := nI_pred a
        have eb1 : nI (ea + 2) - 1 = nI (ea + 1) := nI_pred (ea + 1)
        refine nm_r en1 (nm_r en2 ?_)
        rw [ea1]
        refine pk_le a p (fun k1 => pk_le p eb (fun k2 => br_f (by decide) ?_) (fun k2 => by omega) rfl rfl (by omega) (by omega)) (fun k1 => by omega) rfl rfl (by omega) (by omega)
        unfold wY_image_365
        rw [eb1]
        refine pk_le (ea + 1) p (fun k3 => ?_) (fun k3 => ?_) rfl rfl (by omega) (by omega)
        · unfold wY_image_380
          refine nm_r (e' := nI (iv_IF t n (ea + 2))) ?_ (nm_r (nI_1 cnt) ?_)
          · rw [pk_sub (a := ea + 2) (by omega), nI_add, pk_sub (by omega), nI_add, f2]
            congr 1; omega
          · exact ih (ea + 2) eb (cnt + 1) (by omega) (Or.inr ⟨s, a, ea, eb, q, hbs, by omega, hBcopy, Or.inr ⟨rfl, rfl⟩⟩) (by omega) g9 (by omega) (by omega) (by omega) k (by omega)
        · unfold wY_image_380
          refine nm_r (e' := nI (iv_IF t n (a + 1))) ?_ (nm_r (nI_1 cnt) ?_)
          · rw [pk_sub (a := a + 1) (by omega), nI_add, pk_sub (by omega), nI_add, f1]
            congr 1; omega
          · exact ih (a + 1) ea (cnt + 1) (by omega) (Or.inr ⟨s, a, ea, eb, q, hbs, by omega, hBcopy, Or.inl ⟨rfl, rfl⟩⟩) (by omega) g5 (by omega) (by omega) (by omega) k (by omega)
      refine pk_eq (t s) 63 (fun _ => h212) (fun n63 => And.intro (vp_in_nI (by omega) (by omega)) (pk_eq (t s) 64 (fun _ => h212) (fun n64 => ?_) rfl rfl (by omega) (by omega))) rfl rfl (by omega) (by omega)
      omega
/-- the search for the list at the top -/
theorem yi_39 {p m L z : Nat} (X : xp_tx t n) (hz : z = L) (hp : p ≤ n) (hL : L = 0 ∨ (2 ≤ L ∧ t (L - 2) = 58 ∧ t (L - 1) ≠ 58)) (hLp : L ≤ p) (h58 : ∀ k, L ≤ k → k < p → t k ≠ 58)
    (H : ∃ k, wY_image_74 post (nI p) (nI m) g_textLimit g_stackLimit g_depthLimit (nI n) g_stackSize g_depth g_place g_ready g_top g_errorPos (fun j => nI (t j)) b_cells b_stack b_frames b_wants b_inverse b_kinds b_values k (nI L) (nI z) 0) : ∃ k, wY_image_39 post (nI p) (nI m) g_textLimit g_stackLimit g_depthLimit (nI n) g_stackSize g_depth g_place g_ready g_top g_errorPos (fun j => nI (t j)) b_cells b_stack b_frames b_wants b_inverse b_kinds b_values k 0 0 := by
  subst hz
  have hn := X.1
  have loop : ∀ d i, p - i ≤ d → i ≤ p → ∀ k, d < k → wY_image_39 post (nI p) (nI m) g_textLimit g_stackLimit g_depthLimit (nI n) g_stackSize g_depth g_place g_ready g_top g_errorPos (fun j => nI (t j)) b_cells b_stack b_frames b_wants b_inverse b_kinds b_values k (nI (sc_tf t i)) (nI i) := by
    intro d
    induction d with
    | zero =>
      intro i h1 h2 k hk
      have : i = p := by omega
      subst this
      cases k with
      | zero => omega
      | succ k =>
        refine br_t (nI_le (by omega) (by omega)) ?_
        rw [sc_tf_val hL i hLp h58]; exact H
    | succ d ih =>
      intro i h1 h2 k hk
      cases k with
      | zero => omega
      | succ k =>
        refine pk_le p i (fun h => ?_) (fun h => And.intro (vp_in_nI (by omega) (by omega)) ?_) rfl rfl (by omega) (by omega)
        · have : i = p := by omega
          subst this
          rw [sc_tf_val hL i hLp h58]; exact H
        · have hti := X.2.2 i
          show (nI (t (nI i).toNatClampNeg) = 58 → _) ∧ (¬ nI (t (nI i).toNatClampNeg) = 58 → _)
          rw [nI_clamp (n := i) (by omega)]
          refine pk_eq (t i) 58 (fun e => nm_r (e' := nI (sc_tf t (i + 1))) ?_ (nm_r (nI_1 i) (ih (i + 1) (by omega) (by omega) k (by omega)))) (fun e => nm_r (nI_1 i) ?_) rfl rfl (by omega) (by omega)
          · rw [sc_tf, if_pos e]; exact nI_add i 2
          · have := ih (i + 1) (by omega) (by omega) k (by omega)
            rw [sc_tf, if_neg e] at this; exact this
  exact ⟨p + 1, loop p 0 (by omega) (Nat.zero_le _) (p + 1) (by omega)⟩
theorem sc_tp_L {L E : Nat} (h : sc_tp t n L E) : L = 0 ∨ (2 ≤ L ∧ t (L - 2) = 58 ∧ t (L - 1) ≠ 58) := by
  rcases h.1 with h | ⟨a, b, c⟩
  · exact Or.inl h
  · exact Or.inr ⟨a, b, by unfold gr_nm at c; omega⟩
theorem yi_point {p l e : Nat} (X : xp_tx t n) (hG : gr_G t n) (hpt : sc_pt t n p l e) (H : post (nI (iv_IF t n l + (e - p)))) : wpY_image post (g_textLimit, g_stackLimit, g_depthLimit, nI n, g_stackSize, g_depth, g_place, g_ready, g_top, g_errorPos, fun j => nI (t j), b_cells, b_stack, b_frames, b_wants, b_inverse, b_kinds, b_values) (nI p) 1 := by
  have hbp : sc_bg t p := sc_bg_in hpt.2.2.2.1 hpt.2.2.2.2.1
  have hpn : p ≤ n := Nat.le_trans hpt.2.1 hpt.2.2.1
  unfold wpY_image
  refine br_f (by decide) ?_
  rcases sc_tps hG p hpn with ⟨L, E, h1, h2, h3, h4, h5⟩ | ⟨h1, h2⟩
  · refine yi_39 (m := 1) X (iv_top h4) hpn (sc_tp_L h4) h1 (fun k a b => (sc_l h5).2.2 k a (by omega)) ⟨E - L + 1 + 1, yi_74p X hG hpt H (E - L + 1) L E 0 (by omega) (Or.inl h4) h3 h5 h1 h2 (Nat.zero_le _) (E - L + 1 + 1) (by omega)⟩
  · exact (iv_58 hG hbp hpn h1 h2).elim
theorem yi_char {j i : Nat} (X : xp_tx t n) (hG : gr_G t n) (hj : j < n) (hM : iv_M t n j i) (H : post (nI i)) : wpY_image post (g_textLimit, g_stackLimit, g_depthLimit, nI n, g_stackSize, g_depth, g_place, g_ready, g_top, g_errorPos, fun j => nI (t j), b_cells, b_stack, b_frames, b_wants, b_inverse, b_kinds, b_values) (nI j) 0 := by
  have hn := X.1
  have htj := X.2.2 j
  unfold wpY_image
  refine br_t rfl (And.intro (vp_in_nI (by omega) (by omega)) ?_)
  show (nI (t (nI j).toNatClampNeg) = 58 → _) ∧ (¬ nI (t (nI j).toNatClampNeg) = 58 → _)
  rw [nI_clamp (n := j) (by omega)]
  refine pk_eq (t j) 58 (fun e => ?_) (fun n58 => ?_) rfl rfl (by omega) (by omega)
  · rw [← iv_M_fun hG hM (Or.inl ⟨hj, Or.inl e, rfl⟩)]; exact H
  have go : (1 ≤ j → t (j - 1) ≠ 58) → ∃ k, wY_image_39 post (nI j) (nI 0) g_textLimit g_stackLimit g_depthLimit (nI n) g_stackSize g_depth g_place g_ready g_top g_errorPos (fun j => nI (t j)) b_cells b_stack b_frames b_wants b_inverse b_kinds b_values k 0 0 := by
    intro hj1
    rcases sc_tps hG j (by omega) with ⟨L, E, h1, h2, h3, h4, h5⟩ | ⟨h1, h2⟩
    · have hjE : j < E := by
        rcases Nat.lt_or_ge j E with h | h
        · exact h
        · have e : j = E := by omega
          rcases h4.2 with h' | h'
          · omega
          · rw [← e] at h'; exact (n58 h').elim
      refine yi_39 (m := 0) X (iv_top h4) (by omega) (sc_tp_L h4) h1 (fun k a b => (sc_l h5).2.2 k a (by omega)) ⟨E - L + 1, yi_74 X hG hM hj H (E - L) L E 0 (Nat.le_refl _) (Or.inl h4) h3 h5 h1 hjE (Nat.zero_le _) (E - L + 1) (by omega)⟩
    · exact (hj1 h1 h2).elim
  refine pk_le j 0 (fun h => go (fun h' => by omega)) (fun h => ?_) rfl rfl (by omega) (by omega)
  obtain ⟨j', rfl⟩ : ∃ j', j = j' + 1 := ⟨j - 1, by omega⟩
  have e1 : nI (j' + 1) - 1 = nI j' := nI_pred j'
  rw [e1]
  refine And.intro (vp_in_nI (by omega) (by omega)) ?_
  show (nI (t (nI j').toNatClampNeg) = 58 → _) ∧ (¬ nI (t (nI j').toNatClampNeg) = 58 → _)
  rw [nI_clamp (n := j') (by omega)]
  have htj' := X.2.2 j'
  refine pk_eq (t j') 58 (fun e => ?_) (fun n58' => go (fun _ => n58')) rfl rfl (by omega) (by omega)
  rw [← iv_M_fun hG hM (Or.inl ⟨hj, Or.inr ⟨by omega, e⟩, rfl⟩)]; exact H
end
section
variable {g_textLimit g_stackLimit g_depthLimit g_length g_stackSize g_depth g_place g_ready g_top g_errorPos : Int32} {b_text b_cells b_stack b_frames b_wants b_inverse b_kinds b_values : Nat → Int32}
variable {t : Nat → Nat} {n : Nat} {post : SY → Prop} {ct : Nat → Nat}
theorem yi_write (X : xp_tx t n) (hG : gr_G t n) (hC : iv_C t n ct)
    (H : ∀ b_inverse, (∀ i, i < n → b_inverse i = nI (ct i)) → post (g_textLimit, g_stackLimit, g_depthLimit, nI n, g_stackSize, g_depth, g_place, g_ready, g_top, g_errorPos, fun j => nI (t j), b_cells, b_stack, b_frames, b_wants, b_inverse, b_kinds, b_values)) : wpY_writeInverse post (g_textLimit, g_stackLimit, g_depthLimit, nI n, g_stackSize, g_depth, g_place, g_ready, g_top, g_errorPos, fun j => nI (t j), b_cells, b_stack, b_frames, b_wants, b_inverse, b_kinds, b_values) := by
  have hn := X.1
  have loop : ∀ d j, n - j ≤ d → j ≤ n → ∀ k, d < k → ∀ b_inverse : Nat → Int32, (∀ j', j' < j → ∀ i, iv_M t n j' i → b_inverse i = nI (ct i)) → wY_writeInverse_2 post g_textLimit g_stackLimit g_depthLimit (nI n) g_stackSize g_depth g_place g_ready g_top g_errorPos k (nI j) (fun j => nI (t j)) b_cells b_stack b_frames b_wants b_inverse b_kinds b_values := by
    intro d
    induction d with
    | zero =>
      intro j h1 h2 k hk b hb
      have : j = n := by omega
      subst this
      cases k with
      | zero => omega
      | succ k =>
        refine br_t (nI_le (by omega) (by omega)) (H b (fun i hi => ?_))
        obtain ⟨j', a1, a2⟩ := iv_on hG i hi
        exact hb j' a1 i a2
    | succ d ih =>
      intro j h1 h2 k hk b hb
      cases k with
      | zero => omega
      | succ k =>
        refine pk_le n j (fun h => H b (fun i hi => ?_)) (fun h => ?_) rfl rfl (by omega) (by omega)
        · obtain ⟨j', a1, a2⟩ := iv_on hG i hi
          exact hb j' (by omega) i a2
        obtain ⟨g, hg1, hg2, hg3⟩ := iv_bij hG
        obtain ⟨i, hi, hM⟩ := hg3 j (by omega)
        obtain ⟨c, hc⟩ := iv_T_ex t n j
        have hct := hC j i c (by omega) hM hc
        refine yi_char X hG (by omega) hM (yi_turn X hG (by omega) hc (And.intro (vp_in_nI (by omega) (by omega)) (nm_e (nm_r (nI_1 j) (ih (j + 1) (by omega) (by omega) k (by omega) _ ?_)))))
        intro j' hj' i' hM'
        show (if i' = (nI i).toNatClampNeg then nI c else b i') = _
        rw [nI_clamp (n := i) (by omega)]
        by_cases hii : i' = i
        · rw [if_pos hii, hii, hct]
        · rw [if_neg hii]
          rcases Nat.lt_or_ge j' j with h' | h'
          · exact hb j' h' i' hM'
          · have : j' = j := by omega
            subst this
            exact (hii (iv_M_fun hG hM' hM)).elim
  unfold wpY_writeInverse
  exact ⟨n + 1, loop n 0 (by omega) (Nat.zero_le _) (n + 1) (by omega) b_inverse (fun j' h => by omega)⟩
end
end
section
/-! X: the inverse text, part one -/
section
variable {f_textCap f_stackCap f_depthCap f_ready f_size f_stackTop f_point f_frameCount f_symbolTop f_pos f_list f_open f_errorKind f_errorPos f_valueTop f_operatorTop : Int32} {a_text a_cells a_stack a_frames a_listOf a_listEnd a_owner a_stmtEnd a_stmtBegin a_firstA a_firstB a_opAt a_procFirst a_inverse a_invFirst a_invBegin a_symbols a_values a_operators : Nat → Int32}
variable {t : Nat → Nat} {n : Nat} {T : Nat → Nat → Int32} {ct : Nat → Nat} {post : SX → Prop}
theorem xb_w {i : Nat} {c : Int32} (hn : n ≤ 200) (hi : i < n) (h : post (f_textCap, f_stackCap, f_depthCap, f_ready, nI n, f_stackTop, f_point, f_frameCount, f_symbolTop, f_pos, f_list, f_open, f_errorKind, f_errorPos, f_valueTop, f_operatorTop, fun j => nI (t j), a_cells, a_stack, a_frames, T 0, T 1, T 2, T 3, T 4, T 5, T 6, T 7, a_procFirst, upd a_inverse i c, a_invFirst, a_invBegin, a_symbols, a_values, a_operators)) : wpX_writeInverse post (f_textCap, f_stackCap, f_depthCap, f_ready, nI n, f_stackTop, f_point, f_frameCount, f_symbolTop, f_pos, f_list, f_open, f_errorKind, f_errorPos, f_valueTop, f_operatorTop, fun j => nI (t j), a_cells, a_stack, a_frames, T 0, T 1, T 2, T 3, T 4, T 5, T 6, T 7, a_procFirst, a_inverse, a_invFirst, a_invBegin, a_symbols, a_values, a_operators) (nI i) c := by
  refine br_f (nI_pos (by omega)) (br_f (nI_ge (by omega) (by omega)) (And.intro (vp_in_nI (by omega) (by omega)) (nm_e ?_)))
  rw [nI_clamp (n := i) (by omega)]; exact h
theorem xb_wc {I : Int32} (i : Nat) {c : Nat} (hI : I = nI i) (hn : n ≤ 200) (hi : i < n) (hc : ct i = c)
    (H : ∀ a_inv' : Nat → Int32, (∀ k, a_inverse k = nI (ct k) → a_inv' k = nI (ct k)) → a_inv' i = nI (ct i) → post (f_textCap, f_stackCap, f_depthCap, f_ready, nI n, f_stackTop, f_point, f_frameCount, f_symbolTop, f_pos, f_list, f_open, f_errorKind, f_errorPos, f_valueTop, f_operatorTop, fun j => nI (t j), a_cells, a_stack, a_frames, T 0, T 1, T 2, T 3, T 4, T 5, T 6, T 7, a_procFirst, a_inv', a_invFirst, a_invBegin, a_symbols, a_values, a_operators)) : wpX_writeInverse post (f_textCap, f_stackCap, f_depthCap, f_ready, nI n, f_stackTop, f_point, f_frameCount, f_symbolTop, f_pos, f_list, f_open, f_errorKind, f_errorPos, f_valueTop, f_operatorTop, fun j => nI (t j), a_cells, a_stack, a_frames, T 0, T 1, T 2, T 3, T 4, T 5, T 6, T 7, a_procFirst, a_inverse, a_invFirst, a_invBegin, a_symbols, a_values, a_operators) I (nI c) := by
  subst hI
  refine xb_w hn hi (H _ (fun k hk => ?_) (by rw [hc]; exact pk_us))
  by_cases e : k = i
  · rw [e, hc]; exact pk_us
  · rw [pk_un e]; exact hk
theorem xb_cp {a b c : Nat} (X : xp_tx t n) (ha : a + c ≤ n) (hb : b + c ≤ n)
    (H : ∀ a_inv' : Nat → Int32, (∀ k, k < b ∨ b + c ≤ k → a_inv' k = a_inverse k) → (∀ d, d < c → a_inv' (b + d) = nI (t (a + d))) → post (f_textCap, f_stackCap, f_depthCap, f_ready, nI n, f_stackTop, f_point, f_frameCount, f_symbolTop, f_pos, f_list, f_open, f_errorKind, f_errorPos, f_valueTop, f_operatorTop, fun j => nI (t j), a_cells, a_stack, a_frames, T 0, T 1, T 2, T 3, T 4, T 5, T 6, T 7, a_procFirst, a_inv', a_invFirst, a_invBegin, a_symbols, a_values, a_operators)) : wpX_copyToInverse post (f_textCap, f_stackCap, f_depthCap, f_ready, nI n, f_stackTop, f_point, f_frameCount, f_symbolTop, f_pos, f_list, f_open, f_errorKind, f_errorPos, f_valueTop, f_operatorTop, fun j => nI (t j), a_cells, a_stack, a_frames, T 0, T 1, T 2, T 3, T 4, T 5, T 6, T 7, a_procFirst, a_inverse, a_invFirst, a_invBegin, a_symbols, a_values, a_operators) (nI a) (nI b) (nI c) := by
  have hn := X.1
  have loop : ∀ m i, i + m = c → ∀ k, m < k → ∀ a_inv' : Nat → Int32, (∀ k, k < b ∨ b + c ≤ k → a_inv' k = a_inverse k) → (∀ d, d < i → a_inv' (b + d) = nI (t (a + d))) → wX_copyToInverse_3 post (nI a) (nI b) (nI c) k (nI i) f_textCap f_stackCap f_depthCap f_ready (nI n) f_stackTop f_point f_frameCount f_symbolTop f_pos f_list f_open f_errorKind f_errorPos f_valueTop f_operatorTop (fun j => nI (t j)) a_cells a_stack a_frames (T 0) (T 1) (T 2) (T 3) (T 4) (T 5) (T 6) (T 7) a_procFirst a_inv' a_invFirst a_invBegin a_symbols a_values a_operators := by
    intro m
    induction m with
    | zero =>
      intro i hi k hk inv h1 h2
      cases k with
      | zero => omega
      | succ k => exact br_t (nI_le (by omega) (by omega)) (H inv h1 (fun d hd => h2 d (by omega)))
    | succ m ih =>
      intro i hi k hk inv h1 h2
      cases k with
      | zero => omega
      | succ k =>
        refine br_f (nI_ge (by omega) (by omega)) (br_f (nI_ge (a := i) (b := 200) (by omega) (by omega)) ?_)
        rw [nI_add, nI_add]
        refine xh_char X.1 (by omega) X.2.1 ?_
        have e : gr_ch t n (a + i) = t (a + i) := if_pos (by omega)
        have := X.2.1 (a + i) (by omega)
        rw [e, xp_cs (by omega)]
        refine xb_w hn (by omega) (nm_r (nI_1 i) (ih (i + 1) (by omega) k (by omega) _ (fun z hz => ?_) (fun d hd => ?_)))
        · rw [pk_un (by omega)]; exact h1 z hz
        · by_cases e : d = i
          · rw [e]; exact pk_us
          · rw [pk_un (by omega)]; exact h2 d (by omega)
  unfold wpX_copyToInverse
  exact ⟨c + 1, loop c 0 (by omega) (c + 1) (by omega) a_inverse (fun _ _ => rfl) (fun d hd => by omega)⟩
theorem xb_cpc {A B : Int32} (a b : Nat) {c : Nat} (hA : A = nI a) (hB : B = nI b) (X : xp_tx t n) (ha : a + c ≤ n) (hb : b + c ≤ n) (hc : ∀ d, d < c → ct (b + d) = t (a + d))
    (H : ∀ a_inv' : Nat → Int32, (∀ k, a_inverse k = nI (ct k) → a_inv' k = nI (ct k)) → (∀ d, d < c → a_inv' (b + d) = nI (ct (b + d))) → post (f_textCap, f_stackCap, f_depthCap, f_ready, nI n, f_stackTop, f_point, f_frameCount, f_symbolTop, f_pos, f_list, f_open, f_errorKind, f_errorPos, f_valueTop, f_operatorTop, fun j => nI (t j), a_cells, a_stack, a_frames, T 0, T 1, T 2, T 3, T 4, T 5, T 6, T 7, a_procFirst, a_inv', a_invFirst, a_invBegin, a_symbols, a_values, a_operators)) : wpX_copyToInverse post (f_textCap, f_stackCap, f_depthCap, f_ready, nI n, f_stackTop, f_point, f_frameCount, f_symbolTop, f_pos, f_list, f_open, f_errorKind, f_errorPos, f_valueTop, f_operatorTop, fun j => nI (t j), a_cells, a_stack, a_frames, T 0, T 1, T 2, T 3, T 4, T 5, T 6, T 7, a_procFirst, a_inverse, a_invFirst, a_invBegin, a_symbols, a_values, a_operators) A B (nI c) := by
  subst hA hB
  refine xb_cp X ha hb (fun inv h1 h2 => H inv (fun k hk => ?_) (fun d hd => by rw [hc d hd]; exact h2 d hd))
  by_cases e : k < b ∨ b + c ≤ k
  · rw [h1 k e]; exact hk
  · have := h2 (k - b) (by omega)
    have e1 : b + (k - b) = k := by omega
    have e2 := hc (k - b) (by omega)
    rw [e1] at this e2
    rw [this, e2]
/-- the own characters of the statement s and their places -/
def iv_cl (t : Nat → Nat) (n s q j i : Nat) : Prop := (t s ≠ 63 ∧ t s ≠ 64 ∧ i = iv_IB t n s + (j - s)) ∨
    ∃ a ea eb, gr_b t s a ea eb q ∧ ((j = s ∧ i = iv_IB t n s) ∨ (j = q ∧ i = iv_IB t n s + (q - s)) ∨ (s < j ∧ j < a ∧ i = iv_IB t n s + (j - s) + (q - eb - 1) + (eb - a) + 1) ∨ (eb < j ∧ j < q ∧ i = iv_IB t n s + (j - eb)) ∨
      ((j = a ∨ j = ea ∨ j = ea + 1 ∨ j = eb) ∧ i = iv_IB t n s + (j - a) + (q - eb - 1) + 1))
theorem xb_comp {s a ea eb q : Nat} (X : xp_tx t n) (hG : gr_G t n) (hC : iv_C t n ct) (hT : xt_T t n T) (hb : sc_bg t s) (hB : gr_b t s a ea eb q) (hq : q < n) (hBn : iv_IB t n s + (q - s) < n)
    (H : ∀ a_inv' a_iF' : Nat → Int32, (∀ k, a_inverse k = nI (ct k) → a_inv' k = nI (ct k)) → (∀ l, a_invFirst l = nI (iv_IF t n l) → a_iF' l = nI (iv_IF t n l)) → a_iF' (a + 1) = nI (iv_IF t n (a + 1)) → a_iF' (ea + 2) = nI (iv_IF t n (ea + 2)) →
      (∀ j i, s ≤ j → j ≤ q → iv_cl t n s q j i → a_inv' i = nI (ct i)) → post (f_textCap, f_stackCap, f_depthCap, f_ready, nI n, f_stackTop, f_point, f_frameCount, f_symbolTop, f_pos, f_list, f_open, f_errorKind, f_errorPos, f_valueTop, f_operatorTop, fun j => nI (t j), a_cells, a_stack, a_frames, T 0, T 1, T 2, T 3, T 4, T 5, T 6, T 7, a_procFirst, a_inv', a_iF', a_invBegin, a_symbols, a_values, a_operators)) :
    wpX_invertCompound post (f_textCap, f_stackCap, f_depthCap, f_ready, nI n, f_stackTop, f_point, f_frameCount, f_symbolTop, f_pos, f_list, f_open, f_errorKind, f_errorPos, f_valueTop, f_operatorTop, fun j => nI (t j), a_cells, a_stack, a_frames, T 0, T 1, T 2, T 3, T 4, T 5, T 6, T 7, a_procFirst, a_inverse, a_invFirst, a_invBegin, a_symbols, a_values, a_operators) (nI s) (nI (iv_IB t n s)) := by
  have hn := X.1
  have hs : gr_s t s q := Or.inr (Or.inr (Or.inr ⟨a, ea, eb, hB⟩))
  obtain ⟨v1, v2, v3, v4, v5, b1, b2, b3, b4⟩ := sc_b_val hB hq
  obtain ⟨f1, f2⟩ := iv_blk hG hb hB hq
  obtain ⟨t3, t5, t6, t1a, t1b, _, _⟩ := sp_tab hT hb hB hq
  have hct : ∀ j i, s ≤ j → j ≤ q → ((j = s ∧ i = iv_IB t n s) ∨ (j = q ∧ i = iv_IB t n s + (q - s)) ∨ (s < j ∧ j < a ∧ i = iv_IB t n s + (j - s) + (q - eb - 1) + (eb - a) + 1) ∨ (eb < j ∧ j < q ∧ i = iv_IB t n s + (j - eb)) ∨
      ((j = a ∨ j = ea ∨ j = ea + 1 ∨ j = eb) ∧ i = iv_IB t n s + (j - a) + (q - eb - 1) + 1)) → ct i = t j := by
    intro j i h1 h2 h
    refine hC j i (t j) (by omega) (Or.inr ⟨s, q, hb, hq, hs, h1, h2, Or.inr ⟨a, ea, eb, hB, h⟩⟩) (iv_T_B hG hb hB hq ?_)
    rcases h with h | h | h | h | h
    · left; omega
    · right; right; right; omega
    · left; omega
    · right; right; right; omega
    · rcases h.1 with h | h | h | h
      · left; omega
      · right; left; omega
      · right; right; left; omega
      · right; right; right; omega
  have hBs := hB
  obtain ⟨g1, g2, g3, g4, g5, g6, g7, g8, g9, g10, g11, g12⟩ := hB
  have he1 := gr_E_ne g2
  have he2 := gr_E_ne g11
  generalize hBe : iv_IB t n s = B at *
  have en1 : (nI (a + 1) - nI s) - 2 = nI (a - s - 1) := by
    rw [pk_sub (by omega)]
    have := pk_sub (a := a + 1 - s) (b := 2) (by omega)
    have e : a + 1 - s - 2 = a - s - 1 := by omega
    rw [e] at this; exact this
  have en2 : (nI (q + 1) - nI eb) - 2 = nI (q - eb - 1) := by
    rw [pk_sub (by omega)]
    have := pk_sub (a := q + 1 - eb) (b := 2) (by omega)
    have e : q + 1 - eb - 2 = q - eb - 1 := by omega
    rw [e] at this; exact this
  have V : ∀ {k : Nat}, k ≤ 200 → vp_in (nI k) 201 := fun h => vp_in_nI (by omega) (by omega)
  unfold wpX_invertCompound
  refine And.intro (V (by omega)) (nm_r (e' := nI (a + 1)) (by rw [nI_clamp (n := s) (by omega)]; exact t5) (And.intro (V (by omega)) (nm_r (e' := nI (ea + 2)) (by rw [nI_clamp (n := s) (by omega)]; exact t6) ?_)))
  refine br_f (nI_pos (by omega)) (br_t (nI_le (a := 0) (by omega) (by omega)) ?_)
  refine And.intro (V (by omega)) (nm_r (e' := nI ea) (by rw [nI_clamp (n := a + 1) (by omega)]; exact t1a) (And.intro (V (by omega)) (nm_r (e' := nI eb) (by rw [nI_clamp (n := ea + 2) (by omega)]; exact t1b) ?_)))
  refine nm_r en1 (And.intro (V (by omega)) (nm_r (e' := nI (q - eb - 1)) (by rw [nI_clamp (n := s) (by omega), t3]; exact en2) (And.intro (vp_in_nI (by omega) (by omega)) ?_)))
  have etx : (fun j => nI (t j)) (nI s).toNatClampNeg = nI (t s) := by
    show nI (t (nI s).toNatClampNeg) = _
    rw [nI_clamp (n := s) (by omega)]
  rw [etx]
  refine xb_wc (ct := ct) B rfl hn (by omega) (hct s B (by omega) (by omega) (Or.inl ⟨rfl, rfl⟩)) (fun i1 k1 c1 => ?_)
  refine xb_cpc (ct := ct) (eb + 1) (B + 1) (nI_1 _) (nI_1 _) X (by omega) (by omega) (fun d hd => hct (eb + 1 + d) (B + 1 + d) (by omega) (by omega) (Or.inr (Or.inr (Or.inr (Or.inl ⟨by omega, by omega, by omega⟩))))) (fun i2 k2 c2 => ?_)
  refine nm_r (e' := nI (B + 1 + (q - eb - 1))) (by rw [nI_1, nI_add]) ?_
  refine xb_wc (ct := ct) (c := 123) (B + 1 + (q - eb - 1)) rfl hn (by omega) ((hct a _ (by omega) (by omega) (Or.inr (Or.inr (Or.inr (Or.inr ⟨Or.inl rfl, by omega⟩))))).trans g3) (fun i3 k3 c3 => ?_)
  refine And.intro (V (by omega)) (nm_e (nm_r (e' := nI (B + 1 + (q - eb - 1) + (ea - a))) ?_ ?_))
  · rw [nI_1, nI_add, pk_sub (by omega)]; congr 1; omega
  refine xb_wc (ct := ct) (c := 125) (B + 1 + (q - eb - 1) + (ea - a)) rfl hn (by omega) ((hct ea _ (by omega) (by omega) (Or.inr (Or.inr (Or.inr (Or.inr ⟨Or.inr (Or.inl rfl), by omega⟩))))).trans g6) (fun i4 k4 c4 => ?_)
  refine xb_wc (ct := ct) (c := 123) (B + 1 + (q - eb - 1) + (ea - a) + 1) (nI_1 _) hn (by omega) ((hct (ea + 1) _ (by omega) (by omega) (Or.inr (Or.inr (Or.inr (Or.inr ⟨Or.inr (Or.inr (Or.inl rfl)), by omega⟩))))).trans g7) (fun i5 k5 c5 => ?_)
  have e2 : nI (B + 1 + (q - eb - 1) + (ea - a)) + 2 = nI (B + 1 + (q - eb - 1) + (ea - a) + 2) := nI_add _ 2
  refine And.intro (V (by omega)) (nm_e (nm_r (e' := nI (B + 1 + (q - eb - 1) + (eb - a))) ?_ ?_))
  · rw [e2, nI_add, pk_sub (by omega)]; congr 1; omega
  refine xb_wc (ct := ct) (c := 125) (B + 1 + (q - eb - 1) + (eb - a)) rfl hn (by omega) ((hct eb _ (by omega) (by omega) (Or.inr (Or.inr (Or.inr (Or.inr ⟨Or.inr (Or.inr (Or.inr rfl)), by omega⟩))))).trans g10) (fun i6 k6 c6 => ?_)
  refine xb_cpc (ct := ct) (s + 1) (B + 1 + (q - eb - 1) + (eb - a) + 1) (nI_1 _) (nI_1 _) X (by omega) (by omega) (fun d hd => hct (s + 1 + d) (B + 1 + (q - eb - 1) + (eb - a) + 1 + d) (by omega) (by omega) (Or.inr (Or.inr (Or.inl ⟨by omega, by omega, by omega⟩)))) (fun i7 k7 c7 => ?_)
  refine xb_wc (ct := ct) (c := 59) (B + 1 + (q - eb - 1) + (eb - a) + 1 + (a - s - 1)) (by rw [nI_1, nI_add]) hn (by omega) ((hct q _ (by omega) (by omega) (Or.inr (Or.inl ⟨rfl, by omega⟩))).trans g12) (fun i8 k8 c8 => ?_)
  rw [nI_clamp (n := a + 1) (by omega), nI_clamp (n := ea + 2) (by omega), e2, nI_1]
  have eF1 : nI (B + 1 + (q - eb - 1) + 1) = nI (iv_IF t n (a + 1)) := by rw [f1]; congr 1; omega
  have eF2 : nI (B + 1 + (q - eb - 1) + (ea - a) + 2) = nI (iv_IF t n (ea + 2)) := by rw [f2]; congr 1; omega
  refine H i8 _ (fun k h => k8 k (k7 k (k6 k (k5 k (k4 k (k3 k (k2 k (k1 k h)))))))) (fun l h => ?_) ?_ (pk_us.trans eF2) (fun j i hj1 hj2 h => ?_)
  · by_cases ez2 : l = ea + 2
    · rw [ez2]; exact pk_us.trans eF2
    · rw [pk_un ez2]
      by_cases ez1 : l = a + 1
      · rw [ez1]; exact pk_us.trans eF1
      · rw [pk_un ez1]; exact h
  · rw [pk_un (by omega)]; exact pk_us.trans eF1
  · rcases h with ⟨h63, h64, _⟩ | ⟨a', ea', eb', hB', h⟩
    · omega
    obtain ⟨rfl, rfl, rfl⟩ := iv_b_eq hq hBs hB'
    rw [hBe] at h
    rcases h with ⟨_, rfl⟩ | ⟨_, rfl⟩ | ⟨h1, h2, h3⟩ | ⟨h1, h2, h3⟩ | ⟨h1, h2⟩
    · exact k8 _ (k7 _ (k6 _ (k5 _ (k4 _ (k3 _ (k2 _ c1))))))
    · have : B + 1 + (q - eb' - 1) + (eb' - a') + 1 + (a' - s - 1) = B + (q - s) := by omega
      rw [this] at c8; exact c8
    · have := c7 (j - s - 1) (by omega)
      have e : B + 1 + (q - eb' - 1) + (eb' - a') + 1 + (j - s - 1) = i := by omega
      rw [e] at this; exact k8 _ this
    · have := c2 (j - eb' - 1) (by omega)
      have e : B + 1 + (j - eb' - 1) = i := by omega
      rw [e] at this
      exact k8 _ (k7 _ (k6 _ (k5 _ (k4 _ (k3 _ this)))))
    · rcases h1 with h1 | h1 | h1 | h1
      · have e : B + 1 + (q - eb' - 1) = i := by omega
        rw [e] at c3; exact k8 _ (k7 _ (k6 _ (k5 _ (k4 _ c3))))
      · have e : B + 1 + (q - eb' - 1) + (ea' - a') = i := by omega
        rw [e] at c4; exact k8 _ (k7 _ (k6 _ (k5 _ c4)))
      · have e : B + 1 + (q - eb' - 1) + (ea' - a') + 1 = i := by omega
        rw [e] at c5; exact k8 _ (k7 _ (k6 _ c5))
      · have e : B + 1 + (q - eb' - 1) + (eb' - a') = i := by omega
        rw [e] at c6; exact k8 _ (k7 _ c6)
end
end
section
/-! X: the inverse text, part two -/
section
variable {f_textCap f_stackCap f_depthCap f_ready f_size f_stackTop f_point f_frameCount f_symbolTop f_pos f_list f_open f_errorKind f_errorPos f_valueTop f_operatorTop : Int32} {a_text a_cells a_stack a_frames a_listOf a_listEnd a_owner a_stmtEnd a_stmtBegin a_firstA a_firstB a_opAt a_procFirst a_inverse a_invFirst a_invBegin a_symbols a_values a_operators : Nat → Int32}
variable {t : Nat → Nat} {n : Nat} {T : Nat → Nat → Int32} {ct : Nat → Nat} {post : SX → Prop}
theorem xb_stmt {s q l e : Nat} (X : xp_tx t n) (hG : gr_G t n) (hC : iv_C t n ct) (hT : xt_T t n T) (hpt : sc_pt t n s l e) (hs : gr_s t s q) (hq : q < n) (hF : a_invFirst l = nI (iv_IF t n l))
    (H : ∀ a_inv' a_iF' a_iB' : Nat → Int32, (∀ k, a_inverse k = nI (ct k) → a_inv' k = nI (ct k)) → (∀ l, a_invFirst l = nI (iv_IF t n l) → a_iF' l = nI (iv_IF t n l)) → (∀ k, a_invBegin k = nI (iv_IB t n k) → a_iB' k = nI (iv_IB t n k)) →
      a_iB' s = nI (iv_IB t n s) → (∀ a ea eb, gr_b t s a ea eb q → a_iF' (a + 1) = nI (iv_IF t n (a + 1)) ∧ a_iF' (ea + 2) = nI (iv_IF t n (ea + 2))) →
      (∀ j i, s ≤ j → j ≤ q → iv_cl t n s q j i → a_inv' i = nI (ct i)) → post (f_textCap, f_stackCap, f_depthCap, f_ready, nI n, f_stackTop, f_point, f_frameCount, f_symbolTop, f_pos, f_list, f_open, f_errorKind, f_errorPos, f_valueTop, f_operatorTop, fun j => nI (t j), a_cells, a_stack, a_frames, T 0, T 1, T 2, T 3, T 4, T 5, T 6, T 7, a_procFirst, a_inv', a_iF', a_iB', a_symbols, a_values, a_operators)) :
    wpX_invertStatement post (f_textCap, f_stackCap, f_depthCap, f_ready, nI n, f_stackTop, f_point, f_frameCount, f_symbolTop, f_pos, f_list, f_open, f_errorKind, f_errorPos, f_valueTop, f_operatorTop, fun j => nI (t j), a_cells, a_stack, a_frames, T 0, T 1, T 2, T 3, T 4, T 5, T 6, T 7, a_procFirst, a_inverse, a_invFirst, a_invBegin, a_symbols, a_values, a_operators) (nI s) := by
  have hn := X.1
  have hlt := gr_S_lt hs
  have hib := iv_ib hpt hs hq
  have hb : sc_bg t s := sc_bg_in hpt.2.2.2.1 hpt.2.2.2.2.1
  have hfst := sc_pt_fst hpt
  have hsr := gr_S_sr hs
  have hts := X.2.2 s
  have t0 : T 0 s = nI l := by
    rw [hT.2 0 s (by omega) ⟨hb, Or.inl rfl⟩, xt_S0, hfst]
  have t3 := sp_t3 hT hb hs hq
  obtain ⟨p1, p2, p3, p4, p5, p6⟩ := hpt
  have hlpt : sc_pt t n l l e := ⟨Nat.le_refl _, by omega, p3, p4, gr_l_nil, gr_l_app p5 p6⟩
  have hbl : sc_bg t l := sc_bg_in p4 gr_l_nil
  have t1 : T 1 l = nI e := by
    rw [hT.2 1 l (by omega) ⟨hbl, Or.inr (Or.inl ⟨rfl, ?_⟩)⟩, xt_S1, sc_pt_end hlpt]
    rcases p4 with h | ⟨s0, a, ea, eb, q0, _, _, hB, h⟩
    · rcases h.1 with h | ⟨h1, h2, _⟩
      · exact Or.inl h
      · exact Or.inr (Or.inr ⟨h1, h2⟩)
    · rcases h with ⟨h, _⟩ | ⟨h, _⟩
      · right; left; rw [h]; exact hB.2.2.1
      · right; left; rw [h]; exact hB.2.2.2.2.2.2.1
  obtain ⟨L, E, z1, z2, z3, z4, z5, z6⟩ := iv_sec hG l l e (Nat.le_refl _) p4 p3 (gr_l_app p5 p6)
  have hqe : q < e := by
    rcases sc_pt_cases ⟨p1, p2, p3, p4, p5, p6⟩ with ⟨_, h⟩ | ⟨q', hs', hq', _, _⟩
    · exact (h ⟨by omega, hsr⟩).elim
    · have a1 := sc_Af_val hs hq
      have a2 := sc_Af_val hs' (by omega : q' < n)
      omega
  have hBn : iv_IB t n s + (q - s) < n := by omega
  have V : ∀ {k : Nat}, k ≤ 200 → vp_in (nI k) 201 := fun h => vp_in_nI (by omega) (by omega)
  unfold wpX_invertStatement
  refine And.intro (V (by omega)) (nm_r (e' := nI l) (by rw [nI_clamp (n := s) (by omega)]; exact t0) (And.intro (V (by omega)) (And.intro (V (by omega)) (And.intro (V (by omega)) (nm_r (e' := nI (iv_IB t n s)) ?_ (And.intro (V (by omega)) (nm_e (And.intro (vp_in_nI (by omega) (by omega)) (nm_r (e' := nI (t s)) ?_ ?_)))))))))
  · rw [nI_clamp (n := l) (by omega), nI_clamp (n := s) (by omega), hF, t1, t3, nI_add, pk_sub (by omega), hib]
  · show nI (t (nI s).toNatClampNeg) = _
    rw [nI_clamp (n := s) (by omega)]
  rw [nI_clamp (n := s) (by omega)]
  have sB : ∀ k, a_invBegin k = nI (iv_IB t n k) → upd a_invBegin s (nI (iv_IB t n s)) k = nI (iv_IB t n k) := by
    intro k hk
    by_cases ek : k = s
    · rw [ek]; exact pk_us
    · rw [pk_un ek]; exact hk
  have h57 : t s = 63 ∨ t s = 64 → wX_invertStatement_57 post (nI s) (nI (iv_IB t n s)) f_textCap f_stackCap f_depthCap f_ready (nI n) f_stackTop f_point f_frameCount f_symbolTop f_pos f_list f_open f_errorKind f_errorPos f_valueTop f_operatorTop (fun j => nI (t j)) a_cells a_stack a_frames (T 0) (T 1) (T 2) (T 3) (T 4) (T 5) (T 6) (T 7) a_procFirst a_inverse a_invFirst (upd a_invBegin s (nI (iv_IB t n s))) a_symbols a_values a_operators := by
    intro h
    obtain ⟨a, ea, eb, hB⟩ : ∃ a ea eb, gr_b t s a ea eb q := by
      rcases hs with ⟨o, h'⟩ | h' | h' | h'
      · have := gr_U_pl h' (Nat.le_refl _) hlt; unfold gr_pl at this; omega
      · have := h'.1; omega
      · have := h'.1; omega
      · exact h'
    unfold wX_invertStatement_57
    refine xb_comp X hG hC hT hb hB hq hBn (fun i1 f1 h1 h2 h3 h4 h5 => H i1 f1 _ h1 h2 sB pk_us (fun a' ea' eb' hB' => ?_) h5)
    obtain ⟨rfl, rfl, rfl⟩ := iv_b_eq hq hB hB'
    exact ⟨h3, h4⟩
  refine pk_eq (t s) 63 (fun h => h57 (Or.inl h)) (fun n63 => pk_eq (t s) 64 (fun h => h57 (Or.inr h)) (fun n64 => ?_) rfl rfl (by omega) (by omega)) rfl rfl (by omega) (by omega)
  have nB : ∀ a ea eb, ¬ gr_b t s a ea eb q := fun a ea eb h => by have := h.1; omega
  have fin : ∀ inv' : Nat → Int32, (∀ k, k < iv_IB t n s ∨ iv_IB t n s + (q + 1 - s) ≤ k → inv' k = a_inverse k) → (∀ j, s ≤ j → j ≤ q → inv' (iv_IB t n s + (j - s)) = nI (ct (iv_IB t n s + (j - s)))) → post (f_textCap, f_stackCap, f_depthCap, f_ready, nI n, f_stackTop, f_point, f_frameCount, f_symbolTop, f_pos, f_list, f_open, f_errorKind, f_errorPos, f_valueTop, f_operatorTop, fun j => nI (t j), a_cells, a_stack, a_frames, T 0, T 1, T 2, T 3, T 4, T 5, T 6, T 7, a_procFirst, inv', a_invFirst, upd a_invBegin s (nI (iv_IB t n s)), a_symbols, a_values, a_operators) := by
    intro inv' h1 h2
    refine H inv' a_invFirst _ (fun k hk => ?_) (fun l h => h) sB pk_us (fun a ea eb h => (nB a ea eb h).elim) (fun j i j1 j2 h => ?_)
    · by_cases ek : k < iv_IB t n s ∨ iv_IB t n s + (q + 1 - s) ≤ k
      · rw [h1 k ek]; exact hk
      · have := h2 (s + (k - iv_IB t n s)) (by omega) (by omega)
        have e1 : iv_IB t n s + (s + (k - iv_IB t n s) - s) = k := by omega
        rw [e1] at this; exact this
    · rcases h with ⟨_, _, rfl⟩ | ⟨a, ea, eb, h, _⟩
      · exact h2 j j1 j2
      · exact (nB a ea eb h).elim
  have hctg : ∀ j c, s ≤ j → j ≤ q → iv_T t n j c → ct (iv_IB t n s + (j - s)) = c := fun j c j1 j2 h => hC j _ c (by omega) (Or.inr ⟨s, q, hb, hq, hs, j1, j2, Or.inl ⟨n63, n64, rfl⟩⟩) h
  refine And.intro (V (by omega)) ?_
  rw [t3, pk_sub (by omega)]
  refine xb_cp X (by omega) (by omega) (fun i1 o1 c1 => ?_)
  have c1' : ∀ j, s ≤ j → j ≤ q → i1 (iv_IB t n s + (j - s)) = nI (t j) := by
    intro j j1 j2
    rw [c1 (j - s) (by omega)]
    have e1 : s + (j - s) = j := by omega
    rw [e1]
  have ups : ∀ o c, s ≤ o → o ≤ q → (∀ j, s ≤ j → j ≤ q → ct (iv_IB t n s + (j - s)) = if j = o then c else t j) → post (f_textCap, f_stackCap, f_depthCap, f_ready, nI n, f_stackTop, f_point, f_frameCount, f_symbolTop, f_pos, f_list, f_open, f_errorKind, f_errorPos, f_valueTop, f_operatorTop, fun j => nI (t j), a_cells, a_stack, a_frames, T 0, T 1, T 2, T 3, T 4, T 5, T 6, T 7, a_procFirst, upd i1 (iv_IB t n s + (o - s)) (nI c), a_invFirst, upd a_invBegin s (nI (iv_IB t n s)), a_symbols, a_values, a_operators) := by
    intro o c ho1 ho2 hc
    refine fin _ (fun k hk => ?_) (fun j j1 j2 => ?_)
    · rw [pk_un (by omega)]; exact o1 k hk
    · rw [hc j j1 j2]
      by_cases ej : j = o
      · rw [if_pos ej, ej]; exact pk_us
      · rw [if_neg ej, pk_un (by omega)]; exact c1' j j1 j2
  have hK : t s = 62 ∨ t s = 60 → ∀ j, s ≤ j → j ≤ q → ct (iv_IB t n s + (j - s)) = if j = s then iv_op (t s) else t j := by
    intro h j j1 j2
    have hK : gr_K t s q := by
      rcases hs with ⟨o, h'⟩ | h' | h' | ⟨a, ea, eb, h'⟩
      · have := gr_T_sr h'.1; unfold gr_vr at this; omega
      · exact h'
      · have := h'.1; omega
      · exact (nB a ea eb h').elim
    have := hctg j _ j1 j2 (iv_T_K hG hb hK hq j1 j2)
    rw [this]
    by_cases ej : j = s
    · rw [if_pos ej, if_pos ej, ej]
    · rw [if_neg ej, if_neg ej]
  have es : iv_IB t n s + (s - s) = iv_IB t n s := by omega
  refine pk_eq (t s) 62 (fun h => ?_) (fun n62 => pk_eq (t s) 60 (fun h => ?_) (fun n60 => ?_) rfl rfl (by omega) (by omega)) rfl rfl (by omega) (by omega)
  · refine xb_w hn (by omega) ?_
    have := ups s 60 (by omega) (by omega) (by have := hK (Or.inl h); rw [h] at this; exact this)
    rw [es] at this; exact this
  · refine xb_w hn (by omega) ?_
    have := ups s 62 (by omega) (by omega) (by have := hK (Or.inr h); rw [h] at this; exact this)
    rw [es] at this; exact this
  refine And.intro (V (by omega)) ?_
  have hss : sc_ss t n s := ⟨by omega, hsr⟩
  have e7 : T 7 s = xt_S t n 7 s := by
    exact hT.2 7 s (by omega) ⟨hb, Or.inr (Or.inr (Or.inr (Or.inr (Or.inl ⟨Or.inr rfl, hss⟩))))⟩
  rw [e7, xt_S7]
  by_cases hv : gr_vr (t s) ∨ t s = 91
  · rw [xt_if_t ⟨hb, hss, hv⟩]
    obtain ⟨o, hU⟩ : ∃ o, gr_U t s o q := by
      rcases hs with h' | h' | h' | ⟨a, ea, eb, h'⟩
      · exact h'
      · have := h'.1; unfold gr_vr at hv; omega
      · have := h'.1; unfold gr_vr at hv; omega
      · exact (nB a ea eb h').elim
    have hso := gr_T_lt hU.1
    have hoq : o < q := by
      rcases hU.2.2 with ⟨_, h⟩ | ⟨_, h⟩
      · have := gr_E_ne h; omega
      · have := gr_T_lt h; omega
    rw [sc_Te_val hU.1 (by omega)]
    refine br_f (nI_pos (by omega)) (And.intro (V (by omega)) ?_)
    have hto := X.2.2 o
    have hto' := X.2.1 o (by omega)
    have hUc : ∀ j, s ≤ j → j ≤ q → ct (iv_IB t n s + (j - s)) = if j = o then iv_op (t o) else t j := by
      intro j j1 j2
      rw [hctg j _ j1 j2 (iv_T_U hG hb hU hq j1 j2)]
      by_cases ej : j = o
      · rw [if_pos ej, if_pos ej, ej]
      · rw [if_neg ej, if_neg ej]
    refine xh_char X.1 (by omega) X.2.1 ?_
    have e : gr_ch t n o = t o := if_pos (by omega)
    rw [e, xp_cs (by omega)]
    have ei : (nI (iv_IB t n s) + nI o) - nI s = nI (iv_IB t n s + (o - s)) := by
      rw [nI_add, pk_sub (by omega)]; congr 1; omega
    refine pk_eq (t o) 43 (fun h => And.intro (V (by omega)) ?_) (fun n43 => pk_eq (t o) 45 (fun h => And.intro (V (by omega)) ?_) (fun n45 => ?_) rfl rfl (by omega) (by omega)) rfl rfl (by omega) (by omega)
    · rw [ei]
      exact xb_w hn (by omega) (ups o 45 (by omega) (by omega) (by have := hUc; rw [h] at this; exact this))
    · rw [ei]
      exact xb_w hn (by omega) (ups o 43 (by omega) (by omega) (by have := hUc; rw [h] at this; exact this))
    · refine fin i1 o1 (fun j j1 j2 => ?_)
      rw [c1' j j1 j2, hUc j j1 j2]
      by_cases ej : j = o
      · rw [if_pos ej, ej]
        have : iv_op (t o) = t o := by
          unfold iv_op
          rw [if_neg n43, if_neg n45]
          have h60 : t o ≠ 60 ∧ t o ≠ 62 := by
            rcases hU.2.2 with ⟨h, _⟩ | ⟨h, _⟩
            · constructor
              · intro h'; rw [h'] at h; exact absurd h (by decide)
              · intro h'; rw [h'] at h; exact absurd h (by decide)
            · omega
          rw [if_neg h60.1, if_neg h60.2]
        rw [this]
      · rw [if_neg ej]
  · rw [xt_if_f (fun h => hv h.2.2)]
    refine br_t (by decide) ?_
    have hCl : gr_C t s q := by
      rcases hs with ⟨o, h'⟩ | h' | h' | ⟨a, ea, eb, h'⟩
      · exact (hv (gr_T_sr h'.1)).elim
      · have := h'.1; omega
      · exact h'
      · exact (nB a ea eb h').elim
    refine fin i1 o1 (fun j j1 j2 => ?_)
    rw [c1' j j1 j2, hctg j _ j1 j2 (iv_T_C hG hb hCl hq j1 j2)]
end
end
section
/-! X: the inverse text, the whole -/
/-- what buildInverse leaves behind -/
def xb_F (t : Nat → Nat) (n : Nat) (ct : Nat → Nat) (inv iF iB : Nat → Int32) : Prop :=
  (∀ i, i < n → inv i = nI (ct i)) ∧ (∀ p l e, sc_pt t n p l e → iF l = nI (iv_IF t n l)) ∧ (∀ s q, sc_bg t s → gr_s t s q → q < n → iB s = nI (iv_IB t n s))
/-- what it has done before the place m -/
def xb_P (t : Nat → Nat) (n : Nat) (ct : Nat → Nat) (m : Nat) (inv iF iB : Nat → Int32) : Prop :=
  (∀ l e, l ≤ n → sc_tp t n l e → iF l = nI (iv_IF t n l)) ∧ (∀ j, j < n → (t j = 58 ∨ (1 ≤ j ∧ t (j - 1) = 58)) → inv j = nI (ct j)) ∧
  (∀ s q, s < m → sc_bg t s → q < n → gr_s t s q → iB s = nI (iv_IB t n s) ∧ (∀ a ea eb, gr_b t s a ea eb q → iF (a + 1) = nI (iv_IF t n (a + 1)) ∧ iF (ea + 2) = nI (iv_IF t n (ea + 2))) ∧ ∀ j i, s ≤ j → j ≤ q → iv_cl t n s q j i → inv i = nI (ct i))
section
variable {t : Nat → Nat} {n : Nat} {T : Nat → Nat → Int32} {ct : Nat → Nat} {inv iF iB : Nat → Int32}
theorem xb_PF (hG : gr_G t n) (h : xb_P t n ct n inv iF iB) : xb_F t n ct inv iF iB := by
  obtain ⟨h1, h2, h3⟩ := h
  refine ⟨fun i hi => ?_, fun p l e hpt => ?_, fun s q hb hs hq => (h3 s q (by have := gr_S_lt hs; omega) hb hq hs).1⟩
  · obtain ⟨j, hj, hM⟩ := iv_on hG i hi
    rcases hM with ⟨_, h, rfl⟩ | ⟨s, q, hb, hq, hs, j1, j2, h⟩
    · exact h2 i hj h
    · exact (h3 s q (by omega) hb hq hs).2.2 j i j1 j2 h
  · obtain ⟨p1, p2, p3, p4, p5, p6⟩ := hpt
    rcases p4 with h | ⟨s0, a, ea, eb, q0, hb, hq, hB, h⟩
    · exact h1 l e (by omega) h
    · have hs0 : gr_s t s0 q0 := Or.inr (Or.inr (Or.inr ⟨a, ea, eb, hB⟩))
      have := (h3 s0 q0 (by have := gr_S_lt hs0; omega) hb hq hs0).2.1 a ea eb hB
      rcases h with ⟨rfl, _⟩ | ⟨rfl, _⟩
      · exact this.1
      · exact this.2
theorem xb_Pl {s l e : Nat} (hpt : sc_pt t n s l e) (h : xb_P t n ct s inv iF iB) : iF l = nI (iv_IF t n l) := by
  obtain ⟨h1, h2, h3⟩ := h
  obtain ⟨p1, p2, p3, p4, p5, p6⟩ := hpt
  rcases p4 with h | ⟨s0, a, ea, eb, q0, hb, hq, hB, h⟩
  · exact h1 l e (by omega) h
  · have hs0 : gr_s t s0 q0 := Or.inr (Or.inr (Or.inr ⟨a, ea, eb, hB⟩))
    obtain ⟨_, _, _, _, _, b1, b2, b3, b4⟩ := sc_b_val hB hq
    have := (h3 s0 q0 (by omega) hb hq hs0).2.1 a ea eb hB
    rcases h with ⟨rfl, _⟩ | ⟨rfl, _⟩
    · exact this.1
    · exact this.2
end
section
variable {f_textCap f_stackCap f_depthCap f_ready f_size f_stackTop f_point f_frameCount f_symbolTop f_pos f_list f_open f_errorKind f_errorPos f_valueTop f_operatorTop : Int32} {a_text a_cells a_stack a_frames a_listOf a_listEnd a_owner a_stmtEnd a_stmtBegin a_firstA a_firstB a_opAt a_procFirst a_inverse a_invFirst a_invBegin a_symbols a_values a_operators : Nat → Int32}
variable {t : Nat → Nat} {n : Nat} {T : Nat → Nat → Int32} {ct : Nat → Nat} {post : SX → Prop}
theorem xb_59 (X : xp_tx t n) (hG : gr_G t n) (hC : iv_C t n ct) (hT : xt_T t n T)
    (H : ∀ a_inverse a_invFirst a_invBegin : Nat → Int32, xb_F t n ct a_inverse a_invFirst a_invBegin → post (f_textCap, f_stackCap, f_depthCap, f_ready, nI n, f_stackTop, f_point, f_frameCount, f_symbolTop, f_pos, f_list, f_open, f_errorKind, f_errorPos, f_valueTop, f_operatorTop, fun j => nI (t j), a_cells, a_stack, a_frames, T 0, T 1, T 2, T 3, T 4, T 5, T 6, T 7, a_procFirst, a_inverse, a_invFirst, a_invBegin, a_symbols, a_values, a_operators)) :
    ∀ d i, i + d = n → ∀ k, d < k → ∀ a_inverse a_invFirst a_invBegin : Nat → Int32, xb_P t n ct i a_inverse a_invFirst a_invBegin → wX_buildInverse_59 post k (nI i) f_textCap f_stackCap f_depthCap f_ready (nI n) f_stackTop f_point f_frameCount f_symbolTop f_pos f_list f_open f_errorKind f_errorPos f_valueTop f_operatorTop (fun j => nI (t j)) a_cells a_stack a_frames (T 0) (T 1) (T 2) (T 3) (T 4) (T 5) (T 6) (T 7) a_procFirst a_inverse a_invFirst a_invBegin a_symbols a_values a_operators := by
  have hn := X.1
  intro d
  induction d with
  | zero =>
    intro i hi k hk inv iF iB hP
    have : i = n := by omega
    subst this
    cases k with
    | zero => omega
    | succ k => exact br_t (nI_le (by omega) (by omega)) (H inv iF iB (xb_PF hG hP))
  | succ d ih =>
    intro i hi k hk inv iF iB hP
    cases k with
    | zero => omega
    | succ k =>
      refine br_f (nI_ge (by omega) (by omega)) (And.intro (vp_in_nI (by omega) (by omega)) ?_)
      rw [nI_clamp (n := i) (by omega)]
      by_cases hb : sc_bg t i ∧ sc_ss t n i
      · obtain ⟨l, e, hpt⟩ := sc_pts hG i (by omega) hb.1
        rcases sc_pt_cases hpt with ⟨_, h⟩ | ⟨q, hs, hqe, _, _⟩
        · exact (h hb.2).elim
        have hq : q < n := by have := hpt.2.2.1; omega
        rw [sp_t3 hT hb.1 hs hq]
        refine br_f (nI_pos (by omega)) (xb_stmt X hG hC hT hpt hs hq (xb_Pl hpt hP) (fun i1 f1 b1 k1 k2 k3 k4 k5 k6 => nm_r (nI_1 i) (ih (i + 1) (by omega) k (by omega) i1 f1 b1 ?_)))
        obtain ⟨h1, h2, h3⟩ := hP
        refine ⟨fun l' e' a b => k2 _ (h1 l' e' a b), fun j a b => k1 _ (h2 j a b), fun s' q' a b c d' => ?_⟩
        rcases Nat.lt_or_ge s' i with h | h
        · obtain ⟨w1, w2, w3⟩ := h3 s' q' h b c d'
          exact ⟨k3 _ w1, fun x y z hB => ⟨k2 _ (w2 x y z hB).1, k2 _ (w2 x y z hB).2⟩, fun j i' j1 j2 hj => k1 _ (w3 j i' j1 j2 hj)⟩
        · have e1 : s' = i := by omega
          subst e1
          have a1 := sc_Af_val hs hq
          have a2 := sc_Af_val d' c
          have e2 : q' = q := by omega
          subst e2
          exact ⟨k4, k5, k6⟩
      · have e3 : T 3 i = -1 := by
          have hS : xt_S t n 3 i = -1 := by rw [xt_S3, xt_if_f hb]
          rw [hT.1 3 i (by omega) (by omega) hS, hS]
        rw [e3]
        refine br_t (by decide) (nm_r (nI_1 i) (ih (i + 1) (by omega) k (by omega) inv iF iB ?_))
        obtain ⟨h1, h2, h3⟩ := hP
        refine ⟨h1, h2, fun s' q' a b c d' => ?_⟩
        rcases Nat.lt_or_ge s' i with h | h
        · exact h3 s' q' h b c d'
        · have e1 : s' = i := by omega
          subst e1
          exact (hb ⟨b, by omega, gr_S_sr d'⟩).elim
theorem xb_build (X : xp_tx t n) (hG : gr_G t n) (hC : iv_C t n ct) (hT : xt_T t n T)
    (H : ∀ a_inverse a_invFirst a_invBegin : Nat → Int32, xb_F t n ct a_inverse a_invFirst a_invBegin → post (f_textCap, f_stackCap, f_depthCap, f_ready, nI n, f_stackTop, f_point, f_frameCount, f_symbolTop, f_pos, f_list, f_open, f_errorKind, f_errorPos, f_valueTop, f_operatorTop, fun j => nI (t j), a_cells, a_stack, a_frames, T 0, T 1, T 2, T 3, T 4, T 5, T 6, T 7, a_procFirst, a_inverse, a_invFirst, a_invBegin, a_symbols, a_values, a_operators)) : wpX_buildInverse post (f_textCap, f_stackCap, f_depthCap, f_ready, nI n, f_stackTop, f_point, f_frameCount, f_symbolTop, f_pos, f_list, f_open, f_errorKind, f_errorPos, f_valueTop, f_operatorTop, fun j => nI (t j), a_cells, a_stack, a_frames, T 0, T 1, T 2, T 3, T 4, T 5, T 6, T 7, a_procFirst, a_inverse, a_invFirst, a_invBegin, a_symbols, a_values, a_operators) := by
  have hn := X.1
  have l31 : ∀ d i, i + d = n → ∀ k, d < k → ∀ a_inverse a_invFirst a_invBegin : Nat → Int32, (∀ j, j < i → a_inverse j = nI (t j)) → (∀ j, j ≤ 200 → a_invFirst j = nI j) → wX_buildInverse_31 post f_textCap f_stackCap f_depthCap f_ready (nI n) f_stackTop f_point f_frameCount f_symbolTop f_pos f_list f_open f_errorKind f_errorPos f_valueTop f_operatorTop k (nI i) (fun j => nI (t j)) a_cells a_stack a_frames (T 0) (T 1) (T 2) (T 3) (T 4) (T 5) (T 6) (T 7) a_procFirst a_inverse a_invFirst a_invBegin a_symbols a_values a_operators := by
    intro d
    induction d with
    | zero =>
      intro i hi k hk inv iF iB h1 h2
      have : i = n := by omega
      subst this
      cases k with
      | zero => omega
      | succ k =>
        refine br_t (nI_le (by omega) (by omega)) ⟨i + 1, xb_59 X hG hC hT H i 0 (by omega) (i + 1) (by omega) inv iF iB ⟨fun l e hl h => ?_, fun j hj h => ?_, fun s q hs => by omega⟩⟩
        · rw [h2 l (by omega), iv_top h]
        · rw [h1 j hj]
          congr 1
          rcases h with h | ⟨hj1, h⟩
          · obtain ⟨c1, c2, _⟩ := nt_cb hG j hj h
            rw [(nt_colon hG hC c2 h c1).1, h]
          · obtain ⟨c1, c2, _⟩ := nt_cb hG (j - 1) (by omega) h
            have e := (nt_colon hG hC c2 h c1).2
            have e1 : j - 1 + 1 = j := by omega
            rw [e1] at e
            exact e.symm
    | succ d ih =>
      intro i hi k hk inv iF iB h1 h2
      cases k with
      | zero => omega
      | succ k =>
        refine br_f (nI_ge (by omega) (by omega)) (And.intro (vp_in_nI (by omega) (by omega)) (And.intro (vp_in_nI (by omega) (by omega)) (nm_e (nm_r (nI_1 i) (ih (i + 1) (by omega) k (by omega) _ iF iB (fun j hj => ?_) h2)))))
        show (if j = (nI i).toNatClampNeg then nI (t (nI i).toNatClampNeg) else inv j) = _
        rw [nI_clamp (n := i) (by omega)]
        by_cases e : j = i
        · rw [if_pos e, e]
        · rw [if_neg e]; exact h1 j (by omega)
  have l2 : ∀ d i, i + d = 201 → ∀ k, d < k → ∀ a_invFirst a_invBegin : Nat → Int32, (∀ j, j < i → a_invFirst j = nI j) → wX_buildInverse_2 post f_textCap f_stackCap f_depthCap f_ready (nI n) f_stackTop f_point f_frameCount f_symbolTop f_pos f_list f_open f_errorKind f_errorPos f_valueTop f_operatorTop k (nI i) (fun j => nI (t j)) a_cells a_stack a_frames (T 0) (T 1) (T 2) (T 3) (T 4) (T 5) (T 6) (T 7) a_procFirst a_inverse a_invFirst a_invBegin a_symbols a_values a_operators := by
    intro d
    induction d with
    | zero =>
      intro i hi k hk iF iB h2
      cases k with
      | zero => omega
      | succ k => exact br_t (nI_lt (a := 200) (by omega) (by omega)) ⟨n + 1, l31 n 0 (by omega) (n + 1) (by omega) _ iF iB (fun j hj => by omega) (fun j hj => h2 j (by omega))⟩
    | succ d ih =>
      intro i hi k hk iF iB h2
      cases k with
      | zero => omega
      | succ k =>
        refine br_f (nI_nlt (a := 200) (by omega) (by omega)) (And.intro (vp_in_nI (by omega) (by omega)) (nm_e (And.intro (vp_in_nI (by omega) (by omega)) (nm_e (nm_r (nI_1 i) (ih (i + 1) (by omega) k (by omega) _ _ (fun j hj => ?_)))))))
        show (if j = (nI i).toNatClampNeg then nI i else iF j) = _
        rw [nI_clamp (n := i) (by omega)]
        by_cases e : j = i
        · rw [if_pos e, e]
        · rw [if_neg e]; exact h2 j (by omega)
  unfold wpX_buildInverse
  exact ⟨202, l2 201 0 (by omega) 202 (by omega) _ _ (fun j hj => by omega)⟩
end
end
section
/-! The relation -/
def i_W (tc sc dc n st : Nat) (t : Nat → Nat) : Prop := 16 ≤ tc ∧ tc ≤ 200 ∧ 1 ≤ sc ∧ sc ≤ 16 ∧ 1 ≤ dc ∧ dc ≤ 8 ∧ n ≤ tc ∧ xp_tx t n ∧ st ≤ sc
def i_Q (t : Nat → Nat) (n sc dc : Nat) (T : Nat → Nat → Int32) (pf inv iF iB fr : Nat → Int32) (fc pt st : Nat) : Prop :=
  sp_R t n sc dc T pf ∧ sp_I t n sc dc fr fc pt st ∧ ∃ ct, iv_C t n ct ∧ xp_tx ct n ∧ (∀ i, n ≤ i → ct i = t i) ∧ xb_F t n ct inv iF iB
def i_R0 (u : SX) (v : SY) : Prop := match u, v with
  | (f_textCap, f_stackCap, f_depthCap, f_ready, f_size, f_stackTop, f_point, f_frameCount, f_symbolTop, f_pos, f_list, f_open, f_errorKind, f_errorPos, f_valueTop, f_operatorTop, a_text, a_cells, a_stack, a_frames, a_listOf, a_listEnd, a_owner, a_stmtEnd, a_stmtBegin, a_firstA, a_firstB, a_opAt, a_procFirst, a_inverse, a_invFirst, a_invBegin, a_symbols, a_values, a_operators), (g_textLimit, g_stackLimit, g_depthLimit, g_length, g_stackSize, g_depth, g_place, g_ready, g_top, g_errorPos, b_text, b_cells, b_stack, b_frames, b_wants, b_inverse, b_kinds, b_values) => ∃ (tc sc dc n st : Nat) (t : Nat → Nat), i_W tc sc dc n st t ∧ f_textCap = nI tc ∧ f_stackCap = nI sc ∧ f_depthCap = nI dc ∧ f_size = nI n ∧ f_stackTop = nI st ∧ a_text = (fun j => nI (t j)) ∧
      g_textLimit = nI tc ∧ g_stackLimit = nI sc ∧ g_depthLimit = nI dc ∧ g_length = nI n ∧ g_stackSize = nI st ∧ b_text = (fun j => nI (t j)) ∧ b_cells = a_cells ∧ b_stack = a_stack ∧ b_frames = a_frames ∧
      ((f_ready = 0 ∧ f_point = 0 ∧ f_frameCount = 0 ∧ g_ready = 0 ∧ g_place = 0 ∧ g_depth = 0) ∨
       ∃ (T : Nat → Nat → Int32) (pt fc : Nat), f_ready = 1 ∧ f_point = nI pt ∧ f_frameCount = nI fc ∧ g_ready = 1 ∧ g_place = nI pt ∧ g_depth = nI fc ∧ a_listOf = T 0 ∧ a_listEnd = T 1 ∧ a_owner = T 2 ∧ a_stmtEnd = T 3 ∧ a_stmtBegin = T 4 ∧ a_firstA = T 5 ∧ a_firstB = T 6 ∧ a_opAt = T 7 ∧
         i_Q t n sc dc T a_procFirst a_inverse a_invFirst a_invBegin a_frames fc pt st)
def i_Rel (k : Nat) (u : SX) (v : SY) : Prop := i_R0 u v ∧ k = k
theorem i_up {k : Nat} {u : SX} {v : SY} (h : i_Rel k u v) : i_Rel (k + 5) u v := ⟨h.1, rfl⟩
section
variable {f_textCap f_stackCap f_depthCap f_ready f_size f_stackTop f_point f_frameCount f_symbolTop f_pos f_list f_open f_errorKind f_errorPos f_valueTop f_operatorTop : Int32} {a_text a_cells a_stack a_frames a_listOf a_listEnd a_owner a_stmtEnd a_stmtBegin a_firstA a_firstB a_opAt a_procFirst a_inverse a_invFirst a_invBegin a_symbols a_values a_operators : Nat → Int32} {g_textLimit g_stackLimit g_depthLimit g_length g_stackSize g_depth g_place g_ready g_top g_errorPos : Int32} {b_text b_cells b_stack b_frames b_wants b_inverse b_kinds b_values : Nat → Int32}
variable {tc sc dc n st pt fc k : Nat} {t : Nat → Nat} {cl sk fr : Nat → Int32} {T : Nat → Nat → Int32}
theorem i_in0 (hW : i_W tc sc dc n st t) : i_Rel k (nI tc, nI sc, nI dc, 0, nI n, nI st, 0, 0, f_symbolTop, f_pos, f_list, f_open, f_errorKind, f_errorPos, f_valueTop, f_operatorTop, fun j => nI (t j), cl, sk, fr, a_listOf, a_listEnd, a_owner, a_stmtEnd, a_stmtBegin, a_firstA, a_firstB, a_opAt, a_procFirst, a_inverse, a_invFirst, a_invBegin, a_symbols, a_values, a_operators) (nI tc, nI sc, nI dc, nI n, nI st, 0, 0, 0, g_top, g_errorPos, fun j => nI (t j), cl, sk, fr, b_wants, b_inverse, b_kinds, b_values) := And.intro (show i_R0 (nI tc, nI sc, nI dc, 0, nI n, nI st, 0, 0, f_symbolTop, f_pos, f_list, f_open, f_errorKind, f_errorPos, f_valueTop, f_operatorTop, fun j => nI (t j), cl, sk, fr, a_listOf, a_listEnd, a_owner, a_stmtEnd, a_stmtBegin, a_firstA, a_firstB, a_opAt, a_procFirst, a_inverse, a_invFirst, a_invBegin, a_symbols, a_values, a_operators) (nI tc, nI sc, nI dc, nI n, nI st, 0, 0, 0, g_top, g_errorPos, fun j => nI (t j), cl, sk, fr, b_wants, b_inverse, b_kinds, b_values) from ⟨tc, sc, dc, n, st, t, hW, rfl, rfl, rfl, rfl, rfl, rfl, rfl, rfl, rfl, rfl, rfl, rfl, rfl, rfl, rfl, Or.inl ⟨rfl, rfl, rfl, rfl, rfl, rfl⟩⟩) rfl
theorem i_in1 (hW : i_W tc sc dc n st t) (hQ : i_Q t n sc dc T a_procFirst a_inverse a_invFirst a_invBegin fr fc pt st) : i_Rel k (nI tc, nI sc, nI dc, 1, nI n, nI (st), nI (pt), nI (fc), f_symbolTop, f_pos, f_list, f_open, f_errorKind, f_errorPos, f_valueTop, f_operatorTop, fun j => nI (t j), cl, sk, fr, T 0, T 1, T 2, T 3, T 4, T 5, T 6, T 7, a_procFirst, a_inverse, a_invFirst, a_invBegin, a_symbols, a_values, a_operators) (nI tc, nI sc, nI dc, nI n, nI (st), nI (fc), nI (pt), 1, g_top, g_errorPos, fun j => nI (t j), cl, sk, fr, b_wants, b_inverse, b_kinds, b_values) :=
  And.intro (show i_R0 (nI tc, nI sc, nI dc, 1, nI n, nI (st), nI (pt), nI (fc), f_symbolTop, f_pos, f_list, f_open, f_errorKind, f_errorPos, f_valueTop, f_operatorTop, fun j => nI (t j), cl, sk, fr, T 0, T 1, T 2, T 3, T 4, T 5, T 6, T 7, a_procFirst, a_inverse, a_invFirst, a_invBegin, a_symbols, a_values, a_operators) (nI tc, nI sc, nI dc, nI n, nI (st), nI (fc), nI (pt), 1, g_top, g_errorPos, fun j => nI (t j), cl, sk, fr, b_wants, b_inverse, b_kinds, b_values) from ⟨tc, sc, dc, n, st, t, hW, rfl, rfl, rfl, rfl, rfl, rfl, rfl, rfl, rfl, rfl, rfl, rfl, rfl, rfl, rfl, Or.inr ⟨T, pt, fc, rfl, rfl, rfl, rfl, rfl, rfl, rfl, rfl, rfl, rfl, rfl, rfl, rfl, rfl, hQ⟩⟩) rfl
end
theorem i_el {P : SX → SY → Prop} {k : Nat} {u : SX} {v : SY} (I : i_Rel k u v)
    (H0 : ∀ {f_symbolTop f_pos f_list f_open f_errorKind f_errorPos f_valueTop f_operatorTop : Int32} {a_listOf a_listEnd a_owner a_stmtEnd a_stmtBegin a_firstA a_firstB a_opAt a_procFirst a_inverse a_invFirst a_invBegin a_symbols a_values a_operators : Nat → Int32} {g_top g_errorPos : Int32} {b_wants b_inverse b_kinds b_values : Nat → Int32} {tc sc dc n st : Nat} {t : Nat → Nat} {cl sk fr : Nat → Int32}, i_W tc sc dc n st t → P (nI tc, nI sc, nI dc, 0, nI n, nI st, 0, 0, f_symbolTop, f_pos, f_list, f_open, f_errorKind, f_errorPos, f_valueTop, f_operatorTop, fun j => nI (t j), cl, sk, fr, a_listOf, a_listEnd, a_owner, a_stmtEnd, a_stmtBegin, a_firstA, a_firstB, a_opAt, a_procFirst, a_inverse, a_invFirst, a_invBegin, a_symbols, a_values, a_operators) (nI tc, nI sc, nI dc, nI n, nI st, 0, 0, 0, g_top, g_errorPos, fun j => nI (t j), cl, sk, fr, b_wants, b_inverse, b_kinds, b_values))
    (H1 : ∀ {f_symbolTop f_pos f_list f_open f_errorKind f_errorPos f_valueTop f_operatorTop : Int32} {a_procFirst a_inverse a_invFirst a_invBegin a_symbols a_values a_operators : Nat → Int32} {g_top g_errorPos : Int32} {b_wants b_inverse b_kinds b_values : Nat → Int32} {tc sc dc n st pt fc : Nat} {t : Nat → Nat} {cl sk fr : Nat → Int32} {T : Nat → Nat → Int32}, i_W tc sc dc n st t → i_Q t n sc dc T a_procFirst a_inverse a_invFirst a_invBegin fr fc pt st → P (nI tc, nI sc, nI dc, 1, nI n, nI (st), nI (pt), nI (fc), f_symbolTop, f_pos, f_list, f_open, f_errorKind, f_errorPos, f_valueTop, f_operatorTop, fun j => nI (t j), cl, sk, fr, T 0, T 1, T 2, T 3, T 4, T 5, T 6, T 7, a_procFirst, a_inverse, a_invFirst, a_invBegin, a_symbols, a_values, a_operators) (nI tc, nI sc, nI dc, nI n, nI (st), nI (fc), nI (pt), 1, g_top, g_errorPos, fun j => nI (t j), cl, sk, fr, b_wants, b_inverse, b_kinds, b_values)) : P u v := by
  obtain ⟨f_textCap, f_stackCap, f_depthCap, f_ready, f_size, f_stackTop, f_point, f_frameCount, f_symbolTop, f_pos, f_list, f_open, f_errorKind, f_errorPos, f_valueTop, f_operatorTop, a_text, a_cells, a_stack, a_frames, a_listOf, a_listEnd, a_owner, a_stmtEnd, a_stmtBegin, a_firstA, a_firstB, a_opAt, a_procFirst, a_inverse, a_invFirst, a_invBegin, a_symbols, a_values, a_operators⟩ := u
  obtain ⟨g_textLimit, g_stackLimit, g_depthLimit, g_length, g_stackSize, g_depth, g_place, g_ready, g_top, g_errorPos, b_text, b_cells, b_stack, b_frames, b_wants, b_inverse, b_kinds, b_values⟩ := v
  obtain ⟨tc, sc, dc, n, st, t, hW, e1, e2, e3, e4, e5, e6, e7, e8, e9, e10, e11, e12, e13, e14, e15, h⟩ := I.1
  subst e1; subst e2; subst e3; subst e4; subst e5; subst e6; subst e7; subst e8; subst e9; subst e10; subst e11; subst e12; subst e13; subst e14; subst e15
  rcases h with ⟨h1, h2, h3, h4, h5, h6⟩ | ⟨T, pt, fc, h1, h2, h3, h4, h5, h6, g1, g2, g3, g4, g5, g6, g7, g8, hQ⟩
  · subst h1; subst h2; subst h3; subst h4; subst h5; subst h6
    exact H0 hW
  · subst h1; subst h2; subst h3; subst h4; subst h5; subst h6; subst g1; subst g2; subst g3; subst g4; subst g5; subst g6; subst g7; subst g8
    exact H1 hW hQ
end
section
/-! The small methods -/
theorem pk_nn {x : Int32} (h0 : ¬ x < 0) {L : Nat} (hL : L < 2 ^ 31) (h : x < nI L) : ∃ j, j < L ∧ x = nI j := by
  obtain ⟨j, h1, h2, _⟩ := pk_mu h0 (fun h' => Int32.not_le.mpr h h') hL
  exact ⟨j, h1, h2⟩
section
variable {f_textCap f_stackCap f_depthCap f_ready f_size f_stackTop f_point f_frameCount f_symbolTop f_pos f_list f_open f_errorKind f_errorPos f_valueTop f_operatorTop : Int32} {a_text a_cells a_stack a_frames a_listOf a_listEnd a_owner a_stmtEnd a_stmtBegin a_firstA a_firstB a_opAt a_procFirst a_inverse a_invFirst a_invBegin a_symbols a_values a_operators : Nat → Int32} {g_textLimit g_stackLimit g_depthLimit g_length g_stackSize g_depth g_place g_ready g_top g_errorPos : Int32} {b_text b_cells b_stack b_frames b_wants b_inverse b_kinds b_values : Nat → Int32}
variable {tc sc dc n st pt fc k : Nat} {t : Nat → Nat} {cl sk fr : Nat → Int32} {T : Nat → Nat → Int32}
theorem v0_isReady (hW : i_W tc sc dc n st t) : wpX_isReady (fun r => wpY_isReady (fun r' => r' = r ∧ i_Rel k (nI tc, nI sc, nI dc, 0, nI n, nI st, 0, 0, f_symbolTop, f_pos, f_list, f_open, f_errorKind, f_errorPos, f_valueTop, f_operatorTop, fun j => nI (t j), cl, sk, fr, a_listOf, a_listEnd, a_owner, a_stmtEnd, a_stmtBegin, a_firstA, a_firstB, a_opAt, a_procFirst, a_inverse, a_invFirst, a_invBegin, a_symbols, a_values, a_operators) (nI tc, nI sc, nI dc, nI n, nI st, 0, 0, 0, g_top, g_errorPos, fun j => nI (t j), cl, sk, fr, b_wants, b_inverse, b_kinds, b_values)) (nI tc, nI sc, nI dc, nI n, nI st, 0, 0, 0, g_top, g_errorPos, fun j => nI (t j), cl, sk, fr, b_wants, b_inverse, b_kinds, b_values)) (nI tc, nI sc, nI dc, 0, nI n, nI st, 0, 0, f_symbolTop, f_pos, f_list, f_open, f_errorKind, f_errorPos, f_valueTop, f_operatorTop, fun j => nI (t j), cl, sk, fr, a_listOf, a_listEnd, a_owner, a_stmtEnd, a_stmtBegin, a_firstA, a_firstB, a_opAt, a_procFirst, a_inverse, a_invFirst, a_invBegin, a_symbols, a_values, a_operators) := ⟨narrow_b0, narrow_b0, rfl, i_in0 hW⟩
theorem v1_isReady (hW : i_W tc sc dc n st t) (hQ : i_Q t n sc dc T a_procFirst a_inverse a_invFirst a_invBegin fr fc pt st) : wpX_isReady (fun r => wpY_isReady (fun r' => r' = r ∧ i_Rel k (nI tc, nI sc, nI dc, 1, nI n, nI (st), nI (pt), nI (fc), f_symbolTop, f_pos, f_list, f_open, f_errorKind, f_errorPos, f_valueTop, f_operatorTop, fun j => nI (t j), cl, sk, fr, T 0, T 1, T 2, T 3, T 4, T 5, T 6, T 7, a_procFirst, a_inverse, a_invFirst, a_invBegin, a_symbols, a_values, a_operators) (nI tc, nI sc, nI dc, nI n, nI (st), nI (fc), nI (pt), 1, g_top, g_errorPos, fun j => nI (t j), cl, sk, fr, b_wants, b_inverse, b_kinds, b_values)) (nI tc, nI sc, nI dc, nI n, nI (st), nI (fc), nI (pt), 1, g_top, g_errorPos, fun j => nI (t j), cl, sk, fr, b_wants, b_inverse, b_kinds, b_values)) (nI tc, nI sc, nI dc, 1, nI n, nI (st), nI (pt), nI (fc), f_symbolTop, f_pos, f_list, f_open, f_errorKind, f_errorPos, f_valueTop, f_operatorTop, fun j => nI (t j), cl, sk, fr, T 0, T 1, T 2, T 3, T 4, T 5, T 6, T 7, a_procFirst, a_inverse, a_invFirst, a_invBegin, a_symbols, a_values, a_operators) := ⟨narrow_b1, narrow_b1, rfl, i_in1 hW hQ⟩
end
/-- the same cell read on both sides: one shape within the other -/
theorem v_rd2 {Z : Nat} {L x d : Int32} {a b : Nat → Int32} {R : Prop} (m : Nat) (hL : L = nI m) (hm : m ≤ Z) (hZ : Z < 2 ^ 31) (hR : R) (hab : ∀ i, i < m → b i = a i) :
    (x < 0 → (x < 0 → d = d ∧ R) ∧ (¬ x < 0 → (x < L → vp_in x Z ∧ (b x.toNatClampNeg = d ∧ R)) ∧ (¬ x < L → d = d ∧ R))) ∧
    (¬ x < 0 → (x < L → vp_in x Z ∧ ((x < 0 → d = a x.toNatClampNeg ∧ R) ∧ (¬ x < 0 → (x < L → vp_in x Z ∧ (b x.toNatClampNeg = a x.toNatClampNeg ∧ R)) ∧ (¬ x < L → d = a x.toNatClampNeg ∧ R)))) ∧
      (¬ x < L → (x < 0 → d = d ∧ R) ∧ (¬ x < 0 → (x < L → vp_in x Z ∧ (b x.toNatClampNeg = d ∧ R)) ∧ (¬ x < L → d = d ∧ R)))) := by
  subst hL
  by_cases h0 : x < 0
  · exact br_t h0 (br_t h0 ⟨rfl, hR⟩)
  · refine br_f h0 ?_
    by_cases h1 : x < nI m
    · obtain ⟨j, hj, rfl⟩ := pk_nn h0 (by omega) h1
      have hv : vp_in (nI j) Z := vp_in_nI (by omega) (by omega)
      rw [nI_clamp (by omega)]
      exact br_t h1 ⟨hv, br_f h0 (br_t h1 ⟨hv, hab j hj, hR⟩)⟩
    · exact br_f h1 (br_f h0 (br_f h1 ⟨rfl, hR⟩))
section
variable {f_textCap f_stackCap f_depthCap f_ready f_size f_stackTop f_point f_frameCount f_symbolTop f_pos f_list f_open f_errorKind f_errorPos f_valueTop f_operatorTop : Int32} {a_text a_cells a_stack a_frames a_listOf a_listEnd a_owner a_stmtEnd a_stmtBegin a_firstA a_firstB a_opAt a_procFirst a_inverse a_invFirst a_invBegin a_symbols a_values a_operators : Nat → Int32} {g_textLimit g_stackLimit g_depthLimit g_length g_stackSize g_depth g_place g_ready g_top g_errorPos : Int32} {b_text b_cells b_stack b_frames b_wants b_inverse b_kinds b_values : Nat → Int32}
variable {tc sc dc n st pt fc k : Nat} {t : Nat → Nat} {cl sk fr : Nat → Int32} {T : Nat → Nat → Int32}
theorem i_W_n (h : i_W tc sc dc n st t) : n ≤ 200 := h.2.2.2.2.2.2.2.1.1
theorem i_W_st (h : i_W tc sc dc n st t) : st ≤ 16 := by
  have h1 := h.2.2.2.1
  have h2 := h.2.2.2.2.2.2.2.2
  omega
theorem i_Q_fc (hW : i_W tc sc dc n st t) {pf inv iF iB : Nat → Int32} (h : i_Q t n sc dc T pf inv iF iB fr fc pt st) : fc ≤ 8 := by
  have h1 := hW.2.2.2.2.2.1
  have h2 := h.2.1.2.2.1
  omega
theorem v0_textAt (hW : i_W tc sc dc n st t) (v1 : Int32) : wpX_textAt (fun r => wpY_textAt (fun r' => r' = r ∧ i_Rel k (nI tc, nI sc, nI dc, 0, nI n, nI st, 0, 0, f_symbolTop, f_pos, f_list, f_open, f_errorKind, f_errorPos, f_valueTop, f_operatorTop, fun j => nI (t j), cl, sk, fr, a_listOf, a_listEnd, a_owner, a_stmtEnd, a_stmtBegin, a_firstA, a_firstB, a_opAt, a_procFirst, a_inverse, a_invFirst, a_invBegin, a_symbols, a_values, a_operators) (nI tc, nI sc, nI dc, nI n, nI st, 0, 0, 0, g_top, g_errorPos, fun j => nI (t j), cl, sk, fr, b_wants, b_inverse, b_kinds, b_values)) (nI tc, nI sc, nI dc, nI n, nI st, 0, 0, 0, g_top, g_errorPos, fun j => nI (t j), cl, sk, fr, b_wants, b_inverse, b_kinds, b_values) v1) (nI tc, nI sc, nI dc, 0, nI n, nI st, 0, 0, f_symbolTop, f_pos, f_list, f_open, f_errorKind, f_errorPos, f_valueTop, f_operatorTop, fun j => nI (t j), cl, sk, fr, a_listOf, a_listEnd, a_owner, a_stmtEnd, a_stmtBegin, a_firstA, a_firstB, a_opAt, a_procFirst, a_inverse, a_invFirst, a_invBegin, a_symbols, a_values, a_operators) v1 := v_rd2 (a := fun j => nI (t j)) (b := fun j => nI (t j)) n rfl (i_W_n hW) (by omega) (i_in0 hW) (fun _ _ => rfl)
theorem v1_textAt (hW : i_W tc sc dc n st t) (hQ : i_Q t n sc dc T a_procFirst a_inverse a_invFirst a_invBegin fr fc pt st) (v1 : Int32) : wpX_textAt (fun r => wpY_textAt (fun r' => r' = r ∧ i_Rel k (nI tc, nI sc, nI dc, 1, nI n, nI (st), nI (pt), nI (fc), f_symbolTop, f_pos, f_list, f_open, f_errorKind, f_errorPos, f_valueTop, f_operatorTop, fun j => nI (t j), cl, sk, fr, T 0, T 1, T 2, T 3, T 4, T 5, T 6, T 7, a_procFirst, a_inverse, a_invFirst, a_invBegin, a_symbols, a_values, a_operators) (nI tc, nI sc, nI dc, nI n, nI (st), nI (fc), nI (pt), 1, g_top, g_errorPos, fun j => nI (t j), cl, sk, fr, b_wants, b_inverse, b_kinds, b_values)) (nI tc, nI sc, nI dc, nI n, nI (st), nI (fc), nI (pt), 1, g_top, g_errorPos, fun j => nI (t j), cl, sk, fr, b_wants, b_inverse, b_kinds, b_values) v1) (nI tc, nI sc, nI dc, 1, nI n, nI (st), nI (pt), nI (fc), f_symbolTop, f_pos, f_list, f_open, f_errorKind, f_errorPos, f_valueTop, f_operatorTop, fun j => nI (t j), cl, sk, fr, T 0, T 1, T 2, T 3, T 4, T 5, T 6, T 7, a_procFirst, a_inverse, a_invFirst, a_invBegin, a_symbols, a_values, a_operators) v1 := v_rd2 (a := fun j => nI (t j)) (b := fun j => nI (t j)) n rfl (i_W_n hW) (by omega) (i_in1 hW hQ) (fun _ _ => rfl)
theorem v0_frame (hW : i_W tc sc dc n st t) (v1 : Int32) : wpX_frame (fun r => wpY_frame (fun r' => r' = r ∧ i_Rel k (nI tc, nI sc, nI dc, 0, nI n, nI st, 0, 0, f_symbolTop, f_pos, f_list, f_open, f_errorKind, f_errorPos, f_valueTop, f_operatorTop, fun j => nI (t j), cl, sk, fr, a_listOf, a_listEnd, a_owner, a_stmtEnd, a_stmtBegin, a_firstA, a_firstB, a_opAt, a_procFirst, a_inverse, a_invFirst, a_invBegin, a_symbols, a_values, a_operators) (nI tc, nI sc, nI dc, nI n, nI st, 0, 0, 0, g_top, g_errorPos, fun j => nI (t j), cl, sk, fr, b_wants, b_inverse, b_kinds, b_values)) (nI tc, nI sc, nI dc, nI n, nI st, 0, 0, 0, g_top, g_errorPos, fun j => nI (t j), cl, sk, fr, b_wants, b_inverse, b_kinds, b_values) v1) (nI tc, nI sc, nI dc, 0, nI n, nI st, 0, 0, f_symbolTop, f_pos, f_list, f_open, f_errorKind, f_errorPos, f_valueTop, f_operatorTop, fun j => nI (t j), cl, sk, fr, a_listOf, a_listEnd, a_owner, a_stmtEnd, a_stmtBegin, a_firstA, a_firstB, a_opAt, a_procFirst, a_inverse, a_invFirst, a_invBegin, a_symbols, a_values, a_operators) v1 := v_rd2 0 rfl (by omega) (by omega) (i_in0 hW) (fun _ _ => rfl)
theorem v1_frame (hW : i_W tc sc dc n st t) (hQ : i_Q t n sc dc T a_procFirst a_inverse a_invFirst a_invBegin fr fc pt st) (v1 : Int32) : wpX_frame (fun r => wpY_frame (fun r' => r' = r ∧ i_Rel k (nI tc, nI sc, nI dc, 1, nI n, nI (st), nI (pt), nI (fc), f_symbolTop, f_pos, f_list, f_open, f_errorKind, f_errorPos, f_valueTop, f_operatorTop, fun j => nI (t j), cl, sk, fr, T 0, T 1, T 2, T 3, T 4, T 5, T 6, T 7, a_procFirst, a_inverse, a_invFirst, a_invBegin, a_symbols, a_values, a_operators) (nI tc, nI sc, nI dc, nI n, nI (st), nI (fc), nI (pt), 1, g_top, g_errorPos, fun j => nI (t j), cl, sk, fr, b_wants, b_inverse, b_kinds, b_values)) (nI tc, nI sc, nI dc, nI n, nI (st), nI (fc), nI (pt), 1, g_top, g_errorPos, fun j => nI (t j), cl, sk, fr, b_wants, b_inverse, b_kinds, b_values) v1) (nI tc, nI sc, nI dc, 1, nI n, nI (st), nI (pt), nI (fc), f_symbolTop, f_pos, f_list, f_open, f_errorKind, f_errorPos, f_valueTop, f_operatorTop, fun j => nI (t j), cl, sk, fr, T 0, T 1, T 2, T 3, T 4, T 5, T 6, T 7, a_procFirst, a_inverse, a_invFirst, a_invBegin, a_symbols, a_values, a_operators) v1 := v_rd2 fc rfl (i_Q_fc hW hQ) (by omega) (i_in1 hW hQ) (fun _ _ => rfl)
theorem v0_cell (hW : i_W tc sc dc n st t) (v1 : Int32) : wpX_cell (fun r => wpY_cell (fun r' => r' = r ∧ i_Rel k (nI tc, nI sc, nI dc, 0, nI n, nI st, 0, 0, f_symbolTop, f_pos, f_list, f_open, f_errorKind, f_errorPos, f_valueTop, f_operatorTop, fun j => nI (t j), cl, sk, fr, a_listOf, a_listEnd, a_owner, a_stmtEnd, a_stmtBegin, a_firstA, a_firstB, a_opAt, a_procFirst, a_inverse, a_invFirst, a_invBegin, a_symbols, a_values, a_operators) (nI tc, nI sc, nI dc, nI n, nI st, 0, 0, 0, g_top, g_errorPos, fun j => nI (t j), cl, sk, fr, b_wants, b_inverse, b_kinds, b_values)) (nI tc, nI sc, nI dc, nI n, nI st, 0, 0, 0, g_top, g_errorPos, fun j => nI (t j), cl, sk, fr, b_wants, b_inverse, b_kinds, b_values) v1) (nI tc, nI sc, nI dc, 0, nI n, nI st, 0, 0, f_symbolTop, f_pos, f_list, f_open, f_errorKind, f_errorPos, f_valueTop, f_operatorTop, fun j => nI (t j), cl, sk, fr, a_listOf, a_listEnd, a_owner, a_stmtEnd, a_stmtBegin, a_firstA, a_firstB, a_opAt, a_procFirst, a_inverse, a_invFirst, a_invBegin, a_symbols, a_values, a_operators) v1 := v_rd2 16 rfl (by omega) (by omega) (i_in0 hW) (fun _ _ => rfl)
theorem v1_cell (hW : i_W tc sc dc n st t) (hQ : i_Q t n sc dc T a_procFirst a_inverse a_invFirst a_invBegin fr fc pt st) (v1 : Int32) : wpX_cell (fun r => wpY_cell (fun r' => r' = r ∧ i_Rel k (nI tc, nI sc, nI dc, 1, nI n, nI (st), nI (pt), nI (fc), f_symbolTop, f_pos, f_list, f_open, f_errorKind, f_errorPos, f_valueTop, f_operatorTop, fun j => nI (t j), cl, sk, fr, T 0, T 1, T 2, T 3, T 4, T 5, T 6, T 7, a_procFirst, a_inverse, a_invFirst, a_invBegin, a_symbols, a_values, a_operators) (nI tc, nI sc, nI dc, nI n, nI (st), nI (fc), nI (pt), 1, g_top, g_errorPos, fun j => nI (t j), cl, sk, fr, b_wants, b_inverse, b_kinds, b_values)) (nI tc, nI sc, nI dc, nI n, nI (st), nI (fc), nI (pt), 1, g_top, g_errorPos, fun j => nI (t j), cl, sk, fr, b_wants, b_inverse, b_kinds, b_values) v1) (nI tc, nI sc, nI dc, 1, nI n, nI (st), nI (pt), nI (fc), f_symbolTop, f_pos, f_list, f_open, f_errorKind, f_errorPos, f_valueTop, f_operatorTop, fun j => nI (t j), cl, sk, fr, T 0, T 1, T 2, T 3, T 4, T 5, T 6, T 7, a_procFirst, a_inverse, a_invFirst, a_invBegin, a_symbols, a_values, a_operators) v1 := v_rd2 16 rfl (by omega) (by omega) (i_in1 hW hQ) (fun _ _ => rfl)
theorem v0_stackAt (hW : i_W tc sc dc n st t) (v1 : Int32) : wpX_stackAt (fun r => wpY_stackAt (fun r' => r' = r ∧ i_Rel k (nI tc, nI sc, nI dc, 0, nI n, nI st, 0, 0, f_symbolTop, f_pos, f_list, f_open, f_errorKind, f_errorPos, f_valueTop, f_operatorTop, fun j => nI (t j), cl, sk, fr, a_listOf, a_listEnd, a_owner, a_stmtEnd, a_stmtBegin, a_firstA, a_firstB, a_opAt, a_procFirst, a_inverse, a_invFirst, a_invBegin, a_symbols, a_values, a_operators) (nI tc, nI sc, nI dc, nI n, nI st, 0, 0, 0, g_top, g_errorPos, fun j => nI (t j), cl, sk, fr, b_wants, b_inverse, b_kinds, b_values)) (nI tc, nI sc, nI dc, nI n, nI st, 0, 0, 0, g_top, g_errorPos, fun j => nI (t j), cl, sk, fr, b_wants, b_inverse, b_kinds, b_values) v1) (nI tc, nI sc, nI dc, 0, nI n, nI st, 0, 0, f_symbolTop, f_pos, f_list, f_open, f_errorKind, f_errorPos, f_valueTop, f_operatorTop, fun j => nI (t j), cl, sk, fr, a_listOf, a_listEnd, a_owner, a_stmtEnd, a_stmtBegin, a_firstA, a_firstB, a_opAt, a_procFirst, a_inverse, a_invFirst, a_invBegin, a_symbols, a_values, a_operators) v1 := v_rd2 st rfl (i_W_st hW) (by omega) (i_in0 hW) (fun _ _ => rfl)
theorem v1_stackAt (hW : i_W tc sc dc n st t) (hQ : i_Q t n sc dc T a_procFirst a_inverse a_invFirst a_invBegin fr fc pt st) (v1 : Int32) : wpX_stackAt (fun r => wpY_stackAt (fun r' => r' = r ∧ i_Rel k (nI tc, nI sc, nI dc, 1, nI n, nI (st), nI (pt), nI (fc), f_symbolTop, f_pos, f_list, f_open, f_errorKind, f_errorPos, f_valueTop, f_operatorTop, fun j => nI (t j), cl, sk, fr, T 0, T 1, T 2, T 3, T 4, T 5, T 6, T 7, a_procFirst, a_inverse, a_invFirst, a_invBegin, a_symbols, a_values, a_operators) (nI tc, nI sc, nI dc, nI n, nI (st), nI (fc), nI (pt), 1, g_top, g_errorPos, fun j => nI (t j), cl, sk, fr, b_wants, b_inverse, b_kinds, b_values)) (nI tc, nI sc, nI dc, nI n, nI (st), nI (fc), nI (pt), 1, g_top, g_errorPos, fun j => nI (t j), cl, sk, fr, b_wants, b_inverse, b_kinds, b_values) v1) (nI tc, nI sc, nI dc, 1, nI n, nI (st), nI (pt), nI (fc), f_symbolTop, f_pos, f_list, f_open, f_errorKind, f_errorPos, f_valueTop, f_operatorTop, fun j => nI (t j), cl, sk, fr, T 0, T 1, T 2, T 3, T 4, T 5, T 6, T 7, a_procFirst, a_inverse, a_invFirst, a_invBegin, a_symbols, a_values, a_operators) v1 := v_rd2 st rfl (i_W_st hW) (by omega) (i_in1 hW hQ) (fun _ _ => rfl)
/-- set -/
theorem v0_set (hW : i_W tc sc dc n st t) (v1 v2 : Int32) : wpX_set (fun r u' => wpY_set (fun r' v' => r' = r ∧ i_Rel k u' v') (nI tc, nI sc, nI dc, nI n, nI st, 0, 0, 0, g_top, g_errorPos, fun j => nI (t j), cl, sk, fr, b_wants, b_inverse, b_kinds, b_values) v1 v2) (nI tc, nI sc, nI dc, 0, nI n, nI st, 0, 0, f_symbolTop, f_pos, f_list, f_open, f_errorKind, f_errorPos, f_valueTop, f_operatorTop, fun j => nI (t j), cl, sk, fr, a_listOf, a_listEnd, a_owner, a_stmtEnd, a_stmtBegin, a_firstA, a_firstB, a_opAt, a_procFirst, a_inverse, a_invFirst, a_invBegin, a_symbols, a_values, a_operators) v1 v2 := by
  by_cases h0 : v1 < 0
  · exact br_t h0 (br_t h0 (br_t rfl ⟨narrow_b0, rfl, i_in0 hW⟩))
  · refine br_f h0 ?_
    by_cases h1 : v1 < 16
    · obtain ⟨j, hj, rfl⟩ := pk_nn (L := 16) h0 (by omega) h1
      have hv : vp_in (nI j) 16 := vp_in_nI (by omega) (by omega)
      exact br_t h1 ⟨hv, nm_e (br_f h0 (br_f (Int32.not_le.mpr h1) (br_f (by decide) ⟨hv, nm_e ⟨narrow_b1, rfl, i_in0 hW⟩⟩)))⟩
    · exact br_f h1 (br_f h0 (br_t (Int32.not_lt.mp h1) (br_t rfl ⟨narrow_b0, rfl, i_in0 hW⟩)))
theorem v1_set (hW : i_W tc sc dc n st t) (hQ : i_Q t n sc dc T a_procFirst a_inverse a_invFirst a_invBegin fr fc pt st) (v1 v2 : Int32) : wpX_set (fun r u' => wpY_set (fun r' v' => r' = r ∧ i_Rel k u' v') (nI tc, nI sc, nI dc, nI n, nI (st), nI (fc), nI (pt), 1, g_top, g_errorPos, fun j => nI (t j), cl, sk, fr, b_wants, b_inverse, b_kinds, b_values) v1 v2) (nI tc, nI sc, nI dc, 1, nI n, nI (st), nI (pt), nI (fc), f_symbolTop, f_pos, f_list, f_open, f_errorKind, f_errorPos, f_valueTop, f_operatorTop, fun j => nI (t j), cl, sk, fr, T 0, T 1, T 2, T 3, T 4, T 5, T 6, T 7, a_procFirst, a_inverse, a_invFirst, a_invBegin, a_symbols, a_values, a_operators) v1 v2 := by
  by_cases h0 : v1 < 0
  · exact br_t h0 (br_t h0 (br_t rfl ⟨narrow_b0, rfl, i_in1 hW hQ⟩))
  · refine br_f h0 ?_
    by_cases h1 : v1 < 16
    · obtain ⟨j, hj, rfl⟩ := pk_nn (L := 16) h0 (by omega) h1
      have hv : vp_in (nI j) 16 := vp_in_nI (by omega) (by omega)
      exact br_t h1 ⟨hv, nm_e (br_f h0 (br_f (Int32.not_le.mpr h1) (br_f (by decide) ⟨hv, nm_e ⟨narrow_b1, rfl, i_in1 hW hQ⟩⟩)))⟩
    · exact br_f h1 (br_f h0 (br_t (Int32.not_lt.mp h1) (br_t rfl ⟨narrow_b0, rfl, i_in1 hW hQ⟩)))
/-- give -/
theorem i_W_give (h : i_W tc sc dc n st t) (h1 : st < sc) : i_W tc sc dc n (st + 1) t := ⟨h.1, h.2.1, h.2.2.1, h.2.2.2.1, h.2.2.2.2.1, h.2.2.2.2.2.1, h.2.2.2.2.2.2.1, h.2.2.2.2.2.2.2.1, h1⟩
theorem i_W_0 (h : i_W tc sc dc n st t) : i_W tc sc dc n 0 t := ⟨h.1, h.2.1, h.2.2.1, h.2.2.2.1, h.2.2.2.2.1, h.2.2.2.2.2.1, h.2.2.2.2.2.2.1, h.2.2.2.2.2.2.2.1, Nat.zero_le _⟩
theorem i_Q_st {pf inv iF iB : Nat → Int32} (h : i_Q t n sc dc T pf inv iF iB fr fc pt st) {st' : Nat} (h1 : st' ≤ sc) : i_Q t n sc dc T pf inv iF iB fr fc pt st' := ⟨h.1, ⟨h.2.1.1, h.2.1.2.1, h.2.1.2.2.1, h.2.1.2.2.2.1, h.2.1.2.2.2.2.1, h.2.1.2.2.2.2.2.1, h1⟩, h.2.2⟩
theorem v0_give (hW : i_W tc sc dc n st t) (v1 : Int32) : wpX_give (fun r u' => wpY_give (fun r' v' => r' = r ∧ i_Rel k u' v') (nI tc, nI sc, nI dc, nI n, nI st, 0, 0, 0, g_top, g_errorPos, fun j => nI (t j), cl, sk, fr, b_wants, b_inverse, b_kinds, b_values) v1) (nI tc, nI sc, nI dc, 0, nI n, nI st, 0, 0, f_symbolTop, f_pos, f_list, f_open, f_errorKind, f_errorPos, f_valueTop, f_operatorTop, fun j => nI (t j), cl, sk, fr, a_listOf, a_listEnd, a_owner, a_stmtEnd, a_stmtBegin, a_firstA, a_firstB, a_opAt, a_procFirst, a_inverse, a_invFirst, a_invBegin, a_symbols, a_values, a_operators) v1 := by
  have h16 := i_W_st hW
  have hsc := hW.2.2.2.1
  by_cases h : st < sc
  · have hv : vp_in (nI st) 16 := vp_in_nI (by omega) (by omega)
    have hl : nI st < nI sc := nI_lt h (by omega)
    exact br_t hl ⟨hv, nm_e (nm_r (nI_1 st) (br_t hl ⟨hv, nm_e (nm_r (nI_1 st) ⟨rfl, i_in0 (i_W_give hW h)⟩)⟩))⟩
  · have hl : ¬ nI st < nI sc := nI_nlt (by omega) (by omega)
    exact br_f hl (br_f hl ⟨rfl, i_in0 hW⟩)
theorem v1_give (hW : i_W tc sc dc n st t) (hQ : i_Q t n sc dc T a_procFirst a_inverse a_invFirst a_invBegin fr fc pt st) (v1 : Int32) : wpX_give (fun r u' => wpY_give (fun r' v' => r' = r ∧ i_Rel k u' v') (nI tc, nI sc, nI dc, nI n, nI (st), nI (fc), nI (pt), 1, g_top, g_errorPos, fun j => nI (t j), cl, sk, fr, b_wants, b_inverse, b_kinds, b_values) v1) (nI tc, nI sc, nI dc, 1, nI n, nI (st), nI (pt), nI (fc), f_symbolTop, f_pos, f_list, f_open, f_errorKind, f_errorPos, f_valueTop, f_operatorTop, fun j => nI (t j), cl, sk, fr, T 0, T 1, T 2, T 3, T 4, T 5, T 6, T 7, a_procFirst, a_inverse, a_invFirst, a_invBegin, a_symbols, a_values, a_operators) v1 := by
  have h16 := i_W_st hW
  have hsc := hW.2.2.2.1
  by_cases h : st < sc
  · have hv : vp_in (nI st) 16 := vp_in_nI (by omega) (by omega)
    have hl : nI st < nI sc := nI_lt h (by omega)
    exact br_t hl ⟨hv, nm_e (nm_r (nI_1 st) (br_t hl ⟨hv, nm_e (nm_r (nI_1 st) ⟨rfl, i_in1 (i_W_give hW h) (i_Q_st hQ h)⟩)⟩))⟩
  · have hl : ¬ nI st < nI sc := nI_nlt (by omega) (by omega)
    exact br_f hl (br_f hl ⟨rfl, i_in1 hW hQ⟩)
/-- wipe -/
def i_wp (cl : Nat → Int32) : Nat → Nat → Int32
  | 0 => cl
  | i + 1 => upd (i_wp cl i) i 0
theorem xk_wipe {post : SX → Prop} (H : post (f_textCap, f_stackCap, f_depthCap, f_ready, f_size, 0, f_point, f_frameCount, f_symbolTop, f_pos, f_list, f_open, f_errorKind, f_errorPos, f_valueTop, f_operatorTop, a_text, i_wp a_cells 16, a_stack, a_frames, a_listOf, a_listEnd, a_owner, a_stmtEnd, a_stmtBegin, a_firstA, a_firstB, a_opAt, a_procFirst, a_inverse, a_invFirst, a_invBegin, a_symbols, a_values, a_operators)) : wpX_wipe post (f_textCap, f_stackCap, f_depthCap, f_ready, f_size, f_stackTop, f_point, f_frameCount, f_symbolTop, f_pos, f_list, f_open, f_errorKind, f_errorPos, f_valueTop, f_operatorTop, a_text, a_cells, a_stack, a_frames, a_listOf, a_listEnd, a_owner, a_stmtEnd, a_stmtBegin, a_firstA, a_firstB, a_opAt, a_procFirst, a_inverse, a_invFirst, a_invBegin, a_symbols, a_values, a_operators) := by
  have loop : ∀ d i, i + d = 16 → ∀ k, d < k → wX_wipe_2 post f_textCap f_stackCap f_depthCap f_ready f_size f_stackTop f_point f_frameCount f_symbolTop f_pos f_list f_open f_errorKind f_errorPos f_valueTop f_operatorTop k (nI i) a_text (i_wp a_cells i) a_stack a_frames a_listOf a_listEnd a_owner a_stmtEnd a_stmtBegin a_firstA a_firstB a_opAt a_procFirst a_inverse a_invFirst a_invBegin a_symbols a_values a_operators := by
    intro d
    induction d with
    | zero =>
      intro i hi k hk
      have : i = 16 := by omega
      subst this
      cases k with
      | zero => omega
      | succ k => exact br_t (by decide) H
    | succ d ih =>
      intro i hi k hk
      cases k with
      | zero => omega
      | succ k =>
        refine br_f (nI_ge (b := 16) (by omega) (by omega)) (And.intro (vp_in_nI (by omega) (by omega)) (nm_e (nm_r (nI_1 i) ?_)))
        rw [nI_clamp (n := i) (by omega)]
        exact ih (i + 1) (by omega) k (by omega)
  exact ⟨17, loop 16 0 (by omega) 17 (by omega)⟩
theorem yk_wipe {post : SY → Prop} (H : post (g_textLimit, g_stackLimit, g_depthLimit, g_length, 0, g_depth, g_place, g_ready, g_top, g_errorPos, b_text, i_wp b_cells 16, b_stack, b_frames, b_wants, b_inverse, b_kinds, b_values)) : wpY_wipe post (g_textLimit, g_stackLimit, g_depthLimit, g_length, g_stackSize, g_depth, g_place, g_ready, g_top, g_errorPos, b_text, b_cells, b_stack, b_frames, b_wants, b_inverse, b_kinds, b_values) := by
  have loop : ∀ d i, i + d = 16 → ∀ k, d < k → wY_wipe_7 post g_textLimit g_stackLimit g_depthLimit g_length 0 g_depth g_place g_ready g_top g_errorPos k (nI i) b_text (i_wp b_cells i) b_stack b_frames b_wants b_inverse b_kinds b_values := by
    intro d
    induction d with
    | zero =>
      intro i hi k hk
      have : i = 16 := by omega
      subst this
      cases k with
      | zero => omega
      | succ k => exact br_t (by decide) H
    | succ d ih =>
      intro i hi k hk
      cases k with
      | zero => omega
      | succ k =>
        refine br_f (nI_ge (b := 16) (by omega) (by omega)) (And.intro (vp_in_nI (by omega) (by omega)) (nm_e (nm_r (nI_1 i) ?_)))
        rw [nI_clamp (n := i) (by omega)]
        exact ih (i + 1) (by omega) k (by omega)
  exact ⟨17, loop 16 0 (by omega) 17 (by omega)⟩
theorem v0_wipe (hW : i_W tc sc dc n st t) : wpX_wipe (fun u' => wpY_wipe (fun v' => i_Rel k u' v') (nI tc, nI sc, nI dc, nI n, nI st, 0, 0, 0, g_top, g_errorPos, fun j => nI (t j), cl, sk, fr, b_wants, b_inverse, b_kinds, b_values)) (nI tc, nI sc, nI dc, 0, nI n, nI st, 0, 0, f_symbolTop, f_pos, f_list, f_open, f_errorKind, f_errorPos, f_valueTop, f_operatorTop, fun j => nI (t j), cl, sk, fr, a_listOf, a_listEnd, a_owner, a_stmtEnd, a_stmtBegin, a_firstA, a_firstB, a_opAt, a_procFirst, a_inverse, a_invFirst, a_invBegin, a_symbols, a_values, a_operators) := xk_wipe (yk_wipe (i_in0 (i_W_0 hW)))
theorem v1_wipe (hW : i_W tc sc dc n st t) (hQ : i_Q t n sc dc T a_procFirst a_inverse a_invFirst a_invBegin fr fc pt st) : wpX_wipe (fun u' => wpY_wipe (fun v' => i_Rel k u' v') (nI tc, nI sc, nI dc, nI n, nI (st), nI (fc), nI (pt), 1, g_top, g_errorPos, fun j => nI (t j), cl, sk, fr, b_wants, b_inverse, b_kinds, b_values)) (nI tc, nI sc, nI dc, 1, nI n, nI (st), nI (pt), nI (fc), f_symbolTop, f_pos, f_list, f_open, f_errorKind, f_errorPos, f_valueTop, f_operatorTop, fun j => nI (t j), cl, sk, fr, T 0, T 1, T 2, T 3, T 4, T 5, T 6, T 7, a_procFirst, a_inverse, a_invFirst, a_invBegin, a_symbols, a_values, a_operators) := xk_wipe (yk_wipe (i_in1 (i_W_0 hW) (i_Q_st hQ (Nat.zero_le _))))
/-- clear -/
theorem i_W_cl (h : i_W tc sc dc n st t) : i_W tc sc dc 0 st t := ⟨h.1, h.2.1, h.2.2.1, h.2.2.2.1, h.2.2.2.2.1, h.2.2.2.2.2.1, Nat.zero_le _, ⟨Nat.zero_le _, fun i hi => by omega, h.2.2.2.2.2.2.2.1.2.2⟩, h.2.2.2.2.2.2.2.2⟩
theorem v0_clear (hW : i_W tc sc dc n st t) : wpX_clear (fun u' => wpY_clear (fun v' => i_Rel k u' v') (nI tc, nI sc, nI dc, nI n, nI st, 0, 0, 0, g_top, g_errorPos, fun j => nI (t j), cl, sk, fr, b_wants, b_inverse, b_kinds, b_values)) (nI tc, nI sc, nI dc, 0, nI n, nI st, 0, 0, f_symbolTop, f_pos, f_list, f_open, f_errorKind, f_errorPos, f_valueTop, f_operatorTop, fun j => nI (t j), cl, sk, fr, a_listOf, a_listEnd, a_owner, a_stmtEnd, a_stmtBegin, a_firstA, a_firstB, a_opAt, a_procFirst, a_inverse, a_invFirst, a_invBegin, a_symbols, a_values, a_operators) := i_in0 (i_W_cl hW)
theorem v1_clear (hW : i_W tc sc dc n st t) : wpX_clear (fun u' => wpY_clear (fun v' => i_Rel k u' v') (nI tc, nI sc, nI dc, nI n, nI (st), nI (fc), nI (pt), 1, g_top, g_errorPos, fun j => nI (t j), cl, sk, fr, b_wants, b_inverse, b_kinds, b_values)) (nI tc, nI sc, nI dc, 1, nI n, nI (st), nI (pt), nI (fc), f_symbolTop, f_pos, f_list, f_open, f_errorKind, f_errorPos, f_valueTop, f_operatorTop, fun j => nI (t j), cl, sk, fr, T 0, T 1, T 2, T 3, T 4, T 5, T 6, T 7, a_procFirst, a_inverse, a_invFirst, a_invBegin, a_symbols, a_values, a_operators) := i_in0 (i_W_cl hW)
end
theorem i_vc_isReady {k : Nat} {u : SX} {v : SY} (I : i_Rel k u v) (_hk : k + 5 ≤ 2563) : wpX_isReady (fun r => wpY_isReady (fun r' => r' = r ∧ i_Rel (k + 5) u v) v) u :=
  i_el (P := fun u v => wpX_isReady (fun r => wpY_isReady (fun r' => r' = r ∧ i_Rel (k + 5) u v) v) u) I (fun h => v0_isReady h) (fun h q => v1_isReady h q)
theorem i_vc_length {k : Nat} {u : SX} {v : SY} (I : i_Rel k u v) (_hk : k + 5 ≤ 2563) : wpX_length (fun r => wpY_length (fun r' => r' = r ∧ i_Rel (k + 5) u v) v) u :=
  i_el (P := fun u v => wpX_length (fun r => wpY_length (fun r' => r' = r ∧ i_Rel (k + 5) u v) v) u) I (fun h => ⟨rfl, i_in0 h⟩) (fun h q => ⟨rfl, i_in1 h q⟩)
theorem i_vc_place {k : Nat} {u : SX} {v : SY} (I : i_Rel k u v) (_hk : k + 5 ≤ 2563) : wpX_place (fun r => wpY_place (fun r' => r' = r ∧ i_Rel (k + 5) u v) v) u :=
  i_el (P := fun u v => wpX_place (fun r => wpY_place (fun r' => r' = r ∧ i_Rel (k + 5) u v) v) u) I (fun h => ⟨rfl, i_in0 h⟩) (fun h q => ⟨rfl, i_in1 h q⟩)
theorem i_vc_depth {k : Nat} {u : SX} {v : SY} (I : i_Rel k u v) (_hk : k + 5 ≤ 2563) : wpX_depth (fun r => wpY_depth (fun r' => r' = r ∧ i_Rel (k + 5) u v) v) u :=
  i_el (P := fun u v => wpX_depth (fun r => wpY_depth (fun r' => r' = r ∧ i_Rel (k + 5) u v) v) u) I (fun h => ⟨rfl, i_in0 h⟩) (fun h q => ⟨rfl, i_in1 h q⟩)
theorem i_vc_stackSize {k : Nat} {u : SX} {v : SY} (I : i_Rel k u v) (_hk : k + 5 ≤ 2563) : wpX_stackSize (fun r => wpY_stackSize (fun r' => r' = r ∧ i_Rel (k + 5) u v) v) u :=
  i_el (P := fun u v => wpX_stackSize (fun r => wpY_stackSize (fun r' => r' = r ∧ i_Rel (k + 5) u v) v) u) I (fun h => ⟨rfl, i_in0 h⟩) (fun h q => ⟨rfl, i_in1 h q⟩)
theorem i_vc_textAt {k : Nat} {u : SX} {v : SY} (I : i_Rel k u v) (_hk : k + 5 ≤ 2563) (v1 : Int32) : wpX_textAt (fun r => wpY_textAt (fun r' => r' = r ∧ i_Rel (k + 5) u v) v v1) u v1 :=
  i_el (P := fun u v => wpX_textAt (fun r => wpY_textAt (fun r' => r' = r ∧ i_Rel (k + 5) u v) v v1) u v1) I (fun h => v0_textAt h v1) (fun h q => v1_textAt h q v1)
theorem i_vc_frame {k : Nat} {u : SX} {v : SY} (I : i_Rel k u v) (_hk : k + 5 ≤ 2563) (v1 : Int32) : wpX_frame (fun r => wpY_frame (fun r' => r' = r ∧ i_Rel (k + 5) u v) v v1) u v1 :=
  i_el (P := fun u v => wpX_frame (fun r => wpY_frame (fun r' => r' = r ∧ i_Rel (k + 5) u v) v v1) u v1) I (fun h => v0_frame h v1) (fun h q => v1_frame h q v1)
theorem i_vc_cell {k : Nat} {u : SX} {v : SY} (I : i_Rel k u v) (_hk : k + 5 ≤ 2563) (v1 : Int32) : wpX_cell (fun r => wpY_cell (fun r' => r' = r ∧ i_Rel (k + 5) u v) v v1) u v1 :=
  i_el (P := fun u v => wpX_cell (fun r => wpY_cell (fun r' => r' = r ∧ i_Rel (k + 5) u v) v v1) u v1) I (fun h => v0_cell h v1) (fun h q => v1_cell h q v1)
theorem i_vc_stackAt {k : Nat} {u : SX} {v : SY} (I : i_Rel k u v) (_hk : k + 5 ≤ 2563) (v1 : Int32) : wpX_stackAt (fun r => wpY_stackAt (fun r' => r' = r ∧ i_Rel (k + 5) u v) v v1) u v1 :=
  i_el (P := fun u v => wpX_stackAt (fun r => wpY_stackAt (fun r' => r' = r ∧ i_Rel (k + 5) u v) v v1) u v1) I (fun h => v0_stackAt h v1) (fun h q => v1_stackAt h q v1)
theorem i_vc_set {k : Nat} {u : SX} {v : SY} (I : i_Rel k u v) (_hk : k + 5 ≤ 2563) (v1 : Int32) (v2 : Int32) : wpX_set (fun r u' => wpY_set (fun r' v' => r' = r ∧ i_Rel (k + 5) u' v') v v1 v2) u v1 v2 :=
  i_el (P := fun u v => wpX_set (fun r u' => wpY_set (fun r' v' => r' = r ∧ i_Rel (k + 5) u' v') v v1 v2) u v1 v2) I (fun h => v0_set h v1 v2) (fun h q => v1_set h q v1 v2)
theorem i_vc_give {k : Nat} {u : SX} {v : SY} (I : i_Rel k u v) (_hk : k + 5 ≤ 2563) (v1 : Int32) : wpX_give (fun r u' => wpY_give (fun r' v' => r' = r ∧ i_Rel (k + 5) u' v') v v1) u v1 :=
  i_el (P := fun u v => wpX_give (fun r u' => wpY_give (fun r' v' => r' = r ∧ i_Rel (k + 5) u' v') v v1) u v1) I (fun h => v0_give h v1) (fun h q => v1_give h q v1)
theorem i_vc_wipe {k : Nat} {u : SX} {v : SY} (I : i_Rel k u v) (_hk : k + 5 ≤ 2563) : wpX_wipe (fun u' => wpY_wipe (fun v' => i_Rel (k + 5) u' v') v) u :=
  i_el (P := fun u v => wpX_wipe (fun u' => wpY_wipe (fun v' => i_Rel (k + 5) u' v') v) u) I (fun h => v0_wipe h) (fun h q => v1_wipe h q)
theorem i_vc_clear {k : Nat} {u : SX} {v : SY} (I : i_Rel k u v) (_hk : k + 5 ≤ 2563) : wpX_clear (fun u' => wpY_clear (fun v' => i_Rel (k + 5) u' v') v) u :=
  i_el (P := fun u v => wpX_clear (fun u' => wpY_clear (fun v' => i_Rel (k + 5) u' v') v) u) I (fun h => v0_clear h) (fun h _ => v1_clear h)
end
section
/-! The constructor, put -/
theorem v_cl (p : Int32) {lo hi : Nat} (h : lo ≤ hi) (hh : hi < 2 ^ 30) : ∃ c, lo ≤ c ∧ c ≤ hi ∧ (∀ (u : SX) (post : Int32 → Prop), post (nI c) → wpX_clamp post u p (nI lo) (nI hi)) ∧ (∀ (v : SY) (post : Int32 → Prop), post (nI c) → wpY_clamp post v p (nI lo) (nI hi)) := by
  by_cases h1 : nI lo ≤ p
  · by_cases h2 : p ≤ nI hi
    · have h0 : ¬ p < 0 := fun h => Int32.not_le.mpr h (Int32.le_trans (nI_le (a := 0) (b := lo) (by omega) (by omega)) h1)
      have h3 : p < nI (hi + 1) := Int32.lt_of_le_of_lt h2 (nI_lt (by omega) (by omega))
      obtain ⟨j, hj, rfl⟩ := pk_nn h0 (by omega) h3
      refine ⟨j, (nI_leI (by omega) (by omega)).mp h1, by omega, fun u post hp => ?_, fun v post hp => ?_⟩
      · obtain ⟨f_textCap, f_stackCap, f_depthCap, f_ready, f_size, f_stackTop, f_point, f_frameCount, f_symbolTop, f_pos, f_list, f_open, f_errorKind, f_errorPos, f_valueTop, f_operatorTop, a_text, a_cells, a_stack, a_frames, a_listOf, a_listEnd, a_owner, a_stmtEnd, a_stmtBegin, a_firstA, a_firstB, a_opAt, a_procFirst, a_inverse, a_invFirst, a_invBegin, a_symbols, a_values, a_operators⟩ := u
        exact br_t h1 (br_t h2 hp)
      · obtain ⟨g_textLimit, g_stackLimit, g_depthLimit, g_length, g_stackSize, g_depth, g_place, g_ready, g_top, g_errorPos, b_text, b_cells, b_stack, b_frames, b_wants, b_inverse, b_kinds, b_values⟩ := v
        exact br_t h1 (br_t h2 hp)
    · refine ⟨hi, h, Nat.le_refl _, fun u post hp => ?_, fun v post hp => ?_⟩
      · obtain ⟨f_textCap, f_stackCap, f_depthCap, f_ready, f_size, f_stackTop, f_point, f_frameCount, f_symbolTop, f_pos, f_list, f_open, f_errorKind, f_errorPos, f_valueTop, f_operatorTop, a_text, a_cells, a_stack, a_frames, a_listOf, a_listEnd, a_owner, a_stmtEnd, a_stmtBegin, a_firstA, a_firstB, a_opAt, a_procFirst, a_inverse, a_invFirst, a_invBegin, a_symbols, a_values, a_operators⟩ := u
        exact br_t h1 (br_f h2 hp)
      · obtain ⟨g_textLimit, g_stackLimit, g_depthLimit, g_length, g_stackSize, g_depth, g_place, g_ready, g_top, g_errorPos, b_text, b_cells, b_stack, b_frames, b_wants, b_inverse, b_kinds, b_values⟩ := v
        exact br_t h1 (br_f h2 hp)
  · refine ⟨lo, Nat.le_refl _, h, fun u post hp => ?_, fun v post hp => ?_⟩
    · obtain ⟨f_textCap, f_stackCap, f_depthCap, f_ready, f_size, f_stackTop, f_point, f_frameCount, f_symbolTop, f_pos, f_list, f_open, f_errorKind, f_errorPos, f_valueTop, f_operatorTop, a_text, a_cells, a_stack, a_frames, a_listOf, a_listEnd, a_owner, a_stmtEnd, a_stmtBegin, a_firstA, a_firstB, a_opAt, a_procFirst, a_inverse, a_invFirst, a_invBegin, a_symbols, a_values, a_operators⟩ := u
      exact br_f h1 hp
    · obtain ⟨g_textLimit, g_stackLimit, g_depthLimit, g_length, g_stackSize, g_depth, g_place, g_ready, g_top, g_errorPos, b_text, b_cells, b_stack, b_frames, b_wants, b_inverse, b_kinds, b_values⟩ := v
      exact br_f h1 hp
theorem i_vc0 (k0 : Int32) (k1 : Int32) (k2 : Int32) : wpX_init (fun u => wpY_init (fun v => i_Rel 3 u v) k0 k1 k2) k0 k1 k2 := by
  obtain ⟨tc, a1, a2, ha, ha'⟩ := v_cl k0 (lo := 16) (hi := 200) (by omega) (by omega)
  obtain ⟨sc, b1, b2, hb, hb'⟩ := v_cl k1 (lo := 1) (hi := 16) (by omega) (by omega)
  obtain ⟨dc, c1, c2, hc, hc'⟩ := v_cl k2 (lo := 1) (hi := 8) (by omega) (by omega)
  unfold wpX_init
  refine ha _ _ (hb _ _ (hc _ _ ?_))
  unfold wpY_init
  refine ha' _ _ (hb' _ _ (hc' _ _ ?_))
  exact i_in0 (n := 0) (st := 0) (t := fun _ => 0) (cl := fun _ => 0) (sk := fun _ => 0) (fr := fun _ => 0) ⟨a1, a2, b1, b2, c1, c2, Nat.zero_le _, ⟨Nat.zero_le _, fun i hi => by omega, fun i => (by omega : 0 < 127)⟩, Nat.zero_le _⟩
/-- one character more, or none -/
def i_ap (t : Nat → Nat) (n c : Nat) : Nat → Nat := if c = 0 then t else fun j => if j = n then c else t j
def i_nx (n c : Nat) : Nat := if c = 0 then n else n + 1
def i_in (v : Int32) : Nat := if v = 0 then 0 else 1
def i_gd (v : Int32) : Prop := ∃ c, v = nI c ∧ (c = 0 ∨ (33 ≤ c ∧ c ≤ 126))
theorem i_gd_p {v : Int32} (h0 : v ≠ 0) (h1 : ¬ v < 33) (h2 : ¬ 126 < v) : i_gd v := by
  have hn : ¬ v < 0 := fun h => h1 (Int32.lt_trans h (by decide))
  have h3 : v < nI 127 := Int32.lt_of_le_of_lt (Int32.not_lt.mp h2) (by decide)
  obtain ⟨j, hj, rfl⟩ := pk_nn hn (by omega) h3
  refine ⟨j, rfl, Or.inr ⟨?_, by omega⟩⟩
  rcases Nat.lt_or_ge j 33 with h | h
  · exact (h1 (nI_lt (b := 33) h (by omega))).elim
  · exact h
theorem i_gd_n {v : Int32} (h0 : v ≠ 0) (h : v < 33 ∨ 126 < v) : ¬ i_gd v := by
  rintro ⟨c, rfl, h'⟩
  rcases h' with rfl | ⟨h1, h2⟩
  · exact h0 rfl
  · rcases h with h | h
    · exact nI_nlt (a := c) (b := 33) (by omega) (by omega) h
    · exact nI_nlt (a := 126) (b := c) (by omega) (by omega) h
theorem i_nx_in {n c : Nat} (hc : c < 127) : i_nx n c = n + i_in (nI c) := by
  unfold i_nx i_in
  by_cases h : c = 0
  · subst h; rfl
  · have hne : ¬ nI c = 0 := fun e => h ((nI_eq (a := c) (b := 0) (by omega) (by omega)).mp e)
    rw [if_neg h, if_neg hne]
theorem i_ap_tx {t : Nat → Nat} {n c : Nat} (hc : c = 0 ∨ (33 ≤ c ∧ c ≤ 126)) (hn : i_nx n c ≤ 200) (h : xp_tx t n) : xp_tx (i_ap t n c) (i_nx n c) := by
  unfold i_ap i_nx at *
  by_cases e : c = 0
  · rw [if_pos e, if_pos e]; exact h
  · rw [if_neg e] at hn
    rw [if_neg e, if_neg e]
    refine ⟨hn, fun i hi => ?_, fun i => ?_⟩
    · by_cases ei : i = n
      · show 33 ≤ if i = n then c else t i
        rw [if_pos ei]; omega
      · show 33 ≤ if i = n then c else t i
        rw [if_neg ei]; exact h.2.1 i (by omega)
    · show (if i = n then c else t i) < 127
      by_cases ei : i = n
      · rw [if_pos ei]; omega
      · rw [if_neg ei]; exact h.2.2 i
theorem i_ap_fn {t : Nat → Nat} {n c : Nat} (e : c ≠ 0) : upd (fun j => nI (t j)) n (nI c) = fun j => nI (i_ap t n c j) := by
  funext j
  unfold i_ap
  rw [if_neg e]
  show (if j = n then nI c else nI (t j)) = nI (if j = n then c else t j)
  by_cases h : j = n
  · rw [if_pos h, if_pos h]
  · rw [if_neg h, if_neg h]
section
variable {f_textCap f_stackCap f_depthCap f_ready f_size f_stackTop f_point f_frameCount f_symbolTop f_pos f_list f_open f_errorKind f_errorPos f_valueTop f_operatorTop : Int32} {a_text a_cells a_stack a_frames a_listOf a_listEnd a_owner a_stmtEnd a_stmtBegin a_firstA a_firstB a_opAt a_procFirst a_inverse a_invFirst a_invBegin a_symbols a_values a_operators : Nat → Int32} {g_textLimit g_stackLimit g_depthLimit g_length g_stackSize g_depth g_place g_ready g_top g_errorPos : Int32} {b_text b_cells b_stack b_frames b_wants b_inverse b_kinds b_values : Nat → Int32}
variable {tc sc dc n st pt fc k : Nat} {t : Nat → Nat} {cl sk fr : Nat → Int32} {T : Nat → Nat → Int32}
theorem xk_good {post : Int32 → Prop} {v : Int32} (h1 : i_gd v → post 1) (h0 : ¬ i_gd v → post 0) : wpX_goodCode post (f_textCap, f_stackCap, f_depthCap, f_ready, f_size, f_stackTop, f_point, f_frameCount, f_symbolTop, f_pos, f_list, f_open, f_errorKind, f_errorPos, f_valueTop, f_operatorTop, a_text, a_cells, a_stack, a_frames, a_listOf, a_listEnd, a_owner, a_stmtEnd, a_stmtBegin, a_firstA, a_firstB, a_opAt, a_procFirst, a_inverse, a_invFirst, a_invBegin, a_symbols, a_values, a_operators) v := by
  by_cases e : v = 0
  · exact br_t e (h1 ⟨0, e, Or.inl rfl⟩)
  · refine br_f e ?_
    by_cases a : v < 33
    · exact br_t a (h0 (i_gd_n e (Or.inl a)))
    · refine br_f a ?_
      by_cases b : 126 < v
      · exact br_t b (h0 (i_gd_n e (Or.inr b)))
      · exact br_f b (h1 (i_gd_p e a b))
theorem yk_good {post : Int32 → Prop} {v : Int32} (h1 : i_gd v → post 0) (h0 : ¬ i_gd v → post 1) : wpY_bad post (g_textLimit, g_stackLimit, g_depthLimit, g_length, g_stackSize, g_depth, g_place, g_ready, g_top, g_errorPos, b_text, b_cells, b_stack, b_frames, b_wants, b_inverse, b_kinds, b_values) v := by
  by_cases e : v = 0
  · exact br_t e (h1 ⟨0, e, Or.inl rfl⟩)
  · refine br_f e ?_
    by_cases a : v < 33
    · exact br_t a (h0 (i_gd_n e (Or.inl a)))
    · refine br_f a ?_
      by_cases b : 126 < v
      · exact br_f (fun h => Int32.not_le.mpr b h) (h0 (i_gd_n e (Or.inr b)))
      · exact br_t (Int32.not_lt.mp b) (h1 (i_gd_p e a b))
theorem xk_app {post : SX → Prop} {c : Nat} (hc : c < 127) (hn : i_nx n c ≤ 200) (H : post (f_textCap, f_stackCap, f_depthCap, f_ready, nI (i_nx n c), f_stackTop, f_point, f_frameCount, f_symbolTop, f_pos, f_list, f_open, f_errorKind, f_errorPos, f_valueTop, f_operatorTop, fun j => nI (i_ap t n c j), a_cells, a_stack, a_frames, a_listOf, a_listEnd, a_owner, a_stmtEnd, a_stmtBegin, a_firstA, a_firstB, a_opAt, a_procFirst, a_inverse, a_invFirst, a_invBegin, a_symbols, a_values, a_operators)) : wpX_append post (f_textCap, f_stackCap, f_depthCap, f_ready, nI n, f_stackTop, f_point, f_frameCount, f_symbolTop, f_pos, f_list, f_open, f_errorKind, f_errorPos, f_valueTop, f_operatorTop, fun j => nI (t j), a_cells, a_stack, a_frames, a_listOf, a_listEnd, a_owner, a_stmtEnd, a_stmtBegin, a_firstA, a_firstB, a_opAt, a_procFirst, a_inverse, a_invFirst, a_invBegin, a_symbols, a_values, a_operators) (nI c) := by
  unfold wpX_append
  by_cases e : c = 0
  · subst e; exact br_t rfl H
  · have e1 : i_nx n c = n + 1 := if_neg e
    rw [e1] at hn H
    refine br_f (fun h => e ((nI_eq (a := c) (b := 0) (by omega) (by omega)).mp h)) (br_f (nI_ge (b := 200) (by omega) (by omega)) (And.intro (vp_in_nI (by omega) (by omega)) (nm_e (nm_r (nI_1 n) ?_))))
    rw [nI_clamp (n := n) (by omega), i_ap_fn e]
    exact H
theorem yk_app {post : SY → Prop} {c : Nat} (hc : c < 127) (hn : i_nx n c ≤ 200) (H : post (g_textLimit, g_stackLimit, g_depthLimit, nI (i_nx n c), g_stackSize, g_depth, g_place, g_ready, g_top, g_errorPos, fun j => nI (i_ap t n c j), b_cells, b_stack, b_frames, b_wants, b_inverse, b_kinds, b_values)) : wpY_append post (g_textLimit, g_stackLimit, g_depthLimit, nI n, g_stackSize, g_depth, g_place, g_ready, g_top, g_errorPos, fun j => nI (t j), b_cells, b_stack, b_frames, b_wants, b_inverse, b_kinds, b_values) (nI c) := by
  unfold wpY_append
  by_cases e : c = 0
  · subst e; exact br_t rfl H
  · have e1 : i_nx n c = n + 1 := if_neg e
    rw [e1] at hn H
    refine br_f (fun h => e ((nI_eq (a := c) (b := 0) (by omega) (by omega)).mp h)) (br_f (nI_ge (b := 200) (by omega) (by omega)) (And.intro (vp_in_nI (by omega) (by omega)) (nm_e (nm_r (nI_1 n) ?_))))
    rw [nI_clamp (n := n) (by omega), i_ap_fn e]
    exact H
theorem i_in_le (v : Int32) : i_in v ≤ 1 := by
  unfold i_in; split
  · omega
  · omega
theorem xk_cnt {post : Int32 → SX → Prop} {v1 v2 v3 v4 : Int32} (H : ∀ c d, c + d = i_in v1 + i_in v2 + i_in v3 + i_in v4 → wX_put_95 post v1 v2 v3 v4 (nI d) (nI c) f_textCap f_stackCap f_depthCap f_ready f_size f_stackTop f_point f_frameCount f_symbolTop f_pos f_list f_open f_errorKind f_errorPos f_valueTop f_operatorTop a_text a_cells a_stack a_frames a_listOf a_listEnd a_owner a_stmtEnd a_stmtBegin a_firstA a_firstB a_opAt a_procFirst a_inverse a_invFirst a_invBegin a_symbols a_values a_operators) : wX_put_47 post v1 v2 v3 v4 1 f_textCap f_stackCap f_depthCap f_ready f_size f_stackTop f_point f_frameCount f_symbolTop f_pos f_list f_open f_errorKind f_errorPos f_valueTop f_operatorTop a_text a_cells a_stack a_frames a_listOf a_listEnd a_owner a_stmtEnd a_stmtBegin a_firstA a_firstB a_opAt a_procFirst a_inverse a_invFirst a_invBegin a_symbols a_values a_operators := by
  have h84 : ∀ c d, c + d = i_in v1 + i_in v2 + i_in v3 → wX_put_84 post v1 v2 v3 v4 (nI d) (nI c) f_textCap f_stackCap f_depthCap f_ready f_size f_stackTop f_point f_frameCount f_symbolTop f_pos f_list f_open f_errorKind f_errorPos f_valueTop f_operatorTop a_text a_cells a_stack a_frames a_listOf a_listEnd a_owner a_stmtEnd a_stmtBegin a_firstA a_firstB a_opAt a_procFirst a_inverse a_invFirst a_invBegin a_symbols a_values a_operators := by
    intro c d h
    unfold wX_put_84
    rw [nI_add]
    by_cases e : v4 = 0
    · have e4 : i_in v4 = 0 := if_pos e
      exact br_t e (H (c + d) 0 (by omega))
    · have e4 : i_in v4 = 1 := if_neg e
      exact br_f e (H (c + d) 1 (by omega))
  have h74 : ∀ c d, c + d = i_in v1 + i_in v2 → wX_put_74 post v1 v2 v3 v4 (nI d) (nI c) f_textCap f_stackCap f_depthCap f_ready f_size f_stackTop f_point f_frameCount f_symbolTop f_pos f_list f_open f_errorKind f_errorPos f_valueTop f_operatorTop a_text a_cells a_stack a_frames a_listOf a_listEnd a_owner a_stmtEnd a_stmtBegin a_firstA a_firstB a_opAt a_procFirst a_inverse a_invFirst a_invBegin a_symbols a_values a_operators := by
    intro c d h
    unfold wX_put_74
    rw [nI_add]
    by_cases e : v3 = 0
    · have e4 : i_in v3 = 0 := if_pos e
      exact br_t e (h84 (c + d) 0 (by omega))
    · have e4 : i_in v3 = 1 := if_neg e
      exact br_f e (h84 (c + d) 1 (by omega))
  have h65 : ∀ c, c = i_in v1 → wX_put_65 post v1 v2 v3 v4 (nI c) f_textCap f_stackCap f_depthCap f_ready f_size f_stackTop f_point f_frameCount f_symbolTop f_pos f_list f_open f_errorKind f_errorPos f_valueTop f_operatorTop a_text a_cells a_stack a_frames a_listOf a_listEnd a_owner a_stmtEnd a_stmtBegin a_firstA a_firstB a_opAt a_procFirst a_inverse a_invFirst a_invBegin a_symbols a_values a_operators := by
    intro c h
    unfold wX_put_65
    by_cases e : v2 = 0
    · have e4 : i_in v2 = 0 := if_pos e
      exact br_t e (h74 c 0 (by omega))
    · have e4 : i_in v2 = 1 := if_neg e
      exact br_f e (h74 c 1 (by omega))
  unfold wX_put_47
  refine br_f (by decide) ?_
  by_cases e : v1 = 0
  · exact br_t e (h65 0 (if_pos e).symm)
  · exact br_f e (h65 1 (if_neg e).symm)
theorem yk_cnt {post : Int32 → SY → Prop} {v1 v2 v3 v4 : Int32} (H : ∀ c d, c + d = i_in v1 + i_in v2 + i_in v3 + i_in v4 → wY_put_81 post v1 v2 v3 v4 (nI d) (nI c) g_textLimit g_stackLimit g_depthLimit g_length g_stackSize g_depth g_place g_ready g_top g_errorPos b_text b_cells b_stack b_frames b_wants b_inverse b_kinds b_values) : (v1 = 0 → wY_put_51 post v1 v2 v3 v4 0 g_textLimit g_stackLimit g_depthLimit g_length g_stackSize g_depth g_place g_ready g_top g_errorPos b_text b_cells b_stack b_frames b_wants b_inverse b_kinds b_values) ∧ (¬ v1 = 0 → wY_put_51 post v1 v2 v3 v4 1 g_textLimit g_stackLimit g_depthLimit g_length g_stackSize g_depth g_place g_ready g_top g_errorPos b_text b_cells b_stack b_frames b_wants b_inverse b_kinds b_values) := by
  have h84 : ∀ c d, c + d = i_in v1 + i_in v2 + i_in v3 → wY_put_70 post v1 v2 v3 v4 (nI d) (nI c) g_textLimit g_stackLimit g_depthLimit g_length g_stackSize g_depth g_place g_ready g_top g_errorPos b_text b_cells b_stack b_frames b_wants b_inverse b_kinds b_values := by
    intro c d h
    unfold wY_put_70
    rw [nI_add]
    by_cases e : v4 = 0
    · have e4 : i_in v4 = 0 := if_pos e
      exact br_t e (H (c + d) 0 (by omega))
    · have e4 : i_in v4 = 1 := if_neg e
      exact br_f e (H (c + d) 1 (by omega))
  have h74 : ∀ c d, c + d = i_in v1 + i_in v2 → wY_put_60 post v1 v2 v3 v4 (nI d) (nI c) g_textLimit g_stackLimit g_depthLimit g_length g_stackSize g_depth g_place g_ready g_top g_errorPos b_text b_cells b_stack b_frames b_wants b_inverse b_kinds b_values := by
    intro c d h
    unfold wY_put_60
    rw [nI_add]
    by_cases e : v3 = 0
    · have e4 : i_in v3 = 0 := if_pos e
      exact br_t e (h84 (c + d) 0 (by omega))
    · have e4 : i_in v3 = 1 := if_neg e
      exact br_f e (h84 (c + d) 1 (by omega))
  have h65 : ∀ c, c = i_in v1 → wY_put_51 post v1 v2 v3 v4 (nI c) g_textLimit g_stackLimit g_depthLimit g_length g_stackSize g_depth g_place g_ready g_top g_errorPos b_text b_cells b_stack b_frames b_wants b_inverse b_kinds b_values := by
    intro c h
    unfold wY_put_51
    by_cases e : v2 = 0
    · have e4 : i_in v2 = 0 := if_pos e
      exact br_t e (h74 c 0 (by omega))
    · have e4 : i_in v2 = 1 := if_neg e
      exact br_f e (h74 c 1 (by omega))
  by_cases e : v1 = 0
  · exact br_t e (h65 0 (if_pos e).symm)
  · exact br_f e (h65 1 (if_neg e).symm)
theorem xk_put {post : Int32 → SX → Prop} {v1 v2 v3 v4 : Int32} (h0 : ¬ (i_gd v1 ∧ i_gd v2 ∧ i_gd v3 ∧ i_gd v4) → post (-1) (f_textCap, f_stackCap, f_depthCap, 0, f_size, f_stackTop, f_point, f_frameCount, f_symbolTop, f_pos, f_list, f_open, f_errorKind, f_errorPos, f_valueTop, f_operatorTop, a_text, a_cells, a_stack, a_frames, a_listOf, a_listEnd, a_owner, a_stmtEnd, a_stmtBegin, a_firstA, a_firstB, a_opAt, a_procFirst, a_inverse, a_invFirst, a_invBegin, a_symbols, a_values, a_operators)) (h1 : i_gd v1 → i_gd v2 → i_gd v3 → i_gd v4 → wX_put_47 post v1 v2 v3 v4 1 f_textCap f_stackCap f_depthCap 0 f_size f_stackTop f_point f_frameCount f_symbolTop f_pos f_list f_open f_errorKind f_errorPos f_valueTop f_operatorTop a_text a_cells a_stack a_frames a_listOf a_listEnd a_owner a_stmtEnd a_stmtBegin a_firstA a_firstB a_opAt a_procFirst a_inverse a_invFirst a_invBegin a_symbols a_values a_operators) : wpX_put post (f_textCap, f_stackCap, f_depthCap, 0, f_size, f_stackTop, f_point, f_frameCount, f_symbolTop, f_pos, f_list, f_open, f_errorKind, f_errorPos, f_valueTop, f_operatorTop, a_text, a_cells, a_stack, a_frames, a_listOf, a_listEnd, a_owner, a_stmtEnd, a_stmtBegin, a_firstA, a_firstB, a_opAt, a_procFirst, a_inverse, a_invFirst, a_invBegin, a_symbols, a_values, a_operators) v1 v2 v3 v4 := by
  have h46 : ¬ (i_gd v1 ∧ i_gd v2 ∧ i_gd v3 ∧ i_gd v4) → wX_put_46 post v1 v2 v3 v4 f_textCap f_stackCap f_depthCap 0 f_size f_stackTop f_point f_frameCount f_symbolTop f_pos f_list f_open f_errorKind f_errorPos f_valueTop f_operatorTop a_text a_cells a_stack a_frames a_listOf a_listEnd a_owner a_stmtEnd a_stmtBegin a_firstA a_firstB a_opAt a_procFirst a_inverse a_invFirst a_invBegin a_symbols a_values a_operators := by
    intro h
    unfold wX_put_46 wX_put_47
    exact br_t rfl (h0 h)
  unfold wpX_put
  exact br_t rfl (xk_good (fun a1 => br_f (by decide) (xk_good (fun a2 => br_f (by decide) (xk_good (fun a3 => br_f (by decide) (xk_good (fun a4 => br_f (by decide) (h1 a1 a2 a3 a4)) (fun a4 => br_t rfl (h46 (fun h => a4 h.2.2.2))))) (fun a3 => br_t rfl (h46 (fun h => a3 h.2.2.1))))) (fun a2 => br_t rfl (h46 (fun h => a2 h.2.1))))) (fun a1 => br_t rfl (h46 (fun h => a1 h.1))))
theorem yk_put {post : Int32 → SY → Prop} {v1 v2 v3 v4 : Int32} (h0 : ¬ (i_gd v1 ∧ i_gd v2 ∧ i_gd v3 ∧ i_gd v4) → post (-1) (g_textLimit, g_stackLimit, g_depthLimit, g_length, g_stackSize, g_depth, g_place, 0, g_top, g_errorPos, b_text, b_cells, b_stack, b_frames, b_wants, b_inverse, b_kinds, b_values)) (h1 : i_gd v1 → i_gd v2 → i_gd v3 → i_gd v4 → (v1 = 0 → wY_put_51 post v1 v2 v3 v4 0 g_textLimit g_stackLimit g_depthLimit g_length g_stackSize g_depth g_place 0 g_top g_errorPos b_text b_cells b_stack b_frames b_wants b_inverse b_kinds b_values) ∧ (¬ v1 = 0 → wY_put_51 post v1 v2 v3 v4 1 g_textLimit g_stackLimit g_depthLimit g_length g_stackSize g_depth g_place 0 g_top g_errorPos b_text b_cells b_stack b_frames b_wants b_inverse b_kinds b_values)) : wpY_put post (g_textLimit, g_stackLimit, g_depthLimit, g_length, g_stackSize, g_depth, g_place, 0, g_top, g_errorPos, b_text, b_cells, b_stack, b_frames, b_wants, b_inverse, b_kinds, b_values) v1 v2 v3 v4 := by
  unfold wpY_put
  exact br_t rfl (yk_good (fun a1 => br_t rfl (yk_good (fun a2 => br_t rfl (yk_good (fun a3 => br_t rfl (yk_good (fun a4 => br_t rfl (h1 a1 a2 a3 a4)) (fun a4 => br_f (by decide) (h0 (fun h => a4 h.2.2.2))))) (fun a3 => br_f (by decide) (h0 (fun h => a3 h.2.2.1))))) (fun a2 => br_f (by decide) (h0 (fun h => a2 h.2.1))))) (fun a1 => br_f (by decide) (h0 (fun h => a1 h.1))))
theorem v0_put (hW : i_W tc sc dc n st t) (v1 v2 v3 v4 : Int32) : wpX_put (fun r u' => wpY_put (fun r' v' => r' = r ∧ i_Rel k u' v') (nI tc, nI sc, nI dc, nI n, nI st, 0, 0, 0, g_top, g_errorPos, fun j => nI (t j), cl, sk, fr, b_wants, b_inverse, b_kinds, b_values) v1 v2 v3 v4) (nI tc, nI sc, nI dc, 0, nI n, nI st, 0, 0, f_symbolTop, f_pos, f_list, f_open, f_errorKind, f_errorPos, f_valueTop, f_operatorTop, fun j => nI (t j), cl, sk, fr, a_listOf, a_listEnd, a_owner, a_stmtEnd, a_stmtBegin, a_firstA, a_firstB, a_opAt, a_procFirst, a_inverse, a_invFirst, a_invBegin, a_symbols, a_values, a_operators) v1 v2 v3 v4 := by
  refine xk_put (fun h => yk_put (fun _ => ⟨rfl, i_in0 hW⟩) (fun a b c d => (h ⟨a, b, c, d⟩).elim)) (fun a1 a2 a3 a4 => xk_cnt (fun c d hcd => ?_))
  obtain ⟨w1, w2, w3, w4, w5, w6, w7, w8, w9⟩ := hW
  have b1 := i_in_le v1
  have b2 := i_in_le v2
  have b3 := i_in_le v3
  have b4 := i_in_le v4
  unfold wX_put_95
  rw [nI_add]
  refine nm_e ?_
  rw [nI_add]
  refine pk_le (n + (c + d)) tc (fun hle => ?_) (fun hgt => ?_) rfl rfl (by omega) (by omega)
  · obtain ⟨c1, rfl, g1⟩ := a1
    obtain ⟨c2, rfl, g2⟩ := a2
    obtain ⟨c3, rfl, g3⟩ := a3
    obtain ⟨c4, rfl, g4⟩ := a4
    have e1 := i_nx_in (n := n) (c := c1) (by omega)
    have e2 := i_nx_in (n := i_nx n c1) (c := c2) (by omega)
    have e3 := i_nx_in (n := i_nx (i_nx n c1) c2) (c := c3) (by omega)
    have e4 := i_nx_in (n := i_nx (i_nx (i_nx n c1) c2) c3) (c := c4) (by omega)
    refine xk_app (by omega) (by omega) (xk_app (by omega) (by omega) (xk_app (by omega) (by omega) (xk_app (by omega) (by omega) ?_)))
    refine yk_put (fun h => (h ⟨⟨c1, rfl, g1⟩, ⟨c2, rfl, g2⟩, ⟨c3, rfl, g3⟩, ⟨c4, rfl, g4⟩⟩).elim) (fun _ _ _ _ => yk_cnt (fun c' d' hcd' => ?_))
    unfold wY_put_81
    rw [nI_add]
    refine nm_e ?_
    rw [nI_add]
    refine br_t (nI_le (by omega) (by omega)) ?_
    refine yk_app (by omega) (by omega) (yk_app (by omega) (by omega) (yk_app (by omega) (by omega) (yk_app (by omega) (by omega) ⟨rfl, i_in0 ⟨w1, w2, w3, w4, w5, w6, by omega, ?_, w9⟩⟩)))
    exact i_ap_tx g4 (by omega) (i_ap_tx g3 (by omega) (i_ap_tx g2 (by omega) (i_ap_tx g1 (by omega) w8)))
  · refine yk_put (fun h => (h ⟨a1, a2, a3, a4⟩).elim) (fun _ _ _ _ => yk_cnt (fun c' d' hcd' => ?_))
    unfold wY_put_81
    rw [nI_add]
    refine nm_e ?_
    rw [nI_add]
    exact br_f (nI_ge (by omega) (by omega)) ⟨rfl, i_in0 ⟨w1, w2, w3, w4, w5, w6, w7, w8, w9⟩⟩
theorem v1_put (hW : i_W tc sc dc n st t) (hQ : i_Q t n sc dc T a_procFirst a_inverse a_invFirst a_invBegin fr fc pt st) (v1 v2 v3 v4 : Int32) : wpX_put (fun r u' => wpY_put (fun r' v' => r' = r ∧ i_Rel k u' v') (nI tc, nI sc, nI dc, nI n, nI (st), nI (fc), nI (pt), 1, g_top, g_errorPos, fun j => nI (t j), cl, sk, fr, b_wants, b_inverse, b_kinds, b_values) v1 v2 v3 v4) (nI tc, nI sc, nI dc, 1, nI n, nI (st), nI (pt), nI (fc), f_symbolTop, f_pos, f_list, f_open, f_errorKind, f_errorPos, f_valueTop, f_operatorTop, fun j => nI (t j), cl, sk, fr, T 0, T 1, T 2, T 3, T 4, T 5, T 6, T 7, a_procFirst, a_inverse, a_invFirst, a_invBegin, a_symbols, a_values, a_operators) v1 v2 v3 v4 :=
  br_f (by decide) (br_f (by decide) ⟨rfl, i_in1 hW hQ⟩)
end
theorem i_vc_put {k : Nat} {u : SX} {v : SY} (I : i_Rel k u v) (_hk : k + 5 ≤ 2563) (v1 : Int32) (v2 : Int32) (v3 : Int32) (v4 : Int32) : wpX_put (fun r u' => wpY_put (fun r' v' => r' = r ∧ i_Rel (k + 5) u' v') v v1 v2 v3 v4) u v1 v2 v3 v4 :=
  i_el (P := fun u v => wpX_put (fun r u' => wpY_put (fun r' v' => r' = r ∧ i_Rel (k + 5) u' v') v v1 v2 v3 v4) u v1 v2 v3 v4) I (fun h => v0_put h v1 v2 v3 v4) (fun h q => v1_put h q v1 v2 v3 v4)
end
section
/-! compile, errorAt, forward, backward, status, rewind, inverseAt -/
theorem sm_nd {t : Nat → Nat} {n : Nat} (h : ∀ j, j < n → sm_me t n j = 0) : sp_nd t n := by
  intro i hi hnm
  have h1 := h i hi
  rw [sm_me_n hnm] at h1
  by_cases e : t (i - 1) = 58
  · rw [if_pos e] at h1
    by_cases e2 : sc_Body t (t i) n = some (i + 1)
    · exact ⟨_, e2⟩
    · rw [if_neg e2] at h1; omega
  · rw [if_neg e] at h1
    cases hB : sc_Body t (t i) n with
    | none => rw [if_pos hB] at h1; omega
    | some v => exact ⟨v, rfl⟩
theorem sm_cm0 {t : Nat → Nat} {n : Nat} {ep : Int32} (h : sm_cm t n 0 ep) : sp_nd t n := by
  rcases h with ⟨i, _, _, h1, h2, _⟩ | ⟨h, _, _⟩
  · have := sm_me_lt t n i
    exact (h1 ((nI_eq (a := sm_me t n i) (b := 0) (by omega) (by omega)).mp h2.symm)).elim
  · exact sm_nd h
theorem sp_I0 {t : Nat → Nat} {n sc dc : Nat} {fr : Nat → Int32} {st : Nat} (hst : st ≤ sc) : sp_I t n sc dc fr 0 0 st :=
  ⟨Nat.zero_le _, Or.inl rfl, Nat.zero_le _, fun i hi => by omega, ⟨fun _ => rfl, fun _ i hi => by omega⟩, fun i s hi => by omega, hst⟩
theorem sp_Ie {t : Nat → Nat} {n sc dc : Nat} {fr : Nat → Int32} {st : Nat} (hG : gr_G t n) (hst : st ≤ sc) : sp_I t n sc dc fr 0 (sc_End t n 0) st := by
  obtain ⟨l, e, hpt⟩ := sc_pts hG 0 (Nat.zero_le _) (Or.inl rfl)
  rw [sc_pt_end hpt]
  obtain ⟨h1, h2, h3, h4, h5, h6⟩ := hpt
  have e0 : l = 0 := by omega
  subst e0
  exact ⟨h3, sc_bg_in h4 h6, Nat.zero_le _, fun i hi => by omega, ⟨fun _ => rfl, fun _ i hi => (sc_l h6).2.2 i (Nat.zero_le _) hi⟩, fun i s hi => by omega, hst⟩
section
variable {f_textCap f_stackCap f_depthCap f_ready f_size f_stackTop f_point f_frameCount f_symbolTop f_pos f_list f_open f_errorKind f_errorPos f_valueTop f_operatorTop : Int32} {a_text a_cells a_stack a_frames a_listOf a_listEnd a_owner a_stmtEnd a_stmtBegin a_firstA a_firstB a_opAt a_procFirst a_inverse a_invFirst a_invBegin a_symbols a_values a_operators : Nat → Int32} {g_textLimit g_stackLimit g_depthLimit g_length g_stackSize g_depth g_place g_ready g_top g_errorPos : Int32} {b_text b_cells b_stack b_frames b_wants b_inverse b_kinds b_values : Nat → Int32}
variable {tc sc dc n st pt fc k : Nat} {t : Nat → Nat} {cl sk fr : Nat → Int32} {T : Nat → Nat → Int32}
theorem v0_compile (hW : i_W tc sc dc n st t) : wpX_compile (fun r u' => wpY_compile (fun r' v' => r' = r ∧ i_Rel k u' v') (nI tc, nI sc, nI dc, nI n, nI st, 0, 0, 0, g_top, g_errorPos, fun j => nI (t j), cl, sk, fr, b_wants, b_inverse, b_kinds, b_values)) (nI tc, nI sc, nI dc, 0, nI n, nI st, 0, 0, f_symbolTop, f_pos, f_list, f_open, f_errorKind, f_errorPos, f_valueTop, f_operatorTop, fun j => nI (t j), cl, sk, fr, a_listOf, a_listEnd, a_owner, a_stmtEnd, a_stmtBegin, a_firstA, a_firstB, a_opAt, a_procFirst, a_inverse, a_invFirst, a_invBegin, a_symbols, a_values, a_operators) := by
  have X := hW.2.2.2.2.2.2.2.1
  unfold wpX_compile
  refine br_t rfl ?_
  rcases gr_dich2 X.2.1 X.1 with ⟨p, her⟩ | ⟨hfn, hG⟩
  · refine xa_bad X her (fun _ _ _ _ _ _ _ _ _ _ _ _ _ _ => br_f (by decide) ?_)
    unfold wpY_compile
    refine br_t rfl (ya_check_bad X her (fun _ _ => ?_))
    unfold wY_compile_15
    exact br_f (by decide) ⟨rfl, i_in0 hW⟩
  · refine xa_good X hG (fun T _ _ _ pf _ ek ep hT hpr hcm => ?_)
    by_cases e : ek = 0
    · subst e
      obtain ⟨ct, hC, Xc, hct⟩ := nt_ex X hG
      refine br_t rfl (xb_build X hG hC hT (fun inv iF iB hF => ?_))
      unfold wpY_compile
      refine br_t rfl (ya_check_good X hfn hG hcm (fun _ _ ep' _ => ?_))
      unfold wY_compile_15
      exact br_t rfl ⟨rfl, i_in1 (pt := 0) (fc := 0) hW ⟨⟨X, hG, hT, hpr, sm_cm0 hcm, hW.2.2.2.1, hW.2.2.2.2.2.1⟩, sp_I0 hW.2.2.2.2.2.2.2.2, ct, hC, Xc, hct, hF⟩⟩
    · refine br_f e ?_
      unfold wpY_compile
      refine br_t rfl (ya_check_good X hfn hG hcm (fun _ _ ep' _ => ?_))
      unfold wY_compile_15
      exact br_f e ⟨rfl, i_in0 hW⟩
theorem v1_compile (hW : i_W tc sc dc n st t) (hQ : i_Q t n sc dc T a_procFirst a_inverse a_invFirst a_invBegin fr fc pt st) : wpX_compile (fun r u' => wpY_compile (fun r' v' => r' = r ∧ i_Rel k u' v') (nI tc, nI sc, nI dc, nI n, nI (st), nI (fc), nI (pt), 1, g_top, g_errorPos, fun j => nI (t j), cl, sk, fr, b_wants, b_inverse, b_kinds, b_values)) (nI tc, nI sc, nI dc, 1, nI n, nI (st), nI (pt), nI (fc), f_symbolTop, f_pos, f_list, f_open, f_errorKind, f_errorPos, f_valueTop, f_operatorTop, fun j => nI (t j), cl, sk, fr, T 0, T 1, T 2, T 3, T 4, T 5, T 6, T 7, a_procFirst, a_inverse, a_invFirst, a_invBegin, a_symbols, a_values, a_operators) :=
  br_f (by decide) (br_f (by decide) (br_f (by decide) ⟨rfl, i_in1 hW hQ⟩))
theorem v0_errorAt (hW : i_W tc sc dc n st t) : wpX_errorAt (fun r u' => wpY_errorAt (fun r' v' => r' = r ∧ i_Rel k u' v') (nI tc, nI sc, nI dc, nI n, nI st, 0, 0, 0, g_top, g_errorPos, fun j => nI (t j), cl, sk, fr, b_wants, b_inverse, b_kinds, b_values)) (nI tc, nI sc, nI dc, 0, nI n, nI st, 0, 0, f_symbolTop, f_pos, f_list, f_open, f_errorKind, f_errorPos, f_valueTop, f_operatorTop, fun j => nI (t j), cl, sk, fr, a_listOf, a_listEnd, a_owner, a_stmtEnd, a_stmtBegin, a_firstA, a_firstB, a_opAt, a_procFirst, a_inverse, a_invFirst, a_invBegin, a_symbols, a_values, a_operators) := by
  have X := hW.2.2.2.2.2.2.2.1
  unfold wpX_errorAt
  refine br_t rfl ?_
  rcases gr_dich2 X.2.1 X.1 with ⟨p, her⟩ | ⟨hfn, hG⟩
  · refine xa_bad X her (fun _ _ _ _ _ _ _ _ _ _ _ _ _ _ => br_f (by decide) ?_)
    unfold wpY_errorAt
    refine br_t rfl (ya_check_bad X her (fun _ _ => ?_))
    unfold wY_errorAt_15
    exact br_f (by decide) ⟨rfl, i_in0 hW⟩
  · refine xa_good X hG (fun T _ _ _ pf _ ek ep hT hpr hcm => ?_)
    by_cases e : ek = 0
    · refine br_t e ?_
      unfold wpY_errorAt
      refine br_t rfl (ya_check_good X hfn hG hcm (fun _ _ ep' _ => ?_))
      unfold wY_errorAt_15
      exact br_t e ⟨rfl, i_in0 hW⟩
    · refine br_f e ?_
      unfold wpY_errorAt
      refine br_t rfl (ya_check_good X hfn hG hcm (fun _ _ ep' h => ?_))
      unfold wY_errorAt_15
      exact br_f e ⟨h e, i_in0 hW⟩
theorem v1_errorAt (hW : i_W tc sc dc n st t) (hQ : i_Q t n sc dc T a_procFirst a_inverse a_invFirst a_invBegin fr fc pt st) : wpX_errorAt (fun r u' => wpY_errorAt (fun r' v' => r' = r ∧ i_Rel k u' v') (nI tc, nI sc, nI dc, nI n, nI (st), nI (fc), nI (pt), 1, g_top, g_errorPos, fun j => nI (t j), cl, sk, fr, b_wants, b_inverse, b_kinds, b_values)) (nI tc, nI sc, nI dc, 1, nI n, nI (st), nI (pt), nI (fc), f_symbolTop, f_pos, f_list, f_open, f_errorKind, f_errorPos, f_valueTop, f_operatorTop, fun j => nI (t j), cl, sk, fr, T 0, T 1, T 2, T 3, T 4, T 5, T 6, T 7, a_procFirst, a_inverse, a_invFirst, a_invBegin, a_symbols, a_values, a_operators) :=
  br_f (by decide) (br_f (by decide) (br_t rfl ⟨rfl, i_in1 hW hQ⟩))
theorem v0_forward (hW : i_W tc sc dc n st t) (v1 : Int32) : wpX_forward (fun r u' => wpY_forward (fun r' v' => r' = r ∧ i_Rel k u' v') (nI tc, nI sc, nI dc, nI n, nI st, 0, 0, 0, g_top, g_errorPos, fun j => nI (t j), cl, sk, fr, b_wants, b_inverse, b_kinds, b_values) v1) (nI tc, nI sc, nI dc, 0, nI n, nI st, 0, 0, f_symbolTop, f_pos, f_list, f_open, f_errorKind, f_errorPos, f_valueTop, f_operatorTop, fun j => nI (t j), cl, sk, fr, a_listOf, a_listEnd, a_owner, a_stmtEnd, a_stmtBegin, a_firstA, a_firstB, a_opAt, a_procFirst, a_inverse, a_invFirst, a_invBegin, a_symbols, a_values, a_operators) v1 :=
  br_t rfl (br_t rfl ⟨1, br_t (by decide) ⟨rfl, i_in0 hW⟩⟩)
theorem v0_backward (hW : i_W tc sc dc n st t) (v1 : Int32) : wpX_backward (fun r u' => wpY_backward (fun r' v' => r' = r ∧ i_Rel k u' v') (nI tc, nI sc, nI dc, nI n, nI st, 0, 0, 0, g_top, g_errorPos, fun j => nI (t j), cl, sk, fr, b_wants, b_inverse, b_kinds, b_values) v1) (nI tc, nI sc, nI dc, 0, nI n, nI st, 0, 0, f_symbolTop, f_pos, f_list, f_open, f_errorKind, f_errorPos, f_valueTop, f_operatorTop, fun j => nI (t j), cl, sk, fr, a_listOf, a_listEnd, a_owner, a_stmtEnd, a_stmtBegin, a_firstA, a_firstB, a_opAt, a_procFirst, a_inverse, a_invFirst, a_invBegin, a_symbols, a_values, a_operators) v1 :=
  br_t rfl (br_t rfl ⟨1, br_t (by decide) ⟨rfl, i_in0 hW⟩⟩)
theorem v1_forward (hW : i_W tc sc dc n st t) (hQ : i_Q t n sc dc T a_procFirst a_inverse a_invFirst a_invBegin fr fc pt st) (v1 : Int32) : wpX_forward (fun r u' => wpY_forward (fun r' v' => r' = r ∧ i_Rel k u' v') (nI tc, nI sc, nI dc, nI n, nI (st), nI (fc), nI (pt), 1, g_top, g_errorPos, fun j => nI (t j), cl, sk, fr, b_wants, b_inverse, b_kinds, b_values) v1) (nI tc, nI sc, nI dc, 1, nI n, nI (st), nI (pt), nI (fc), f_symbolTop, f_pos, f_list, f_open, f_errorKind, f_errorPos, f_valueTop, f_operatorTop, fun j => nI (t j), cl, sk, fr, T 0, T 1, T 2, T 3, T 4, T 5, T 6, T 7, a_procFirst, a_inverse, a_invFirst, a_invBegin, a_symbols, a_values, a_operators) v1 := by
  obtain ⟨r, cl', sk', fr', st', pt', fc', hI, hX, hY⟩ := @sp_fb (nI tc) 1 f_symbolTop f_pos f_list f_open f_errorKind f_errorPos a_procFirst a_inverse a_invFirst a_invBegin a_symbols (nI tc) 1 g_top g_errorPos b_wants b_inverse t n sc dc T hQ.1 0 (by omega) v1 cl sk fr st pt fc hQ.2.1 rfl rfl
  have hst := hI.2.2.2.2.2.2
  unfold wpX_forward
  refine hX _ _ _ _ _ (fun _ _ _ _ => ?_)
  unfold wpY_forward
  exact hY _ _ _ (fun _ _ => ⟨rfl, i_in1 ⟨hW.1, hW.2.1, hW.2.2.1, hW.2.2.2.1, hW.2.2.2.2.1, hW.2.2.2.2.2.1, hW.2.2.2.2.2.2.1, hW.2.2.2.2.2.2.2.1, hst⟩ ⟨hQ.1, hI, hQ.2.2⟩⟩)
theorem v1_backward (hW : i_W tc sc dc n st t) (hQ : i_Q t n sc dc T a_procFirst a_inverse a_invFirst a_invBegin fr fc pt st) (v1 : Int32) : wpX_backward (fun r u' => wpY_backward (fun r' v' => r' = r ∧ i_Rel k u' v') (nI tc, nI sc, nI dc, nI n, nI (st), nI (fc), nI (pt), 1, g_top, g_errorPos, fun j => nI (t j), cl, sk, fr, b_wants, b_inverse, b_kinds, b_values) v1) (nI tc, nI sc, nI dc, 1, nI n, nI (st), nI (pt), nI (fc), f_symbolTop, f_pos, f_list, f_open, f_errorKind, f_errorPos, f_valueTop, f_operatorTop, fun j => nI (t j), cl, sk, fr, T 0, T 1, T 2, T 3, T 4, T 5, T 6, T 7, a_procFirst, a_inverse, a_invFirst, a_invBegin, a_symbols, a_values, a_operators) v1 := by
  obtain ⟨r, cl', sk', fr', st', pt', fc', hI, hX, hY⟩ := @sp_fb (nI tc) 1 f_symbolTop f_pos f_list f_open f_errorKind f_errorPos a_procFirst a_inverse a_invFirst a_invBegin a_symbols (nI tc) 1 g_top g_errorPos b_wants b_inverse t n sc dc T hQ.1 1 (by omega) v1 cl sk fr st pt fc hQ.2.1 rfl rfl
  have hst := hI.2.2.2.2.2.2
  unfold wpX_backward
  refine hX _ _ _ _ _ (fun _ _ _ _ => ?_)
  unfold wpY_backward
  exact hY _ _ _ (fun _ _ => ⟨rfl, i_in1 ⟨hW.1, hW.2.1, hW.2.2.1, hW.2.2.2.1, hW.2.2.2.2.1, hW.2.2.2.2.2.1, hW.2.2.2.2.2.2.1, hW.2.2.2.2.2.2.2.1, hst⟩ ⟨hQ.1, hI, hQ.2.2⟩⟩)
theorem v0_status (hW : i_W tc sc dc n st t) (v1 : Int32) : wpX_status (fun r u' => wpY_status (fun r' v' => r' = r ∧ i_Rel k u' v') (nI tc, nI sc, nI dc, nI n, nI st, 0, 0, 0, g_top, g_errorPos, fun j => nI (t j), cl, sk, fr, b_wants, b_inverse, b_kinds, b_values) v1) (nI tc, nI sc, nI dc, 0, nI n, nI st, 0, 0, f_symbolTop, f_pos, f_list, f_open, f_errorKind, f_errorPos, f_valueTop, f_operatorTop, fun j => nI (t j), cl, sk, fr, a_listOf, a_listEnd, a_owner, a_stmtEnd, a_stmtBegin, a_firstA, a_firstB, a_opAt, a_procFirst, a_inverse, a_invFirst, a_invBegin, a_symbols, a_values, a_operators) v1 :=
  br_t rfl (br_t rfl ⟨rfl, i_in0 hW⟩)
theorem v1_status (hW : i_W tc sc dc n st t) (hQ : i_Q t n sc dc T a_procFirst a_inverse a_invFirst a_invBegin fr fc pt st) {b : Nat} (hb : b ≤ 1) : wpX_status (fun r u' => wpY_status (fun r' v' => r' = r ∧ i_Rel k u' v') (nI tc, nI sc, nI dc, nI n, nI (st), nI (fc), nI (pt), 1, g_top, g_errorPos, fun j => nI (t j), cl, sk, fr, b_wants, b_inverse, b_kinds, b_values) (nI b)) (nI tc, nI sc, nI dc, 1, nI n, nI (st), nI (pt), nI (fc), f_symbolTop, f_pos, f_list, f_open, f_errorKind, f_errorPos, f_valueTop, f_operatorTop, fun j => nI (t j), cl, sk, fr, T 0, T 1, T 2, T 3, T 4, T 5, T 6, T 7, a_procFirst, a_inverse, a_invFirst, a_invBegin, a_symbols, a_values, a_operators) (nI b) := by
  have h : sp_O t n sc dc T (nI tc) 1 f_symbolTop f_pos f_list f_open f_errorKind f_errorPos a_procFirst a_inverse a_invFirst a_invBegin a_symbols (nI tc) 1 g_top g_errorPos b_wants b_inverse (fun f_valueTop f_operatorTop a_values a_operators Q => wpX_step Q (nI tc, nI sc, nI dc, 1, nI n, nI (st), nI (pt), nI (fc), f_symbolTop, f_pos, f_list, f_open, f_errorKind, f_errorPos, f_valueTop, f_operatorTop, fun j => nI (t j), cl, sk, fr, T 0, T 1, T 2, T 3, T 4, T 5, T 6, T 7, a_procFirst, a_inverse, a_invFirst, a_invBegin, a_symbols, a_values, a_operators) (nI b) (nI 0)) (fun b_kinds b_values Q => wpY_step Q (nI tc, nI sc, nI dc, nI n, nI (st), nI (fc), nI (pt), 1, g_top, g_errorPos, fun j => nI (t j), cl, sk, fr, b_wants, b_inverse, b_kinds, b_values) (nI b) (nI 0)) := sp_step hQ.1 hQ.2.1 hb (by omega)
  obtain ⟨r, cl', sk', fr', st', pt', fc', hI, hX, hY⟩ := h
  have hst := hI.2.2.2.2.2.2
  unfold wpX_status
  refine br_f (by decide) (hX _ _ _ _ _ (fun _ _ _ _ => ?_))
  unfold wpY_status
  exact br_f (by decide) (hY _ _ _ (fun _ _ => ⟨rfl, i_in1 ⟨hW.1, hW.2.1, hW.2.2.1, hW.2.2.2.1, hW.2.2.2.2.1, hW.2.2.2.2.2.1, hW.2.2.2.2.2.2.1, hW.2.2.2.2.2.2.2.1, hst⟩ ⟨hQ.1, hI, hQ.2.2⟩⟩))
theorem v0_rewind (hW : i_W tc sc dc n st t) (v1 : Int32) : wpX_rewind (fun r u' => wpY_rewind (fun r' v' => r' = r ∧ i_Rel k u' v') (nI tc, nI sc, nI dc, nI n, nI st, 0, 0, 0, g_top, g_errorPos, fun j => nI (t j), cl, sk, fr, b_wants, b_inverse, b_kinds, b_values) v1) (nI tc, nI sc, nI dc, 0, nI n, nI st, 0, 0, f_symbolTop, f_pos, f_list, f_open, f_errorKind, f_errorPos, f_valueTop, f_operatorTop, fun j => nI (t j), cl, sk, fr, a_listOf, a_listEnd, a_owner, a_stmtEnd, a_stmtBegin, a_firstA, a_firstB, a_opAt, a_procFirst, a_inverse, a_invFirst, a_invBegin, a_symbols, a_values, a_operators) v1 :=
  br_t rfl (br_t rfl ⟨narrow_b0, rfl, i_in0 hW⟩)
theorem v1_rewind (hW : i_W tc sc dc n st t) (hQ : i_Q t n sc dc T a_procFirst a_inverse a_invFirst a_invBegin fr fc pt st) (v1 : Int32) : wpX_rewind (fun r u' => wpY_rewind (fun r' v' => r' = r ∧ i_Rel k u' v') (nI tc, nI sc, nI dc, nI n, nI (st), nI (fc), nI (pt), 1, g_top, g_errorPos, fun j => nI (t j), cl, sk, fr, b_wants, b_inverse, b_kinds, b_values) v1) (nI tc, nI sc, nI dc, 1, nI n, nI (st), nI (pt), nI (fc), f_symbolTop, f_pos, f_list, f_open, f_errorKind, f_errorPos, f_valueTop, f_operatorTop, fun j => nI (t j), cl, sk, fr, T 0, T 1, T 2, T 3, T 4, T 5, T 6, T 7, a_procFirst, a_inverse, a_invFirst, a_invBegin, a_symbols, a_values, a_operators) v1 := by
  have hst := hW.2.2.2.2.2.2.2.2
  unfold wpX_rewind
  refine br_f (by decide) ?_
  by_cases e : v1 = 0
  · refine br_t e ?_
    unfold wpY_rewind
    exact br_f (by decide) (br_t e ⟨narrow_b1, rfl, i_in1 (pt := 0) (fc := 0) hW ⟨hQ.1, sp_I0 hst, hQ.2.2⟩⟩)
  · have hT := hQ.1.2.2.1
    have t1 : T 1 0 = nI (sc_End t n 0) := hT.2 1 0 (Nat.zero_le _) ⟨Or.inl rfl, Or.inr (Or.inl ⟨rfl, Or.inl rfl⟩)⟩
    refine br_f e (nm_r t1 ?_)
    unfold wpY_rewind
    exact br_f (by decide) (br_f e (ys_end (p := 0) hQ.1.1 (by omega) ⟨narrow_b1, rfl, i_in1 (fc := 0) hW ⟨hQ.1, sp_Ie hQ.1.2.1 hst, hQ.2.2⟩⟩))
theorem v0_inverseAt (hW : i_W tc sc dc n st t) (v1 : Int32) : wpX_inverseAt (fun r => wpY_inverseAt (fun r' v' => r' = r ∧ i_Rel k (nI tc, nI sc, nI dc, 0, nI n, nI st, 0, 0, f_symbolTop, f_pos, f_list, f_open, f_errorKind, f_errorPos, f_valueTop, f_operatorTop, fun j => nI (t j), cl, sk, fr, a_listOf, a_listEnd, a_owner, a_stmtEnd, a_stmtBegin, a_firstA, a_firstB, a_opAt, a_procFirst, a_inverse, a_invFirst, a_invBegin, a_symbols, a_values, a_operators) v') (nI tc, nI sc, nI dc, nI n, nI st, 0, 0, 0, g_top, g_errorPos, fun j => nI (t j), cl, sk, fr, b_wants, b_inverse, b_kinds, b_values) v1) (nI tc, nI sc, nI dc, 0, nI n, nI st, 0, 0, f_symbolTop, f_pos, f_list, f_open, f_errorKind, f_errorPos, f_valueTop, f_operatorTop, fun j => nI (t j), cl, sk, fr, a_listOf, a_listEnd, a_owner, a_stmtEnd, a_stmtBegin, a_firstA, a_firstB, a_opAt, a_procFirst, a_inverse, a_invFirst, a_invBegin, a_symbols, a_values, a_operators) v1 :=
  br_t rfl (br_t rfl ⟨rfl, i_in0 hW⟩)
theorem v1_inverseAt (hW : i_W tc sc dc n st t) (hQ : i_Q t n sc dc T a_procFirst a_inverse a_invFirst a_invBegin fr fc pt st) (v1 : Int32) : wpX_inverseAt (fun r => wpY_inverseAt (fun r' v' => r' = r ∧ i_Rel k (nI tc, nI sc, nI dc, 1, nI n, nI (st), nI (pt), nI (fc), f_symbolTop, f_pos, f_list, f_open, f_errorKind, f_errorPos, f_valueTop, f_operatorTop, fun j => nI (t j), cl, sk, fr, T 0, T 1, T 2, T 3, T 4, T 5, T 6, T 7, a_procFirst, a_inverse, a_invFirst, a_invBegin, a_symbols, a_values, a_operators) v') (nI tc, nI sc, nI dc, nI n, nI (st), nI (fc), nI (pt), 1, g_top, g_errorPos, fun j => nI (t j), cl, sk, fr, b_wants, b_inverse, b_kinds, b_values) v1) (nI tc, nI sc, nI dc, 1, nI n, nI (st), nI (pt), nI (fc), f_symbolTop, f_pos, f_list, f_open, f_errorKind, f_errorPos, f_valueTop, f_operatorTop, fun j => nI (t j), cl, sk, fr, T 0, T 1, T 2, T 3, T 4, T 5, T 6, T 7, a_procFirst, a_inverse, a_invFirst, a_invBegin, a_symbols, a_values, a_operators) v1 := by
  have X := hQ.1.1
  have hn := X.1
  obtain ⟨ct, hC, Xc, hct, hF⟩ := hQ.2.2
  unfold wpX_inverseAt
  refine br_f (by decide) ?_
  by_cases h0 : v1 < 0
  · refine br_t h0 ?_
    unfold wpY_inverseAt
    exact br_f (by decide) (br_t h0 ⟨rfl, i_in1 hW hQ⟩)
  · refine br_f h0 ?_
    by_cases h1 : v1 < nI n
    · obtain ⟨j, hj, rfl⟩ := pk_nn h0 (by omega) h1
      have hv : vp_in (nI j) 200 := vp_in_nI (by omega) (by omega)
      refine br_t h1 ⟨hv, ?_⟩
      unfold wpY_inverseAt
      refine br_f (by decide) (br_f h0 (br_t h1 (yi_write X hQ.1.2.1 hC (fun inv hinv => ⟨hv, ?_, i_in1 hW hQ⟩))))
      rw [nI_clamp (by omega), hinv j hj, hF.1 j hj]
    · refine br_f h1 ?_
      unfold wpY_inverseAt
      exact br_f (by decide) (br_f h0 (br_f h1 ⟨rfl, i_in1 hW hQ⟩))
end
theorem i_vc_compile {k : Nat} {u : SX} {v : SY} (I : i_Rel k u v) (_hk : k + 5 ≤ 2563) : wpX_compile (fun r u' => wpY_compile (fun r' v' => r' = r ∧ i_Rel (k + 5) u' v') v) u :=
  i_el (P := fun u v => wpX_compile (fun r u' => wpY_compile (fun r' v' => r' = r ∧ i_Rel (k + 5) u' v') v) u) I (fun h => v0_compile h) (fun h q => v1_compile h q)
theorem i_vc_errorAt {k : Nat} {u : SX} {v : SY} (I : i_Rel k u v) (_hk : k + 5 ≤ 2563) : wpX_errorAt (fun r u' => wpY_errorAt (fun r' v' => r' = r ∧ i_Rel (k + 5) u' v') v) u :=
  i_el (P := fun u v => wpX_errorAt (fun r u' => wpY_errorAt (fun r' v' => r' = r ∧ i_Rel (k + 5) u' v') v) u) I (fun h => v0_errorAt h) (fun h q => v1_errorAt h q)
theorem i_vc_inverseAt {k : Nat} {u : SX} {v : SY} (I : i_Rel k u v) (_hk : k + 5 ≤ 2563) (v1 : Int32) : wpX_inverseAt (fun r => wpY_inverseAt (fun r' v' => r' = r ∧ i_Rel (k + 5) u v') v v1) u v1 :=
  i_el (P := fun u v => wpX_inverseAt (fun r => wpY_inverseAt (fun r' v' => r' = r ∧ i_Rel (k + 5) u v') v v1) u v1) I (fun h => v0_inverseAt h v1) (fun h q => v1_inverseAt h q v1)
theorem i_vc_forward {k : Nat} {u : SX} {v : SY} (I : i_Rel k u v) (_hk : k + 5 ≤ 2563) (v1 : Int32) : wpX_forward (fun r u' => wpY_forward (fun r' v' => r' = r ∧ i_Rel (k + 5) u' v') v v1) u v1 :=
  i_el (P := fun u v => wpX_forward (fun r u' => wpY_forward (fun r' v' => r' = r ∧ i_Rel (k + 5) u' v') v v1) u v1) I (fun h => v0_forward h v1) (fun h q => v1_forward h q v1)
theorem i_vc_backward {k : Nat} {u : SX} {v : SY} (I : i_Rel k u v) (_hk : k + 5 ≤ 2563) (v1 : Int32) : wpX_backward (fun r u' => wpY_backward (fun r' v' => r' = r ∧ i_Rel (k + 5) u' v') v v1) u v1 :=
  i_el (P := fun u v => wpX_backward (fun r u' => wpY_backward (fun r' v' => r' = r ∧ i_Rel (k + 5) u' v') v v1) u v1) I (fun h => v0_backward h v1) (fun h q => v1_backward h q v1)
theorem i_vc_status {k : Nat} {u : SX} {v : SY} (I : i_Rel k u v) (_hk : k + 5 ≤ 2563) (v1 : Int32) : wpX_status (fun r u' => wpY_status (fun r' v' => r' = r ∧ i_Rel (k + 5) u' v') v (lw_bz v1)) u (lw_bz v1) := by
  rcases lw_bz_01 v1 with h | h
  · rw [h]
    exact i_el (P := fun u v => wpX_status (fun r u' => wpY_status (fun r' v' => r' = r ∧ i_Rel (k + 5) u' v') v 0) u 0) I (fun h => v0_status h 0) (fun h q => v1_status (b := 0) h q (by omega))
  · rw [h]
    exact i_el (P := fun u v => wpX_status (fun r u' => wpY_status (fun r' v' => r' = r ∧ i_Rel (k + 5) u' v') v 1) u 1) I (fun h => v0_status h 1) (fun h q => v1_status (b := 1) h q (by omega))
theorem i_vc_rewind {k : Nat} {u : SX} {v : SY} (I : i_Rel k u v) (_hk : k + 5 ≤ 2563) (v1 : Int32) : wpX_rewind (fun r u' => wpY_rewind (fun r' v' => r' = r ∧ i_Rel (k + 5) u' v') v (lw_bz v1)) u (lw_bz v1) :=
  i_el (P := fun u v => wpX_rewind (fun r u' => wpY_rewind (fun r' v' => r' = r ∧ i_Rel (k + 5) u' v') v (lw_bz v1)) u (lw_bz v1)) I (fun h => v0_rewind h (lw_bz v1)) (fun h q => v1_rewind h q (lw_bz v1))
end
section
/-! flip -/
def i_ff (t : Nat → Nat) (n : Nat) (fr : Nat → Int32) : Nat → Nat → Int32
  | 0 => fr
  | i + 1 => upd (i_ff t n fr i) i (nI (iv_IB t n (fr i).toNatClampNeg))
theorem i_ff_ge {t : Nat → Nat} {n : Nat} {fr : Nat → Int32} : ∀ i j, i ≤ j → i_ff t n fr i j = fr j := by
  intro i
  induction i with
  | zero => intro j _; rfl
  | succ i ih =>
    intro j hj
    rw [i_ff, pk_un (by omega)]
    exact ih j (by omega)
theorem i_ff_lt {t : Nat → Nat} {n : Nat} {fr : Nat → Int32} : ∀ i j, j < i → i_ff t n fr i j = nI (iv_IB t n (fr j).toNatClampNeg) := by
  intro i
  induction i with
  | zero => intro j hj; omega
  | succ i ih =>
    intro j hj
    rw [i_ff]
    by_cases e : j = i
    · rw [e]; exact pk_us
    · rw [pk_un e]; exact ih j (by omega)
def i_tx (t ct : Nat → Nat) (i : Nat) : Nat → Nat := fun j => if j < i then ct j else t j
theorem i_tx_u {t ct : Nat → Nat} {i : Nat} : upd (fun j => nI (i_tx t ct i j)) i (nI (ct i)) = fun j => nI (i_tx t ct (i + 1) j) := by
  funext j
  show (if j = i then nI (ct i) else nI (if j < i then ct j else t j)) = nI (if j < i + 1 then ct j else t j)
  by_cases e : j = i
  · rw [if_pos e, if_pos (by omega), e]
  · rw [if_neg e]
    by_cases e2 : j < i
    · rw [if_pos e2, if_pos (by omega)]
    · rw [if_neg e2, if_neg (by omega)]
theorem i_tx_n {t ct : Nat → Nat} {n : Nat} (h : ∀ i, n ≤ i → ct i = t i) : i_tx t ct n = ct := by
  funext j
  show (if j < n then ct j else t j) = ct j
  by_cases e : j < n
  · rw [if_pos e]
  · rw [if_neg e, h j (by omega)]
theorem i_tx_0 {t ct : Nat → Nat} : i_tx t ct 0 = t := by
  funext j
  show (if j < 0 then ct j else t j) = t j
  rw [if_neg (by omega)]
section
variable {f_textCap f_stackCap f_depthCap f_ready f_size f_stackTop f_point f_frameCount f_symbolTop f_pos f_list f_open f_errorKind f_errorPos f_valueTop f_operatorTop : Int32} {a_text a_cells a_stack a_frames a_listOf a_listEnd a_owner a_stmtEnd a_stmtBegin a_firstA a_firstB a_opAt a_procFirst a_inverse a_invFirst a_invBegin a_symbols a_values a_operators : Nat → Int32} {g_textLimit g_stackLimit g_depthLimit g_length g_stackSize g_depth g_place g_ready g_top g_errorPos : Int32} {b_text b_cells b_stack b_frames b_wants b_inverse b_kinds b_values : Nat → Int32}
variable {tc sc dc n st pt fc k : Nat} {t ct : Nat → Nat} {cl sk fr : Nat → Int32} {T : Nat → Nat → Int32}
theorem xf_73 {post : Int32 → SX → Prop} {p : Nat} (hn : n ≤ 200) (hct : ∀ i, n ≤ i → ct i = t i) (hI : ∀ i, i < n → a_inverse i = nI (ct i))
    (H : wpX_analyse (fun u => match u with | (f_textCap, f_stackCap, f_depthCap, f_ready, f_size, f_stackTop, f_point, f_frameCount, f_symbolTop, f_pos, f_list, f_open, f_errorKind, f_errorPos, f_valueTop, f_operatorTop, a_text, a_cells, a_stack, a_frames, a_listOf, a_listEnd, a_owner, a_stmtEnd, a_stmtBegin, a_firstA, a_firstB, a_opAt, a_procFirst, a_inverse, a_invFirst, a_invBegin, a_symbols, a_values, a_operators) => wpX_buildInverse (fun u => match u with | (f_textCap, f_stackCap, f_depthCap, f_ready, f_size, f_stackTop, f_point, f_frameCount, f_symbolTop, f_pos, f_list, f_open, f_errorKind, f_errorPos, f_valueTop, f_operatorTop, a_text, a_cells, a_stack, a_frames, a_listOf, a_listEnd, a_owner, a_stmtEnd, a_stmtBegin, a_firstA, a_firstB, a_opAt, a_procFirst, a_inverse, a_invFirst, a_invBegin, a_symbols, a_values, a_operators) => post 1 (f_textCap, f_stackCap, f_depthCap, f_ready, f_size, f_stackTop, f_point, f_frameCount, f_symbolTop, f_pos, f_list, f_open, f_errorKind, f_errorPos, f_valueTop, f_operatorTop, a_text, a_cells, a_stack, a_frames, a_listOf, a_listEnd, a_owner, a_stmtEnd, a_stmtBegin, a_firstA, a_firstB, a_opAt, a_procFirst, a_inverse, a_invFirst, a_invBegin, a_symbols, a_values, a_operators)) (f_textCap, f_stackCap, f_depthCap, f_ready, f_size, f_stackTop, f_point, f_frameCount, f_symbolTop, f_pos, f_list, f_open, f_errorKind, f_errorPos, f_valueTop, f_operatorTop, a_text, a_cells, a_stack, a_frames, a_listOf, a_listEnd, a_owner, a_stmtEnd, a_stmtBegin, a_firstA, a_firstB, a_opAt, a_procFirst, a_inverse, a_invFirst, a_invBegin, a_symbols, a_values, a_operators)) (f_textCap, f_stackCap, f_depthCap, f_ready, nI n, f_stackTop, nI p, f_frameCount, f_symbolTop, f_pos, f_list, f_open, f_errorKind, f_errorPos, f_valueTop, f_operatorTop, fun j => nI (ct j), a_cells, a_stack, a_frames, a_listOf, a_listEnd, a_owner, a_stmtEnd, a_stmtBegin, a_firstA, a_firstB, a_opAt, a_procFirst, a_inverse, a_invFirst, a_invBegin, a_symbols, a_values, a_operators)) :
    ∃ m, wX_flip_73 post (nI p) f_textCap f_stackCap f_depthCap f_ready (nI n) f_stackTop f_point f_frameCount f_symbolTop f_pos f_list f_open f_errorKind f_errorPos f_valueTop f_operatorTop m 0 (fun j => nI (t j)) a_cells a_stack a_frames a_listOf a_listEnd a_owner a_stmtEnd a_stmtBegin a_firstA a_firstB a_opAt a_procFirst a_inverse a_invFirst a_invBegin a_symbols a_values a_operators := by
  have loop : ∀ d i, i + d = n → ∀ m, d < m → wX_flip_73 post (nI p) f_textCap f_stackCap f_depthCap f_ready (nI n) f_stackTop f_point f_frameCount f_symbolTop f_pos f_list f_open f_errorKind f_errorPos f_valueTop f_operatorTop m (nI i) (fun j => nI (i_tx t ct i j)) a_cells a_stack a_frames a_listOf a_listEnd a_owner a_stmtEnd a_stmtBegin a_firstA a_firstB a_opAt a_procFirst a_inverse a_invFirst a_invBegin a_symbols a_values a_operators := by
    intro d
    induction d with
    | zero =>
      intro i hi m hm
      have : i = n := by omega
      subst this
      cases m with
      | zero => omega
      | succ m =>
        refine br_t (nI_le (by omega) (by omega)) ?_
        rw [i_tx_n hct]; exact H
    | succ d ih =>
      intro i hi m hm
      cases m with
      | zero => omega
      | succ m =>
        refine br_f (nI_ge (by omega) (by omega)) (And.intro (vp_in_nI (by omega) (by omega)) (And.intro (vp_in_nI (by omega) (by omega)) (nm_e (nm_r (nI_1 i) ?_))))
        rw [nI_clamp (n := i) (by omega), hI i (by omega), i_tx_u]
        exact ih (i + 1) (by omega) m (by omega)
  have := loop n 0 (by omega) (n + 1) (by omega)
  rw [i_tx_0] at this
  exact ⟨n + 1, this⟩
theorem yf_61 {post : Int32 → SY → Prop} (hn : n ≤ 200) (hct : ∀ i, n ≤ i → ct i = t i) (hI : ∀ i, i < n → b_inverse i = nI (ct i))
    (H : post 1 (g_textLimit, g_stackLimit, g_depthLimit, nI n, g_stackSize, g_depth, g_place, g_ready, g_top, g_errorPos, fun j => nI (ct j), b_cells, b_stack, b_frames, b_wants, b_inverse, b_kinds, b_values)) :
    ∃ m, wY_flip_61 post g_textLimit g_stackLimit g_depthLimit (nI n) g_stackSize g_depth g_place g_ready g_top g_errorPos m 0 (fun j => nI (t j)) b_cells b_stack b_frames b_wants b_inverse b_kinds b_values := by
  have loop : ∀ d i, i + d = n → ∀ m, d < m → wY_flip_61 post g_textLimit g_stackLimit g_depthLimit (nI n) g_stackSize g_depth g_place g_ready g_top g_errorPos m (nI i) (fun j => nI (i_tx t ct i j)) b_cells b_stack b_frames b_wants b_inverse b_kinds b_values := by
    intro d
    induction d with
    | zero =>
      intro i hi m hm
      have : i = n := by omega
      subst this
      cases m with
      | zero => omega
      | succ m =>
        refine br_t (nI_le (by omega) (by omega)) ?_
        rw [i_tx_n hct]; exact H
    | succ d ih =>
      intro i hi m hm
      cases m with
      | zero => omega
      | succ m =>
        refine br_f (nI_ge (by omega) (by omega)) (And.intro (vp_in_nI (by omega) (by omega)) (And.intro (vp_in_nI (by omega) (by omega)) (nm_e (nm_r (nI_1 i) ?_))))
        rw [nI_clamp (n := i) (by omega), hI i (by omega), i_tx_u]
        exact ih (i + 1) (by omega) m (by omega)
  have := loop n 0 (by omega) (n + 1) (by omega)
  rw [i_tx_0] at this
  exact ⟨n + 1, this⟩
theorem xf_40 {post : Int32 → SX → Prop} {p : Nat} (hn : n ≤ 200) (hfc : fc ≤ 8) (hfr : sp_fr t n a_frames fc) (hB : ∀ s q, sc_bg t s → gr_s t s q → q < n → a_invBegin s = nI (iv_IB t n s))
    (H : ∃ m, wX_flip_73 post (nI p) f_textCap f_stackCap f_depthCap f_ready f_size f_stackTop f_point (nI fc) f_symbolTop f_pos f_list f_open f_errorKind f_errorPos f_valueTop f_operatorTop m 0 a_text a_cells a_stack (i_ff t n a_frames fc) a_listOf a_listEnd a_owner a_stmtEnd a_stmtBegin a_firstA a_firstB a_opAt a_procFirst a_inverse a_invFirst a_invBegin a_symbols a_values a_operators) :
    ∃ m, wX_flip_40 post (nI p) f_textCap f_stackCap f_depthCap f_ready f_size f_stackTop f_point (nI fc) f_symbolTop f_pos f_list f_open f_errorKind f_errorPos f_valueTop f_operatorTop m 0 a_text a_cells a_stack a_frames a_listOf a_listEnd a_owner a_stmtEnd a_stmtBegin a_firstA a_firstB a_opAt a_procFirst a_inverse a_invFirst a_invBegin a_symbols a_values a_operators := by
  have loop : ∀ d i, i + d = fc → ∀ m, d < m → wX_flip_40 post (nI p) f_textCap f_stackCap f_depthCap f_ready f_size f_stackTop f_point (nI fc) f_symbolTop f_pos f_list f_open f_errorKind f_errorPos f_valueTop f_operatorTop m (nI i) a_text a_cells a_stack (i_ff t n a_frames i) a_listOf a_listEnd a_owner a_stmtEnd a_stmtBegin a_firstA a_firstB a_opAt a_procFirst a_inverse a_invFirst a_invBegin a_symbols a_values a_operators := by
    intro d
    induction d with
    | zero =>
      intro i hi m hm
      have : i = fc := by omega
      subst this
      cases m with
      | zero => omega
      | succ m => exact br_t (nI_le (by omega) (by omega)) H
    | succ d ih =>
      intro i hi m hm
      cases m with
      | zero => omega
      | succ m =>
        obtain ⟨s, h1, h2, h3, h4⟩ := hfr i (by omega)
        have hv : vp_in (nI i) 8 := vp_in_nI (by omega) (by omega)
        have ef : i_ff t n a_frames i i = nI s := (i_ff_ge i i (Nat.le_refl _)).trans h2
        refine br_f (nI_ge (by omega) (by omega)) (And.intro hv (And.intro ?_ (And.intro hv (nm_e (nm_r (nI_1 i) ?_)))))
        · rw [nI_clamp (n := i) (by omega), ef]
          exact vp_in_nI (by omega) (by omega)
        · have e1 : upd (i_ff t n a_frames i) i (nI (iv_IB t n s)) = i_ff t n a_frames (i + 1) := by
            rw [i_ff, h2, nI_clamp (n := s) (by omega)]
          rw [nI_clamp (n := i) (by omega), ef, nI_clamp (n := s) (by omega), hB s (s + 2) h3 (Or.inr (Or.inr (Or.inl h4))) (by omega), e1]
          exact ih (i + 1) (by omega) m (by omega)
  exact ⟨fc + 1, loop fc 0 (by omega) (fc + 1) (by omega)⟩
theorem yf_28 {post : Int32 → SY → Prop} (X : xp_tx t n) (hG : gr_G t n) (hfc : fc ≤ 8) (hfr : sp_fr t n b_frames fc)
    (H : ∃ m, wY_flip_61 post g_textLimit g_stackLimit g_depthLimit (nI n) g_stackSize (nI fc) g_place g_ready g_top g_errorPos m 0 (fun j => nI (t j)) b_cells b_stack (i_ff t n b_frames fc) b_wants b_inverse b_kinds b_values) :
    ∃ m, wY_flip_28 post g_textLimit g_stackLimit g_depthLimit (nI n) g_stackSize (nI fc) g_place g_ready g_top g_errorPos m 0 (fun j => nI (t j)) b_cells b_stack b_frames b_wants b_inverse b_kinds b_values := by
  have hn := X.1
  have loop : ∀ d i, i + d = fc → ∀ m, d < m → wY_flip_28 post g_textLimit g_stackLimit g_depthLimit (nI n) g_stackSize (nI fc) g_place g_ready g_top g_errorPos m (nI i) (fun j => nI (t j)) b_cells b_stack (i_ff t n b_frames i) b_wants b_inverse b_kinds b_values := by
    intro d
    induction d with
    | zero =>
      intro i hi m hm
      have : i = fc := by omega
      subst this
      cases m with
      | zero => omega
      | succ m => exact br_t (nI_le (by omega) (by omega)) H
    | succ d ih =>
      intro i hi m hm
      cases m with
      | zero => omega
      | succ m =>
        obtain ⟨s, h1, h2, h3, h4⟩ := hfr i (by omega)
        have hv : vp_in (nI i) 8 := vp_in_nI (by omega) (by omega)
        have ef : i_ff t n b_frames i i = nI s := (i_ff_ge i i (Nat.le_refl _)).trans h2
        have e1 : upd (i_ff t n b_frames i) i (nI (iv_IB t n s)) = i_ff t n b_frames (i + 1) := by
          rw [i_ff, h2, nI_clamp (n := s) (by omega)]
        have h0 := h4.1
        have hM : iv_M t n s (iv_IB t n s) := Or.inr ⟨s, s + 2, h3, h1, Or.inr (Or.inr (Or.inl h4)), Nat.le_refl _, by omega, Or.inl ⟨by omega, by omega, by omega⟩⟩
        refine br_f (nI_ge (by omega) (by omega)) (And.intro hv ?_)
        rw [nI_clamp (n := i) (by omega), ef]
        refine yi_char X hG (by omega) hM (And.intro hv (nm_e (nm_r (nI_1 i) ?_)))
        rw [e1]
        exact ih (i + 1) (by omega) m (by omega)
  exact ⟨fc + 1, loop fc 0 (by omega) (fc + 1) (by omega)⟩
theorem v0_flip (hW : i_W tc sc dc n st t) : wpX_flip (fun r u' => wpY_flip (fun r' v' => r' = r ∧ i_Rel k u' v') (nI tc, nI sc, nI dc, nI n, nI st, 0, 0, 0, g_top, g_errorPos, fun j => nI (t j), cl, sk, fr, b_wants, b_inverse, b_kinds, b_values)) (nI tc, nI sc, nI dc, 0, nI n, nI st, 0, 0, f_symbolTop, f_pos, f_list, f_open, f_errorKind, f_errorPos, f_valueTop, f_operatorTop, fun j => nI (t j), cl, sk, fr, a_listOf, a_listEnd, a_owner, a_stmtEnd, a_stmtBegin, a_firstA, a_firstB, a_opAt, a_procFirst, a_inverse, a_invFirst, a_invBegin, a_symbols, a_values, a_operators) :=
  br_t rfl (br_t rfl ⟨rfl, i_in0 hW⟩)
theorem i_Q_flip (hC : iv_C t n ct) {l e : Nat} (hpt : sc_pt t n pt l e) (R : sp_R t n sc dc T a_procFirst) (Xc : xp_tx ct n) (I : sp_I t n sc dc fr fc pt st) : sp_nd ct n ∧ sp_I ct n sc dc (i_ff t n fr fc) fc (iv_IF t n l + (e - pt)) st := by
  obtain ⟨X, hG, hT, hpr, hnd, h1, h2⟩ := R
  obtain ⟨i1, i2, i3, i4, i5, i6, i7⟩ := I
  have hn := X.1
  obtain ⟨p1, p2, p3⟩ := nt_pt hG hC hpt
  refine ⟨nt_nd hG hC hnd, p1, p2, i3, fun i hi => ?_, p3.trans i5, fun i s hi hs he => ?_, i7⟩
  · obtain ⟨s, s1, s2, s3, s4⟩ := i4 i hi
    obtain ⟨c1, c2, c3, c4⟩ := nt_call hG hC s3 s4 s1
    refine ⟨iv_IB t n s, c1, ?_, c2, c3⟩
    rw [i_ff_lt fc i hi, s2, nI_clamp (n := s) (by omega)]
  · obtain ⟨s', s1, s2, s3, s4⟩ := i4 i hi
    obtain ⟨c1, c2, c3, c4⟩ := nt_call hG hC s3 s4 s1
    rw [i_ff_lt fc i hi, s2, nI_clamp (n := s') (by omega)] at he
    have : iv_IB t n s' = s := (nI_eq (by omega) (by omega)).mp he
    rw [← this]
    exact c4.trans (i6 i s' hi (by omega) s2)
theorem v1_flip (hW : i_W tc sc dc n st t) (hQ : i_Q t n sc dc T a_procFirst a_inverse a_invFirst a_invBegin fr fc pt st) : wpX_flip (fun r u' => wpY_flip (fun r' v' => r' = r ∧ i_Rel k u' v') (nI tc, nI sc, nI dc, nI n, nI (st), nI (fc), nI (pt), 1, g_top, g_errorPos, fun j => nI (t j), cl, sk, fr, b_wants, b_inverse, b_kinds, b_values)) (nI tc, nI sc, nI dc, 1, nI n, nI (st), nI (pt), nI (fc), f_symbolTop, f_pos, f_list, f_open, f_errorKind, f_errorPos, f_valueTop, f_operatorTop, fun j => nI (t j), cl, sk, fr, T 0, T 1, T 2, T 3, T 4, T 5, T 6, T 7, a_procFirst, a_inverse, a_invFirst, a_invBegin, a_symbols, a_values, a_operators) := by
  have hfc := i_Q_fc hW hQ
  obtain ⟨R, I, ct, hC, Xc, hct, hF⟩ := hQ
  have X := R.1
  have hn := X.1
  have hG := R.2.1
  have hT := R.2.2.1
  have hptn := I.1
  obtain ⟨l, e, hpt⟩ := sc_pts hG pt hptn I.2.1
  have hGc := nt_G hG hC
  obtain ⟨hndc, Ic⟩ := i_Q_flip hC hpt R Xc I
  have hne := Ic.1
  have hfst := sc_pt_fst hpt
  have t0 : T 0 pt = nI l := by
    rw [hT.2 0 pt hptn ⟨I.2.1, Or.inl rfl⟩, xt_S0, hfst]
  obtain ⟨p1, p2, p3, p4, p5, p6⟩ := id hpt
  have hlpt : sc_pt t n l l e := ⟨Nat.le_refl _, by omega, p3, p4, gr_l_nil, gr_l_app p5 p6⟩
  have hbl : sc_bg t l := sc_bg_in p4 gr_l_nil
  have t1 : T 1 l = nI e := by
    rw [hT.2 1 l (by omega) ⟨hbl, Or.inr (Or.inl ⟨rfl, ?_⟩)⟩, xt_S1, sc_pt_end hlpt]
    rcases p4 with h | ⟨s0, a, ea, eb, q0, _, _, hB, h⟩
    · rcases h.1 with h | ⟨h1, h2, _⟩
      · exact Or.inl h
      · exact Or.inr (Or.inr ⟨h1, h2⟩)
    · rcases h with ⟨h, _⟩ | ⟨h, _⟩
      · right; left; rw [h]; exact hB.2.2.1
      · right; left; rw [h]; exact hB.2.2.2.2.2.2.1
  have hIF := hF.2.1 pt l e hpt
  have V : ∀ {k : Nat}, k ≤ 200 → vp_in (nI k) 201 := fun h => vp_in_nI (by omega) (by omega)
  unfold wpX_flip
  refine br_f (by decide) (And.intro (V (by omega)) (nm_r (e' := nI l) (by rw [nI_clamp (n := pt) (by omega)]; exact t0) (And.intro (V (by omega)) (And.intro (V (by omega)) (nm_r (e' := nI (iv_IF t n l + (e - pt))) ?_ ?_)))))
  · rw [nI_clamp (n := l) (by omega), hIF, t1, nI_add, pk_sub (by omega)]
    congr 1; omega
  refine xf_40 (t := t) (n := n) hn hfc I.2.2.2.1 hF.2.2 (xf_73 hn hct hF.1 (xa_good Xc hGc (fun T' _ _ _ pf' _ ek ep hT' hpr' _ => ?_)))
  obtain ⟨ct2, hC2, Xc2, hct2⟩ := nt_ex Xc hGc
  refine xb_build Xc hGc hC2 hT' (fun inv2 iF2 iB2 hF2 => ?_)
  unfold wpY_flip
  refine br_f (by decide) (yi_write X hG hC (fun binv hb => yi_point X hG hpt (yf_28 X hG hfc I.2.2.2.1 (yf_61 hn hct hb ⟨rfl, ?_⟩))))
  exact i_in1 (t := ct) (pt := iv_IF t n l + (e - pt)) (fr := i_ff t n fr fc) (T := T') ⟨hW.1, hW.2.1, hW.2.2.1, hW.2.2.2.1, hW.2.2.2.2.1, hW.2.2.2.2.2.1, hW.2.2.2.2.2.2.1, Xc, hW.2.2.2.2.2.2.2.2⟩ ⟨⟨Xc, hGc, hT', hpr', hndc, R.2.2.2.2.2.1, R.2.2.2.2.2.2⟩, Ic, ct2, hC2, Xc2, hct2, hF2⟩
end
end
section
theorem i_vc_flip {k : Nat} {u : SX} {v : SY} (I : i_Rel k u v) (_hk : k + 5 ≤ 2563) : wpX_flip (fun r u' => wpY_flip (fun r' v' => r' = r ∧ i_Rel (k + 5) u' v') v) u :=
  i_el (P := fun u v => wpX_flip (fun r u' => wpY_flip (fun r' v' => r' = r ∧ i_Rel (k + 5) u' v') v) u) I (fun h => v0_flip h) (fun h q => v1_flip h q)
end
