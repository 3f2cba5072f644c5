section
/-! pure rows to paste: stores, nI and lN arithmetic, masks, shifts, narrowing, branches by naturals (pk_le, pk_lt, pk_eq), loops (lp1 .. lp16: the measure of the state; rp1 ..: recursion), negatives. Take what you need -/
theorem pk_us {f : Nat → Int32} {k : Nat} {x : Int32} : upd f k x k = x := if_pos rfl
theorem pk_un {f : Nat → Int32} {k j : Nat} {x : Int32} (h : j ≠ k) : upd f k x j = f j := if_neg h
theorem pk_uLs {f : Nat → Int64} {k : Nat} {x : Int64} : vp_updL f k x k = x := if_pos rfl
theorem pk_uLn {f : Nat → Int64} {k j : Nat} {x : Int64} (h : j ≠ k) : vp_updL f k x j = f j := if_neg h
theorem pk_sub {a b : Nat} (h : b ≤ a) : nI a - nI b = nI (a - b) := by
  obtain ⟨c, rfl⟩ : ∃ c, a = c + b := ⟨a - b, by omega⟩
  rw [← nI_add, Int32.add_sub_cancel, Nat.add_sub_cancel]
theorem pk_m1 (n : Nat) : nI (n + 1) + (-1) = nI n := by
  rw [← nI_1, Int32.add_assoc, show (1 : Int32) + (-1) = 0 from rfl, Int32.add_zero]
theorem pk_mul (a b : Nat) : nI a * nI b = nI (a * b) := (Int32.ofNat_mul a b).symm
theorem pk_div {a d : Nat} (ha : a < 2 ^ 31) (h0 : 0 < d) (hd : d < 2 ^ 31) : nI a / nI d = nI (a / d) := by
  apply Int32.toInt_inj.mp
  rw [lg_idiv_nonneg (by rw [nI_toInt ha]; omega) (by rw [nI_toInt hd]; omega), nI_toInt ha, nI_toInt hd, nI_toInt (Nat.lt_of_le_of_lt (Nat.div_le_self a d) ha)]
  first | rfl | exact (Int.natCast_ediv _ _).symm
theorem pk_rem {a d : Nat} (ha : a < 2 ^ 31) (h0 : 0 < d) (hd : d < 2 ^ 31) : nI a - nI a / nI d * nI d = nI (a % d) := by
  rw [pk_div ha h0 hd, pk_mul, pk_sub (Nat.div_mul_le_self a d)]
  exact congrArg nI (by have := Nat.div_add_mod' a d; omega)
theorem pk_sub_toInt {a b : Nat} (ha : a < 2 ^ 30) (hb : b < 2 ^ 30) : (nI a - nI b).toInt = (a : Int) - b := by
  rw [Int32.toInt_sub, nI_toInt (by omega), nI_toInt (by omega)]
  exact Int.bmod_eq_of_le (by omega) (by omega)
theorem pk_sneg {a b : Nat} (hb : b < 2 ^ 30) (h : a < b) : nI a - nI b < 0 := by
  rw [Int32.lt_iff_toInt_lt, pk_sub_toInt (by omega) hb, show (0 : Int32).toInt = 0 from by decide]
  omega
theorem pk_ix (x : Int32) {n : Nat} (hn : n < 2 ^ 31) : x < 0 ∨ nI n ≤ x ∨ ∃ j : Nat, j < n ∧ x = nI j := by
  by_cases h : x < 0
  · exact Or.inl h
  · obtain ⟨j, hj, rfl⟩ := nI_of h
    by_cases h2 : j < n
    · exact Or.inr (Or.inr ⟨j, h2, rfl⟩)
    · exact Or.inr (Or.inl (nI_le (by omega) hj))
theorem pk_le {x y : Int32} {A B : Prop} (a b : Nat) (f : a ≤ b → A) (g : b < a → B) (hx : x = nI a := by rfl) (hy : y = nI b := by rfl) (ha : a < 2 ^ 31 := by omega) (hb : b < 2 ^ 31 := by omega) : (x ≤ y → A) ∧ (¬ x ≤ y → B) := by
  subst hx hy
  rw [nI_leI ha hb]
  exact ⟨f, fun z => g (by omega)⟩
theorem pk_lt {x y : Int32} {A B : Prop} (a b : Nat) (f : a < b → A) (g : b ≤ a → B) (hx : x = nI a := by rfl) (hy : y = nI b := by rfl) (ha : a < 2 ^ 31 := by omega) (hb : b < 2 ^ 31 := by omega) : (x < y → A) ∧ (¬ x < y → B) := by
  subst hx hy
  rw [nI_ltI ha hb]
  exact ⟨f, fun z => g (by omega)⟩
theorem pk_eq {x y : Int32} {A B : Prop} (a b : Nat) (f : a = b → A) (g : a ≠ b → B) (hx : x = nI a := by rfl) (hy : y = nI b := by rfl) (ha : a < 2 ^ 31 := by omega) (hb : b < 2 ^ 31 := by omega) : (x = y → A) ∧ (¬ x = y → B) := by
  subst hx hy
  rw [nI_eq ha hb]
  exact ⟨f, g⟩
theorem pk_in {x : Int32} (n N : Nat) (h : n < N) (hx : x = nI n := by rfl) (hN : N < 2 ^ 31 := by omega) : vp_in x N := by
  subst hx
  exact vp_in_nI h hN
theorem pk_cl {x : Int32} (n : Nat) (hx : x = nI n := by rfl) (h : n < 2 ^ 31 := by omega) : x.toNatClampNeg = n := by
  subst hx
  exact nI_clamp h
theorem pk_tn {n : Nat} (h : n < 2 ^ 32) : (nI n).toBitVec.toNat = n := Nat.mod_eq_of_lt h
theorem pk_and (x : Int32) {m : Int32} (k : Nat) (hm : m.toBitVec.toNat = 2 ^ k - 1) : x &&& m = nI (x.toBitVec.toNat % 2 ^ k) := by
  apply Int32.toBitVec_inj.mp
  apply BitVec.eq_of_toNat_eq
  rw [Int32.toBitVec_and, BitVec.toNat_and, hm, Nat.and_two_pow_sub_one_eq_mod]
  show _ = (BitVec.ofNat 32 _).toNat
  rw [BitVec.toNat_ofNat]
  exact (Nat.mod_eq_of_lt (Nat.lt_of_le_of_lt (Nat.mod_le _ _) x.toBitVec.isLt)).symm
theorem pk_andN {n : Nat} (h : n < 2 ^ 32) {m : Int32} (k : Nat) (hm : m.toBitVec.toNat = 2 ^ k - 1) : nI n &&& m = nI (n % 2 ^ k) := by
  rw [pk_and _ k hm, pk_tn h]
theorem pk_andE (x : Int32) {m : Int32} (k : Nat) (hm : m.toBitVec.toNat = 2 ^ k - 1) : ∃ j : Nat, j < 2 ^ k ∧ x &&& m = nI j := ⟨_, Nat.mod_lt _ (Nat.two_pow_pos k), pk_and x k hm⟩
theorem pk_andIn (x : Int32) {m : Int32} (k : Nat) (hm : m.toBitVec.toNat = 2 ^ k - 1) (hk : k ≤ 30) : vp_in (x &&& m) (2 ^ k) := by
  obtain ⟨j, hj, e⟩ := pk_andE x k hm
  rw [e]
  exact vp_in_nI hj (Nat.lt_of_le_of_lt (Nat.pow_le_pow_right (by decide) hk) (by decide))
theorem pk_shl (a s : Int32) (k : Nat) (hs : (s.toBitVec.smod 32).toNat = k) : (a <<< s).toBitVec.toNat = a.toBitVec.toNat * 2 ^ k % 2 ^ 32 := by
  show (a.toBitVec <<< (s.toBitVec.smod 32).toNat).toNat = _
  rw [hs, BitVec.toNat_shiftLeft, Nat.shiftLeft_eq]
theorem pk_shlN {n : Nat} (s : Int32) (k : Nat) (hs : (s.toBitVec.smod 32).toNat = k) (h : n * 2 ^ k < 2 ^ 32) : nI n <<< s = nI (n * 2 ^ k) := by
  apply Int32.toBitVec_inj.mp
  apply BitVec.eq_of_toNat_eq
  have hn : n < 2 ^ 32 := Nat.lt_of_le_of_lt (Nat.le_mul_of_pos_right n (Nat.two_pow_pos k)) h
  rw [pk_shl _ _ k hs, pk_tn hn, pk_tn h, Nat.mod_eq_of_lt h]
theorem pk_shr (a s : Int32) (k : Nat) (hs : (s.toBitVec.smod 32).toNat = k) : (a >>> s).toInt = a.toInt >>> k := by
  show (a.toBitVec.sshiftRight (s.toBitVec.smod 32).toNat).toInt = _
  rw [hs, BitVec.toInt_sshiftRight]
  rfl
theorem pk_shrN {n : Nat} (h : n < 2 ^ 31) (s : Int32) (k : Nat) (hs : (s.toBitVec.smod 32).toNat = k) : nI n >>> s = nI (n / 2 ^ k) := by
  apply Int32.toInt_inj.mp
  have h2 : n / 2 ^ k ≤ n := Nat.div_le_self _ _
  rw [pk_shr _ _ k hs, nI_toInt h, nI_toInt (by omega), Int.shiftRight_eq_div_pow]
  rfl
theorem pk_ushr (x s : Int32) (k : Nat) (hs : ((s.toUInt32 &&& Int32.toUInt32 31).toBitVec % 32).toNat = k) : (x.toUInt32 >>> (s.toUInt32 &&& Int32.toUInt32 31)).toInt32.toBitVec.toNat = x.toBitVec.toNat / 2 ^ k := by
  have e : (x.toUInt32 >>> (s.toUInt32 &&& Int32.toUInt32 31)).toInt32.toBitVec = x.toBitVec >>> k := by
    rw [← hs]
    exact UInt32.toBitVec_shiftRight _ _
  rw [e, BitVec.toNat_ushiftRight, Nat.shiftRight_eq_div_pow]
theorem pk_ushrN {n : Nat} (hn : n < 2 ^ 32) (s : Int32) (k : Nat) (hs : ((s.toUInt32 &&& Int32.toUInt32 31).toBitVec % 32).toNat = k) : ((nI n).toUInt32 >>> (s.toUInt32 &&& Int32.toUInt32 31)).toInt32 = nI (n / 2 ^ k) := by
  apply Int32.toBitVec_inj.mp
  apply BitVec.eq_of_toNat_eq
  rw [pk_ushr _ s k hs, pk_tn hn, pk_tn (Nat.lt_of_le_of_lt (Nat.div_le_self _ _) hn)]
theorem pk_nb (z : Int32) : narrow .byte (.int z.toInt8.toInt32) = .int z.toInt8.toInt32 := congrArg Value.int (by simp)
theorem pk_ns (z : Int32) : narrow .short (.int z.toInt16.toInt32) = .int z.toInt16.toInt32 := congrArg Value.int (by simp)
theorem pk_fb (r : Int32) : fits .byte (.int r.toInt8.toInt32) = true := by
  have ⟨a, b⟩ := lg_i2b_range r
  have h1 : (-128 : Int32).toInt = -128 := by decide
  have h2 : (127 : Int32).toInt = 127 := by decide
  simp only [fits, Bool.and_eq_true, decide_eq_true_eq, Int32.le_iff_toInt_le, h1, h2]
  omega
theorem pk_fs (r : Int32) : fits .short (.int r.toInt16.toInt32) = true := by
  have ⟨a, b⟩ := lg_i2s_range r
  have h1 : (-32768 : Int32).toInt = -32768 := by decide
  have h2 : (32767 : Int32).toInt = 32767 := by decide
  simp only [fits, Bool.and_eq_true, decide_eq_true_eq, Int32.le_iff_toInt_le, h1, h2]
  omega
theorem pk_charN {q : Nat} (hq : q < 65536) : narrow .char (.int (nI q)) = .int (nI q) ∧ fits .char (.int (nI q)) = true := by
  constructor
  · have e : (nI q).toUInt32.toUInt16.toUInt32.toInt32 = nI q := by
      apply Int32.toBitVec_inj.mp
      apply BitVec.eq_of_toNat_eq
      show (nI q).toUInt32.toUInt16.toUInt32.toNat = q % 2 ^ 32
      rw [UInt16.toNat_toUInt32, UInt32.toNat_toUInt16, show (nI q).toUInt32.toNat = q % 2 ^ 32 from rfl]
      omega
    exact congrArg Value.int e
  · have a : (0 : Int32) ≤ nI q := nI_pos' (by omega)
    have b : nI q ≤ 65535 := nI_le (b := 65535) (by omega) (by decide)
    show (decide ((0 : Int32) ≤ nI q) && decide (nI q ≤ 65535)) = true
    rw [decide_eq_true a, decide_eq_true b]
    rfl
theorem pk_char (x : Int32) : (x.toUInt32 % 65536).toInt32 = nI (x.toBitVec.toNat % 65536) := by
  apply Int32.toBitVec_inj.mp
  apply BitVec.eq_of_toNat_eq
  rw [pk_tn (by omega)]
  show (x.toUInt32 % 65536).toNat = _
  rw [UInt32.toNat_mod]
  rfl
theorem pk_nc (x : Int32) : narrow .char (.int (x.toUInt32 % 65536).toInt32) = .int (x.toUInt32 % 65536).toInt32 := by
  rw [pk_char]
  exact (pk_charN (Nat.mod_lt _ (by decide))).1
theorem pk_fc (x : Int32) : fits .char (.int (x.toUInt32 % 65536).toInt32) = true := by
  rw [pk_char]
  exact (pk_charN (Nat.mod_lt _ (by decide))).2
theorem pk_vb (z : Int32) : vp_nar .byte z.toInt8.toInt32 = z.toInt8.toInt32 := by rw [vp_nar_byte]; simp
theorem pk_vs (z : Int32) : vp_nar .short z.toInt16.toInt32 = z.toInt16.toInt32 := by rw [vp_nar_short]; simp
theorem pk_vc (z : Int32) : vp_nar .char (z.toUInt32 % 65536).toInt32 = (z.toUInt32 % 65536).toInt32 := Value.int.inj (pk_nc z)
theorem pk_lT {n : Nat} (h : n < 2 ^ 63) : (lN n).toInt = (n : Int) := lg_ofNat_toInt h
theorem pk_lLT {a b : Nat} (ha : a < 2 ^ 63) (hb : b < 2 ^ 63) : lN a < lN b ↔ a < b := by
  rw [Int64.lt_iff_toInt_lt, pk_lT ha, pk_lT hb]; omega
theorem pk_lLE {a b : Nat} (ha : a < 2 ^ 63) (hb : b < 2 ^ 63) : lN a ≤ lN b ↔ a ≤ b := by
  rw [Int64.le_iff_toInt_le, pk_lT ha, pk_lT hb]; omega
theorem pk_lEQ {a b : Nat} (ha : a < 2 ^ 63) (hb : b < 2 ^ 63) : lN a = lN b ↔ a = b := by
  rw [← Int64.toInt_inj, pk_lT ha, pk_lT hb]; omega
theorem pk_lOf {x : Int64} (h : ¬ x < 0) : ∃ k : Nat, k < 2 ^ 63 ∧ x = lN k := by
  rw [Int64.lt_iff_toInt_lt] at h
  have h0 : (0 : Int64).toInt = 0 := by decide
  have hx := Int64.toInt_lt x
  refine ⟨x.toInt.toNat, by omega, Int64.toInt_inj.mp ?_⟩
  rw [pk_lT (by omega)]
  omega
theorem pk_lDiv {a b : Nat} (ha : a < 2 ^ 63) (h0 : 0 < b) (hb : b < 2 ^ 63) : lN a / lN b = lN (a / b) := by
  apply Int64.toInt_inj.mp
  rw [lg_ldiv_nonneg (by rw [pk_lT ha]; omega) (by rw [pk_lT hb]; omega), pk_lT ha, pk_lT hb, pk_lT (Nat.lt_of_le_of_lt (Nat.div_le_self a b) ha)]
  rfl
theorem pk_lRem {a b : Nat} (ha : a < 2 ^ 63) (h0 : 0 < b) (hb : b < 2 ^ 63) : lN a - lN a / lN b * lN b = lN (a % b) := by
  rw [pk_lDiv ha h0 hb, lN_mul, lN_sub (Nat.div_mul_le_self a b)]
  exact congrArg lN (by have := Nat.div_add_mod' a b; omega)
theorem pk_loop {σ : Type} (W : Nat → Nat → σ → Prop) (I : Nat → σ → Prop) (e i0 : Nat) (s : σ) (hi : i0 ≤ e) (h0 : I i0 s) (hx : ∀ n s, I e s → W (n + 1) e s)
    (hs : ∀ n i s, i < e → I i s → (∀ s', I (i + 1) s' → W n (i + 1) s') → W (n + 1) i s) : ∃ n, W n i0 s :=
  ⟨e + 1, loop_i W I e hx hs (e + 1) i0 s hi (by omega) h0⟩
theorem pk_loopD {σ : Type} (W : Nat → Nat → σ → Prop) (I : Nat → σ → Prop) (hx : ∀ n s, I 0 s → W (n + 1) 0 s)
    (hs : ∀ n i s, I (i + 1) s → (∀ s', I i s' → W n i s') → W (n + 1) (i + 1) s) : ∀ (e : Nat) (s : σ), I e s → W (e + 1) e s := by
  intro e
  induction e with
  | zero => exact fun s h => hx 0 s h
  | succ e ih => exact fun s h => hs (e + 1) e s h (fun s' h' => ih s' h')
theorem lp1 {A1 : Type} (W : Nat → A1 → Prop) (I : A1 → Prop) (μ : A1 → Nat) (hs : ∀ (n : Nat) (a1 : A1), I a1 → (∀ (b1 : A1), I b1 → μ b1 < μ a1 → W n b1) → W (n + 1) a1) (a1 : A1) (h : I a1) : ∃ n, W n a1 :=
  loop_m (σ := A1) (fun n s => W n s) (fun s => I s) (fun s => μ s) (fun n s hI hk => hs n s hI (fun b1 h9 hm => hk b1 h9 hm)) a1 h
theorem lp2 {A1 A2 : Type} (W : Nat → A1 → A2 → Prop) (I : A1 → A2 → Prop) (μ : A1 → A2 → Nat) (hs : ∀ (n : Nat) (a1 : A1) (a2 : A2), I a1 a2 → (∀ (b1 : A1) (b2 : A2), I b1 b2 → μ b1 b2 < μ a1 a2 → W n b1 b2) → W (n + 1) a1 a2) (a1 : A1) (a2 : A2) (h : I a1 a2) : ∃ n, W n a1 a2 :=
  loop_m (σ := A1 × A2) (fun n s => W n s.1 s.2) (fun s => I s.1 s.2) (fun s => μ s.1 s.2) (fun n s hI hk => hs n s.1 s.2 hI (fun b1 b2 h9 hm => hk (b1, b2) h9 hm)) (a1, a2) h
theorem lp3 {A1 A2 A3 : Type} (W : Nat → A1 → A2 → A3 → Prop) (I : A1 → A2 → A3 → Prop) (μ : A1 → A2 → A3 → Nat) (hs : ∀ (n : Nat) (a1 : A1) (a2 : A2) (a3 : A3), I a1 a2 a3 → (∀ (b1 : A1) (b2 : A2) (b3 : A3), I b1 b2 b3 → μ b1 b2 b3 < μ a1 a2 a3 → W n b1 b2 b3) → W (n + 1) a1 a2 a3) (a1 : A1) (a2 : A2) (a3 : A3) (h : I a1 a2 a3) : ∃ n, W n a1 a2 a3 :=
  loop_m (σ := A1 × A2 × A3) (fun n s => W n s.1 s.2.1 s.2.2) (fun s => I s.1 s.2.1 s.2.2) (fun s => μ s.1 s.2.1 s.2.2) (fun n s hI hk => hs n s.1 s.2.1 s.2.2 hI (fun b1 b2 b3 h9 hm => hk (b1, b2, b3) h9 hm)) (a1, a2, a3) h
theorem lp4 {A1 A2 A3 A4 : Type} (W : Nat → A1 → A2 → A3 → A4 → Prop) (I : A1 → A2 → A3 → A4 → Prop) (μ : A1 → A2 → A3 → A4 → Nat) (hs : ∀ (n : Nat) (a1 : A1) (a2 : A2) (a3 : A3) (a4 : A4), I a1 a2 a3 a4 → (∀ (b1 : A1) (b2 : A2) (b3 : A3) (b4 : A4), I b1 b2 b3 b4 → μ b1 b2 b3 b4 < μ a1 a2 a3 a4 → W n b1 b2 b3 b4) → W (n + 1) a1 a2 a3 a4) (a1 : A1) (a2 : A2) (a3 : A3) (a4 : A4) (h : I a1 a2 a3 a4) : ∃ n, W n a1 a2 a3 a4 :=
  loop_m (σ := A1 × A2 × A3 × A4) (fun n s => W n s.1 s.2.1 s.2.2.1 s.2.2.2) (fun s => I s.1 s.2.1 s.2.2.1 s.2.2.2) (fun s => μ s.1 s.2.1 s.2.2.1 s.2.2.2) (fun n s hI hk => hs n s.1 s.2.1 s.2.2.1 s.2.2.2 hI (fun b1 b2 b3 b4 h9 hm => hk (b1, b2, b3, b4) h9 hm)) (a1, a2, a3, a4) h
theorem lp5 {A1 A2 A3 A4 A5 : Type} (W : Nat → A1 → A2 → A3 → A4 → A5 → Prop) (I : A1 → A2 → A3 → A4 → A5 → Prop) (μ : A1 → A2 → A3 → A4 → A5 → Nat) (hs : ∀ (n : Nat) (a1 : A1) (a2 : A2) (a3 : A3) (a4 : A4) (a5 : A5), I a1 a2 a3 a4 a5 → (∀ (b1 : A1) (b2 : A2) (b3 : A3) (b4 : A4) (b5 : A5), I b1 b2 b3 b4 b5 → μ b1 b2 b3 b4 b5 < μ a1 a2 a3 a4 a5 → W n b1 b2 b3 b4 b5) → W (n + 1) a1 a2 a3 a4 a5) (a1 : A1) (a2 : A2) (a3 : A3) (a4 : A4) (a5 : A5) (h : I a1 a2 a3 a4 a5) : ∃ n, W n a1 a2 a3 a4 a5 :=
  loop_m (σ := A1 × A2 × A3 × A4 × A5) (fun n s => W n s.1 s.2.1 s.2.2.1 s.2.2.2.1 s.2.2.2.2) (fun s => I s.1 s.2.1 s.2.2.1 s.2.2.2.1 s.2.2.2.2) (fun s => μ s.1 s.2.1 s.2.2.1 s.2.2.2.1 s.2.2.2.2) (fun n s hI hk => hs n s.1 s.2.1 s.2.2.1 s.2.2.2.1 s.2.2.2.2 hI (fun b1 b2 b3 b4 b5 h9 hm => hk (b1, b2, b3, b4, b5) h9 hm)) (a1, a2, a3, a4, a5) h
theorem lp6 {A1 A2 A3 A4 A5 A6 : Type} (W : Nat → A1 → A2 → A3 → A4 → A5 → A6 → Prop) (I : A1 → A2 → A3 → A4 → A5 → A6 → Prop) (μ : A1 → A2 → A3 → A4 → A5 → A6 → Nat) (hs : ∀ (n : Nat) (a1 : A1) (a2 : A2) (a3 : A3) (a4 : A4) (a5 : A5) (a6 : A6), I a1 a2 a3 a4 a5 a6 → (∀ (b1 : A1) (b2 : A2) (b3 : A3) (b4 : A4) (b5 : A5) (b6 : A6), I b1 b2 b3 b4 b5 b6 → μ b1 b2 b3 b4 b5 b6 < μ a1 a2 a3 a4 a5 a6 → W n b1 b2 b3 b4 b5 b6) → W (n + 1) a1 a2 a3 a4 a5 a6) (a1 : A1) (a2 : A2) (a3 : A3) (a4 : A4) (a5 : A5) (a6 : A6) (h : I a1 a2 a3 a4 a5 a6) : ∃ n, W n a1 a2 a3 a4 a5 a6 :=
  loop_m (σ := A1 × A2 × A3 × A4 × A5 × A6) (fun n s => W n s.1 s.2.1 s.2.2.1 s.2.2.2.1 s.2.2.2.2.1 s.2.2.2.2.2) (fun s => I s.1 s.2.1 s.2.2.1 s.2.2.2.1 s.2.2.2.2.1 s.2.2.2.2.2) (fun s => μ s.1 s.2.1 s.2.2.1 s.2.2.2.1 s.2.2.2.2.1 s.2.2.2.2.2) (fun n s hI hk => hs n s.1 s.2.1 s.2.2.1 s.2.2.2.1 s.2.2.2.2.1 s.2.2.2.2.2 hI (fun b1 b2 b3 b4 b5 b6 h9 hm => hk (b1, b2, b3, b4, b5, b6) h9 hm)) (a1, a2, a3, a4, a5, a6) h
theorem lp7 {A1 A2 A3 A4 A5 A6 A7 : Type} (W : Nat → A1 → A2 → A3 → A4 → A5 → A6 → A7 → Prop) (I : A1 → A2 → A3 → A4 → A5 → A6 → A7 → Prop) (μ : A1 → A2 → A3 → A4 → A5 → A6 → A7 → Nat) (hs : ∀ (n : Nat) (a1 : A1) (a2 : A2) (a3 : A3) (a4 : A4) (a5 : A5) (a6 : A6) (a7 : A7), I a1 a2 a3 a4 a5 a6 a7 → (∀ (b1 : A1) (b2 : A2) (b3 : A3) (b4 : A4) (b5 : A5) (b6 : A6) (b7 : A7), I b1 b2 b3 b4 b5 b6 b7 → μ b1 b2 b3 b4 b5 b6 b7 < μ a1 a2 a3 a4 a5 a6 a7 → W n b1 b2 b3 b4 b5 b6 b7) → W (n + 1) a1 a2 a3 a4 a5 a6 a7) (a1 : A1) (a2 : A2) (a3 : A3) (a4 : A4) (a5 : A5) (a6 : A6) (a7 : A7) (h : I a1 a2 a3 a4 a5 a6 a7) : ∃ n, W n a1 a2 a3 a4 a5 a6 a7 :=
  loop_m (σ := A1 × A2 × A3 × A4 × A5 × A6 × A7) (fun n s => W n s.1 s.2.1 s.2.2.1 s.2.2.2.1 s.2.2.2.2.1 s.2.2.2.2.2.1 s.2.2.2.2.2.2) (fun s => I s.1 s.2.1 s.2.2.1 s.2.2.2.1 s.2.2.2.2.1 s.2.2.2.2.2.1 s.2.2.2.2.2.2) (fun s => μ s.1 s.2.1 s.2.2.1 s.2.2.2.1 s.2.2.2.2.1 s.2.2.2.2.2.1 s.2.2.2.2.2.2) (fun n s hI hk => hs n s.1 s.2.1 s.2.2.1 s.2.2.2.1 s.2.2.2.2.1 s.2.2.2.2.2.1 s.2.2.2.2.2.2 hI (fun b1 b2 b3 b4 b5 b6 b7 h9 hm => hk (b1, b2, b3, b4, b5, b6, b7) h9 hm)) (a1, a2, a3, a4, a5, a6, a7) h
theorem lp8 {A1 A2 A3 A4 A5 A6 A7 A8 : Type} (W : Nat → A1 → A2 → A3 → A4 → A5 → A6 → A7 → A8 → Prop) (I : A1 → A2 → A3 → A4 → A5 → A6 → A7 → A8 → Prop) (μ : A1 → A2 → A3 → A4 → A5 → A6 → A7 → A8 → Nat) (hs : ∀ (n : Nat) (a1 : A1) (a2 : A2) (a3 : A3) (a4 : A4) (a5 : A5) (a6 : A6) (a7 : A7) (a8 : A8), I a1 a2 a3 a4 a5 a6 a7 a8 → (∀ (b1 : A1) (b2 : A2) (b3 : A3) (b4 : A4) (b5 : A5) (b6 : A6) (b7 : A7) (b8 : A8), I b1 b2 b3 b4 b5 b6 b7 b8 → μ b1 b2 b3 b4 b5 b6 b7 b8 < μ a1 a2 a3 a4 a5 a6 a7 a8 → W n b1 b2 b3 b4 b5 b6 b7 b8) → W (n + 1) a1 a2 a3 a4 a5 a6 a7 a8) (a1 : A1) (a2 : A2) (a3 : A3) (a4 : A4) (a5 : A5) (a6 : A6) (a7 : A7) (a8 : A8) (h : I a1 a2 a3 a4 a5 a6 a7 a8) : ∃ n, W n a1 a2 a3 a4 a5 a6 a7 a8 :=
  loop_m (σ := A1 × A2 × A3 × A4 × A5 × A6 × A7 × A8) (fun n s => W n s.1 s.2.1 s.2.2.1 s.2.2.2.1 s.2.2.2.2.1 s.2.2.2.2.2.1 s.2.2.2.2.2.2.1 s.2.2.2.2.2.2.2) (fun s => I s.1 s.2.1 s.2.2.1 s.2.2.2.1 s.2.2.2.2.1 s.2.2.2.2.2.1 s.2.2.2.2.2.2.1 s.2.2.2.2.2.2.2) (fun s => μ s.1 s.2.1 s.2.2.1 s.2.2.2.1 s.2.2.2.2.1 s.2.2.2.2.2.1 s.2.2.2.2.2.2.1 s.2.2.2.2.2.2.2) (fun n s hI hk => hs n s.1 s.2.1 s.2.2.1 s.2.2.2.1 s.2.2.2.2.1 s.2.2.2.2.2.1 s.2.2.2.2.2.2.1 s.2.2.2.2.2.2.2 hI (fun b1 b2 b3 b4 b5 b6 b7 b8 h9 hm => hk (b1, b2, b3, b4, b5, b6, b7, b8) h9 hm)) (a1, a2, a3, a4, a5, a6, a7, a8) h
theorem lp9 {A1 A2 A3 A4 A5 A6 A7 A8 A9 : Type} (W : Nat → A1 → A2 → A3 → A4 → A5 → A6 → A7 → A8 → A9 → Prop) (I : A1 → A2 → A3 → A4 → A5 → A6 → A7 → A8 → A9 → Prop) (μ : A1 → A2 → A3 → A4 → A5 → A6 → A7 → A8 → A9 → Nat) (hs : ∀ (n : Nat) (a1 : A1) (a2 : A2) (a3 : A3) (a4 : A4) (a5 : A5) (a6 : A6) (a7 : A7) (a8 : A8) (a9 : A9), I a1 a2 a3 a4 a5 a6 a7 a8 a9 → (∀ (b1 : A1) (b2 : A2) (b3 : A3) (b4 : A4) (b5 : A5) (b6 : A6) (b7 : A7) (b8 : A8) (b9 : A9), I b1 b2 b3 b4 b5 b6 b7 b8 b9 → μ b1 b2 b3 b4 b5 b6 b7 b8 b9 < μ a1 a2 a3 a4 a5 a6 a7 a8 a9 → W n b1 b2 b3 b4 b5 b6 b7 b8 b9) → W (n + 1) a1 a2 a3 a4 a5 a6 a7 a8 a9) (a1 : A1) (a2 : A2) (a3 : A3) (a4 : A4) (a5 : A5) (a6 : A6) (a7 : A7) (a8 : A8) (a9 : A9) (h : I a1 a2 a3 a4 a5 a6 a7 a8 a9) : ∃ n, W n a1 a2 a3 a4 a5 a6 a7 a8 a9 :=
  loop_m (σ := A1 × A2 × A3 × A4 × A5 × A6 × A7 × A8 × A9) (fun n s => W n s.1 s.2.1 s.2.2.1 s.2.2.2.1 s.2.2.2.2.1 s.2.2.2.2.2.1 s.2.2.2.2.2.2.1 s.2.2.2.2.2.2.2.1 s.2.2.2.2.2.2.2.2) (fun s => I s.1 s.2.1 s.2.2.1 s.2.2.2.1 s.2.2.2.2.1 s.2.2.2.2.2.1 s.2.2.2.2.2.2.1 s.2.2.2.2.2.2.2.1 s.2.2.2.2.2.2.2.2) (fun s => μ s.1 s.2.1 s.2.2.1 s.2.2.2.1 s.2.2.2.2.1 s.2.2.2.2.2.1 s.2.2.2.2.2.2.1 s.2.2.2.2.2.2.2.1 s.2.2.2.2.2.2.2.2) (fun n s hI hk => hs n s.1 s.2.1 s.2.2.1 s.2.2.2.1 s.2.2.2.2.1 s.2.2.2.2.2.1 s.2.2.2.2.2.2.1 s.2.2.2.2.2.2.2.1 s.2.2.2.2.2.2.2.2 hI (fun b1 b2 b3 b4 b5 b6 b7 b8 b9 h9 hm => hk (b1, b2, b3, b4, b5, b6, b7, b8, b9) h9 hm)) (a1, a2, a3, a4, a5, a6, a7, a8, a9) h
theorem lp10 {A1 A2 A3 A4 A5 A6 A7 A8 A9 A10 : Type} (W : Nat → A1 → A2 → A3 → A4 → A5 → A6 → A7 → A8 → A9 → A10 → Prop) (I : A1 → A2 → A3 → A4 → A5 → A6 → A7 → A8 → A9 → A10 → Prop) (μ : A1 → A2 → A3 → A4 → A5 → A6 → A7 → A8 → A9 → A10 → Nat) (hs : ∀ (n : Nat) (a1 : A1) (a2 : A2) (a3 : A3) (a4 : A4) (a5 : A5) (a6 : A6) (a7 : A7) (a8 : A8) (a9 : A9) (a10 : A10), I a1 a2 a3 a4 a5 a6 a7 a8 a9 a10 → (∀ (b1 : A1) (b2 : A2) (b3 : A3) (b4 : A4) (b5 : A5) (b6 : A6) (b7 : A7) (b8 : A8) (b9 : A9) (b10 : A10), I b1 b2 b3 b4 b5 b6 b7 b8 b9 b10 → μ b1 b2 b3 b4 b5 b6 b7 b8 b9 b10 < μ a1 a2 a3 a4 a5 a6 a7 a8 a9 a10 → W n b1 b2 b3 b4 b5 b6 b7 b8 b9 b10) → W (n + 1) a1 a2 a3 a4 a5 a6 a7 a8 a9 a10) (a1 : A1) (a2 : A2) (a3 : A3) (a4 : A4) (a5 : A5) (a6 : A6) (a7 : A7) (a8 : A8) (a9 : A9) (a10 : A10) (h : I a1 a2 a3 a4 a5 a6 a7 a8 a9 a10) : ∃ n, W n a1 a2 a3 a4 a5 a6 a7 a8 a9 a10 :=
  loop_m (σ := A1 × A2 × A3 × A4 × A5 × A6 × A7 × A8 × A9 × A10) (fun n s => W n s.1 s.2.1 s.2.2.1 s.2.2.2.1 s.2.2.2.2.1 s.2.2.2.2.2.1 s.2.2.2.2.2.2.1 s.2.2.2.2.2.2.2.1 s.2.2.2.2.2.2.2.2.1 s.2.2.2.2.2.2.2.2.2) (fun s => I s.1 s.2.1 s.2.2.1 s.2.2.2.1 s.2.2.2.2.1 s.2.2.2.2.2.1 s.2.2.2.2.2.2.1 s.2.2.2.2.2.2.2.1 s.2.2.2.2.2.2.2.2.1 s.2.2.2.2.2.2.2.2.2) (fun s => μ s.1 s.2.1 s.2.2.1 s.2.2.2.1 s.2.2.2.2.1 s.2.2.2.2.2.1 s.2.2.2.2.2.2.1 s.2.2.2.2.2.2.2.1 s.2.2.2.2.2.2.2.2.1 s.2.2.2.2.2.2.2.2.2) (fun n s hI hk => hs n s.1 s.2.1 s.2.2.1 s.2.2.2.1 s.2.2.2.2.1 s.2.2.2.2.2.1 s.2.2.2.2.2.2.1 s.2.2.2.2.2.2.2.1 s.2.2.2.2.2.2.2.2.1 s.2.2.2.2.2.2.2.2.2 hI (fun b1 b2 b3 b4 b5 b6 b7 b8 b9 b10 h9 hm => hk (b1, b2, b3, b4, b5, b6, b7, b8, b9, b10) h9 hm)) (a1, a2, a3, a4, a5, a6, a7, a8, a9, a10) h
theorem lp11 {A1 A2 A3 A4 A5 A6 A7 A8 A9 A10 A11 : Type} (W : Nat → A1 → A2 → A3 → A4 → A5 → A6 → A7 → A8 → A9 → A10 → A11 → Prop) (I : A1 → A2 → A3 → A4 → A5 → A6 → A7 → A8 → A9 → A10 → A11 → Prop) (μ : A1 → A2 → A3 → A4 → A5 → A6 → A7 → A8 → A9 → A10 → A11 → Nat) (hs : ∀ (n : Nat) (a1 : A1) (a2 : A2) (a3 : A3) (a4 : A4) (a5 : A5) (a6 : A6) (a7 : A7) (a8 : A8) (a9 : A9) (a10 : A10) (a11 : A11), I a1 a2 a3 a4 a5 a6 a7 a8 a9 a10 a11 → (∀ (b1 : A1) (b2 : A2) (b3 : A3) (b4 : A4) (b5 : A5) (b6 : A6) (b7 : A7) (b8 : A8) (b9 : A9) (b10 : A10) (b11 : A11), I b1 b2 b3 b4 b5 b6 b7 b8 b9 b10 b11 → μ b1 b2 b3 b4 b5 b6 b7 b8 b9 b10 b11 < μ a1 a2 a3 a4 a5 a6 a7 a8 a9 a10 a11 → W n b1 b2 b3 b4 b5 b6 b7 b8 b9 b10 b11) → W (n + 1) a1 a2 a3 a4 a5 a6 a7 a8 a9 a10 a11) (a1 : A1) (a2 : A2) (a3 : A3) (a4 : A4) (a5 : A5) (a6 : A6) (a7 : A7) (a8 : A8) (a9 : A9) (a10 : A10) (a11 : A11) (h : I a1 a2 a3 a4 a5 a6 a7 a8 a9 a10 a11) : ∃ n, W n a1 a2 a3 a4 a5 a6 a7 a8 a9 a10 a11 :=
  loop_m (σ := A1 × A2 × A3 × A4 × A5 × A6 × A7 × A8 × A9 × A10 × A11) (fun n s => W n s.1 s.2.1 s.2.2.1 s.2.2.2.1 s.2.2.2.2.1 s.2.2.2.2.2.1 s.2.2.2.2.2.2.1 s.2.2.2.2.2.2.2.1 s.2.2.2.2.2.2.2.2.1 s.2.2.2.2.2.2.2.2.2.1 s.2.2.2.2.2.2.2.2.2.2) (fun s => I s.1 s.2.1 s.2.2.1 s.2.2.2.1 s.2.2.2.2.1 s.2.2.2.2.2.1 s.2.2.2.2.2.2.1 s.2.2.2.2.2.2.2.1 s.2.2.2.2.2.2.2.2.1 s.2.2.2.2.2.2.2.2.2.1 s.2.2.2.2.2.2.2.2.2.2) (fun s => μ s.1 s.2.1 s.2.2.1 s.2.2.2.1 s.2.2.2.2.1 s.2.2.2.2.2.1 s.2.2.2.2.2.2.1 s.2.2.2.2.2.2.2.1 s.2.2.2.2.2.2.2.2.1 s.2.2.2.2.2.2.2.2.2.1 s.2.2.2.2.2.2.2.2.2.2) (fun n s hI hk => hs n s.1 s.2.1 s.2.2.1 s.2.2.2.1 s.2.2.2.2.1 s.2.2.2.2.2.1 s.2.2.2.2.2.2.1 s.2.2.2.2.2.2.2.1 s.2.2.2.2.2.2.2.2.1 s.2.2.2.2.2.2.2.2.2.1 s.2.2.2.2.2.2.2.2.2.2 hI (fun b1 b2 b3 b4 b5 b6 b7 b8 b9 b10 b11 h9 hm => hk (b1, b2, b3, b4, b5, b6, b7, b8, b9, b10, b11) h9 hm)) (a1, a2, a3, a4, a5, a6, a7, a8, a9, a10, a11) h
theorem lp12 {A1 A2 A3 A4 A5 A6 A7 A8 A9 A10 A11 A12 : Type} (W : Nat → A1 → A2 → A3 → A4 → A5 → A6 → A7 → A8 → A9 → A10 → A11 → A12 → Prop) (I : A1 → A2 → A3 → A4 → A5 → A6 → A7 → A8 → A9 → A10 → A11 → A12 → Prop) (μ : A1 → A2 → A3 → A4 → A5 → A6 → A7 → A8 → A9 → A10 → A11 → A12 → Nat) (hs : ∀ (n : Nat) (a1 : A1) (a2 : A2) (a3 : A3) (a4 : A4) (a5 : A5) (a6 : A6) (a7 : A7) (a8 : A8) (a9 : A9) (a10 : A10) (a11 : A11) (a12 : A12), I a1 a2 a3 a4 a5 a6 a7 a8 a9 a10 a11 a12 → (∀ (b1 : A1) (b2 : A2) (b3 : A3) (b4 : A4) (b5 : A5) (b6 : A6) (b7 : A7) (b8 : A8) (b9 : A9) (b10 : A10) (b11 : A11) (b12 : A12), I b1 b2 b3 b4 b5 b6 b7 b8 b9 b10 b11 b12 → μ b1 b2 b3 b4 b5 b6 b7 b8 b9 b10 b11 b12 < μ a1 a2 a3 a4 a5 a6 a7 a8 a9 a10 a11 a12 → W n b1 b2 b3 b4 b5 b6 b7 b8 b9 b10 b11 b12) → W (n + 1) a1 a2 a3 a4 a5 a6 a7 a8 a9 a10 a11 a12) (a1 : A1) (a2 : A2) (a3 : A3) (a4 : A4) (a5 : A5) (a6 : A6) (a7 : A7) (a8 : A8) (a9 : A9) (a10 : A10) (a11 : A11) (a12 : A12) (h : I a1 a2 a3 a4 a5 a6 a7 a8 a9 a10 a11 a12) : ∃ n, W n a1 a2 a3 a4 a5 a6 a7 a8 a9 a10 a11 a12 :=
  loop_m (σ := A1 × A2 × A3 × A4 × A5 × A6 × A7 × A8 × A9 × A10 × A11 × A12) (fun n s => W n s.1 s.2.1 s.2.2.1 s.2.2.2.1 s.2.2.2.2.1 s.2.2.2.2.2.1 s.2.2.2.2.2.2.1 s.2.2.2.2.2.2.2.1 s.2.2.2.2.2.2.2.2.1 s.2.2.2.2.2.2.2.2.2.1 s.2.2.2.2.2.2.2.2.2.2.1 s.2.2.2.2.2.2.2.2.2.2.2) (fun s => I s.1 s.2.1 s.2.2.1 s.2.2.2.1 s.2.2.2.2.1 s.2.2.2.2.2.1 s.2.2.2.2.2.2.1 s.2.2.2.2.2.2.2.1 s.2.2.2.2.2.2.2.2.1 s.2.2.2.2.2.2.2.2.2.1 s.2.2.2.2.2.2.2.2.2.2.1 s.2.2.2.2.2.2.2.2.2.2.2) (fun s => μ s.1 s.2.1 s.2.2.1 s.2.2.2.1 s.2.2.2.2.1 s.2.2.2.2.2.1 s.2.2.2.2.2.2.1 s.2.2.2.2.2.2.2.1 s.2.2.2.2.2.2.2.2.1 s.2.2.2.2.2.2.2.2.2.1 s.2.2.2.2.2.2.2.2.2.2.1 s.2.2.2.2.2.2.2.2.2.2.2) (fun n s hI hk => hs n s.1 s.2.1 s.2.2.1 s.2.2.2.1 s.2.2.2.2.1 s.2.2.2.2.2.1 s.2.2.2.2.2.2.1 s.2.2.2.2.2.2.2.1 s.2.2.2.2.2.2.2.2.1 s.2.2.2.2.2.2.2.2.2.1 s.2.2.2.2.2.2.2.2.2.2.1 s.2.2.2.2.2.2.2.2.2.2.2 hI (fun b1 b2 b3 b4 b5 b6 b7 b8 b9 b10 b11 b12 h9 hm => hk (b1, b2, b3, b4, b5, b6, b7, b8, b9, b10, b11, b12) h9 hm)) (a1, a2, a3, a4, a5, a6, a7, a8, a9, a10, a11, a12) h
theorem lp13 {A1 A2 A3 A4 A5 A6 A7 A8 A9 A10 A11 A12 A13 : Type} (W : Nat → A1 → A2 → A3 → A4 → A5 → A6 → A7 → A8 → A9 → A10 → A11 → A12 → A13 → Prop) (I : A1 → A2 → A3 → A4 → A5 → A6 → A7 → A8 → A9 → A10 → A11 → A12 → A13 → Prop) (μ : A1 → A2 → A3 → A4 → A5 → A6 → A7 → A8 → A9 → A10 → A11 → A12 → A13 → Nat) (hs : ∀ (n : Nat) (a1 : A1) (a2 : A2) (a3 : A3) (a4 : A4) (a5 : A5) (a6 : A6) (a7 : A7) (a8 : A8) (a9 : A9) (a10 : A10) (a11 : A11) (a12 : A12) (a13 : A13), I a1 a2 a3 a4 a5 a6 a7 a8 a9 a10 a11 a12 a13 → (∀ (b1 : A1) (b2 : A2) (b3 : A3) (b4 : A4) (b5 : A5) (b6 : A6) (b7 : A7) (b8 : A8) (b9 : A9) (b10 : A10) (b11 : A11) (b12 : A12) (b13 : A13), I b1 b2 b3 b4 b5 b6 b7 b8 b9 b10 b11 b12 b13 → μ b1 b2 b3 b4 b5 b6 b7 b8 b9 b10 b11 b12 b13 < μ a1 a2 a3 a4 a5 a6 a7 a8 a9 a10 a11 a12 a13 → W n b1 b2 b3 b4 b5 b6 b7 b8 b9 b10 b11 b12 b13) → W (n + 1) a1 a2 a3 a4 a5 a6 a7 a8 a9 a10 a11 a12 a13) (a1 : A1) (a2 : A2) (a3 : A3) (a4 : A4) (a5 : A5) (a6 : A6) (a7 : A7) (a8 : A8) (a9 : A9) (a10 : A10) (a11 : A11) (a12 : A12) (a13 : A13) (h : I a1 a2 a3 a4 a5 a6 a7 a8 a9 a10 a11 a12 a13) : ∃ n, W n a1 a2 a3 a4 a5 a6 a7 a8 a9 a10 a11 a12 a13 :=
  loop_m (σ := A1 × A2 × A3 × A4 × A5 × A6 × A7 × A8 × A9 × A10 × A11 × A12 × A13) (fun n s => W n s.1 s.2.1 s.2.2.1 s.2.2.2.1 s.2.2.2.2.1 s.2.2.2.2.2.1 s.2.2.2.2.2.2.1 s.2.2.2.2.2.2.2.1 s.2.2.2.2.2.2.2.2.1 s.2.2.2.2.2.2.2.2.2.1 s.2.2.2.2.2.2.2.2.2.2.1 s.2.2.2.2.2.2.2.2.2.2.2.1 s.2.2.2.2.2.2.2.2.2.2.2.2) (fun s => I s.1 s.2.1 s.2.2.1 s.2.2.2.1 s.2.2.2.2.1 s.2.2.2.2.2.1 s.2.2.2.2.2.2.1 s.2.2.2.2.2.2.2.1 s.2.2.2.2.2.2.2.2.1 s.2.2.2.2.2.2.2.2.2.1 s.2.2.2.2.2.2.2.2.2.2.1 s.2.2.2.2.2.2.2.2.2.2.2.1 s.2.2.2.2.2.2.2.2.2.2.2.2) (fun s => μ s.1 s.2.1 s.2.2.1 s.2.2.2.1 s.2.2.2.2.1 s.2.2.2.2.2.1 s.2.2.2.2.2.2.1 s.2.2.2.2.2.2.2.1 s.2.2.2.2.2.2.2.2.1 s.2.2.2.2.2.2.2.2.2.1 s.2.2.2.2.2.2.2.2.2.2.1 s.2.2.2.2.2.2.2.2.2.2.2.1 s.2.2.2.2.2.2.2.2.2.2.2.2) (fun n s hI hk => hs n s.1 s.2.1 s.2.2.1 s.2.2.2.1 s.2.2.2.2.1 s.2.2.2.2.2.1 s.2.2.2.2.2.2.1 s.2.2.2.2.2.2.2.1 s.2.2.2.2.2.2.2.2.1 s.2.2.2.2.2.2.2.2.2.1 s.2.2.2.2.2.2.2.2.2.2.1 s.2.2.2.2.2.2.2.2.2.2.2.1 s.2.2.2.2.2.2.2.2.2.2.2.2 hI (fun b1 b2 b3 b4 b5 b6 b7 b8 b9 b10 b11 b12 b13 h9 hm => hk (b1, b2, b3, b4, b5, b6, b7, b8, b9, b10, b11, b12, b13) h9 hm)) (a1, a2, a3, a4, a5, a6, a7, a8, a9, a10, a11, a12, a13) h
theorem lp14 {A1 A2 A3 A4 A5 A6 A7 A8 A9 A10 A11 A12 A13 A14 : Type} (W : Nat → A1 → A2 → A3 → A4 → A5 → A6 → A7 → A8 → A9 → A10 → A11 → A12 → A13 → A14 → Prop) (I : A1 → A2 → A3 → A4 → A5 → A6 → A7 → A8 → A9 → A10 → A11 → A12 → A13 → A14 → Prop) (μ : A1 → A2 → A3 → A4 → A5 → A6 → A7 → A8 → A9 → A10 → A11 → A12 → A13 → A14 → Nat) (hs : ∀ (n : Nat) (a1 : A1) (a2 : A2) (a3 : A3) (a4 : A4) (a5 : A5) (a6 : A6) (a7 : A7) (a8 : A8) (a9 : A9) (a10 : A10) (a11 : A11) (a12 : A12) (a13 : A13) (a14 : A14), I a1 a2 a3 a4 a5 a6 a7 a8 a9 a10 a11 a12 a13 a14 → (∀ (b1 : A1) (b2 : A2) (b3 : A3) (b4 : A4) (b5 : A5) (b6 : A6) (b7 : A7) (b8 : A8) (b9 : A9) (b10 : A10) (b11 : A11) (b12 : A12) (b13 : A13) (b14 : A14), I b1 b2 b3 b4 b5 b6 b7 b8 b9 b10 b11 b12 b13 b14 → μ b1 b2 b3 b4 b5 b6 b7 b8 b9 b10 b11 b12 b13 b14 < μ a1 a2 a3 a4 a5 a6 a7 a8 a9 a10 a11 a12 a13 a14 → W n b1 b2 b3 b4 b5 b6 b7 b8 b9 b10 b11 b12 b13 b14) → W (n + 1) a1 a2 a3 a4 a5 a6 a7 a8 a9 a10 a11 a12 a13 a14) (a1 : A1) (a2 : A2) (a3 : A3) (a4 : A4) (a5 : A5) (a6 : A6) (a7 : A7) (a8 : A8) (a9 : A9) (a10 : A10) (a11 : A11) (a12 : A12) (a13 : A13) (a14 : A14) (h : I a1 a2 a3 a4 a5 a6 a7 a8 a9 a10 a11 a12 a13 a14) : ∃ n, W n a1 a2 a3 a4 a5 a6 a7 a8 a9 a10 a11 a12 a13 a14 :=
  loop_m (σ := A1 × A2 × A3 × A4 × A5 × A6 × A7 × A8 × A9 × A10 × A11 × A12 × A13 × A14) (fun n s => W n s.1 s.2.1 s.2.2.1 s.2.2.2.1 s.2.2.2.2.1 s.2.2.2.2.2.1 s.2.2.2.2.2.2.1 s.2.2.2.2.2.2.2.1 s.2.2.2.2.2.2.2.2.1 s.2.2.2.2.2.2.2.2.2.1 s.2.2.2.2.2.2.2.2.2.2.1 s.2.2.2.2.2.2.2.2.2.2.2.1 s.2.2.2.2.2.2.2.2.2.2.2.2.1 s.2.2.2.2.2.2.2.2.2.2.2.2.2) (fun s => I s.1 s.2.1 s.2.2.1 s.2.2.2.1 s.2.2.2.2.1 s.2.2.2.2.2.1 s.2.2.2.2.2.2.1 s.2.2.2.2.2.2.2.1 s.2.2.2.2.2.2.2.2.1 s.2.2.2.2.2.2.2.2.2.1 s.2.2.2.2.2.2.2.2.2.2.1 s.2.2.2.2.2.2.2.2.2.2.2.1 s.2.2.2.2.2.2.2.2.2.2.2.2.1 s.2.2.2.2.2.2.2.2.2.2.2.2.2) (fun s => μ s.1 s.2.1 s.2.2.1 s.2.2.2.1 s.2.2.2.2.1 s.2.2.2.2.2.1 s.2.2.2.2.2.2.1 s.2.2.2.2.2.2.2.1 s.2.2.2.2.2.2.2.2.1 s.2.2.2.2.2.2.2.2.2.1 s.2.2.2.2.2.2.2.2.2.2.1 s.2.2.2.2.2.2.2.2.2.2.2.1 s.2.2.2.2.2.2.2.2.2.2.2.2.1 s.2.2.2.2.2.2.2.2.2.2.2.2.2) (fun n s hI hk => hs n s.1 s.2.1 s.2.2.1 s.2.2.2.1 s.2.2.2.2.1 s.2.2.2.2.2.1 s.2.2.2.2.2.2.1 s.2.2.2.2.2.2.2.1 s.2.2.2.2.2.2.2.2.1 s.2.2.2.2.2.2.2.2.2.1 s.2.2.2.2.2.2.2.2.2.2.1 s.2.2.2.2.2.2.2.2.2.2.2.1 s.2.2.2.2.2.2.2.2.2.2.2.2.1 s.2.2.2.2.2.2.2.2.2.2.2.2.2 hI (fun b1 b2 b3 b4 b5 b6 b7 b8 b9 b10 b11 b12 b13 b14 h9 hm => hk (b1, b2, b3, b4, b5, b6, b7, b8, b9, b10, b11, b12, b13, b14) h9 hm)) (a1, a2, a3, a4, a5, a6, a7, a8, a9, a10, a11, a12, a13, a14) h
theorem lp15 {A1 A2 A3 A4 A5 A6 A7 A8 A9 A10 A11 A12 A13 A14 A15 : Type} (W : Nat → A1 → A2 → A3 → A4 → A5 → A6 → A7 → A8 → A9 → A10 → A11 → A12 → A13 → A14 → A15 → Prop) (I : A1 → A2 → A3 → A4 → A5 → A6 → A7 → A8 → A9 → A10 → A11 → A12 → A13 → A14 → A15 → Prop) (μ : A1 → A2 → A3 → A4 → A5 → A6 → A7 → A8 → A9 → A10 → A11 → A12 → A13 → A14 → A15 → Nat) (hs : ∀ (n : Nat) (a1 : A1) (a2 : A2) (a3 : A3) (a4 : A4) (a5 : A5) (a6 : A6) (a7 : A7) (a8 : A8) (a9 : A9) (a10 : A10) (a11 : A11) (a12 : A12) (a13 : A13) (a14 : A14) (a15 : A15), I a1 a2 a3 a4 a5 a6 a7 a8 a9 a10 a11 a12 a13 a14 a15 → (∀ (b1 : A1) (b2 : A2) (b3 : A3) (b4 : A4) (b5 : A5) (b6 : A6) (b7 : A7) (b8 : A8) (b9 : A9) (b10 : A10) (b11 : A11) (b12 : A12) (b13 : A13) (b14 : A14) (b15 : A15), I b1 b2 b3 b4 b5 b6 b7 b8 b9 b10 b11 b12 b13 b14 b15 → μ b1 b2 b3 b4 b5 b6 b7 b8 b9 b10 b11 b12 b13 b14 b15 < μ a1 a2 a3 a4 a5 a6 a7 a8 a9 a10 a11 a12 a13 a14 a15 → W n b1 b2 b3 b4 b5 b6 b7 b8 b9 b10 b11 b12 b13 b14 b15) → W (n + 1) a1 a2 a3 a4 a5 a6 a7 a8 a9 a10 a11 a12 a13 a14 a15) (a1 : A1) (a2 : A2) (a3 : A3) (a4 : A4) (a5 : A5) (a6 : A6) (a7 : A7) (a8 : A8) (a9 : A9) (a10 : A10) (a11 : A11) (a12 : A12) (a13 : A13) (a14 : A14) (a15 : A15) (h : I a1 a2 a3 a4 a5 a6 a7 a8 a9 a10 a11 a12 a13 a14 a15) : ∃ n, W n a1 a2 a3 a4 a5 a6 a7 a8 a9 a10 a11 a12 a13 a14 a15 :=
  loop_m (σ := A1 × A2 × A3 × A4 × A5 × A6 × A7 × A8 × A9 × A10 × A11 × A12 × A13 × A14 × A15) (fun n s => W n s.1 s.2.1 s.2.2.1 s.2.2.2.1 s.2.2.2.2.1 s.2.2.2.2.2.1 s.2.2.2.2.2.2.1 s.2.2.2.2.2.2.2.1 s.2.2.2.2.2.2.2.2.1 s.2.2.2.2.2.2.2.2.2.1 s.2.2.2.2.2.2.2.2.2.2.1 s.2.2.2.2.2.2.2.2.2.2.2.1 s.2.2.2.2.2.2.2.2.2.2.2.2.1 s.2.2.2.2.2.2.2.2.2.2.2.2.2.1 s.2.2.2.2.2.2.2.2.2.2.2.2.2.2) (fun s => I s.1 s.2.1 s.2.2.1 s.2.2.2.1 s.2.2.2.2.1 s.2.2.2.2.2.1 s.2.2.2.2.2.2.1 s.2.2.2.2.2.2.2.1 s.2.2.2.2.2.2.2.2.1 s.2.2.2.2.2.2.2.2.2.1 s.2.2.2.2.2.2.2.2.2.2.1 s.2.2.2.2.2.2.2.2.2.2.2.1 s.2.2.2.2.2.2.2.2.2.2.2.2.1 s.2.2.2.2.2.2.2.2.2.2.2.2.2.1 s.2.2.2.2.2.2.2.2.2.2.2.2.2.2) (fun s => μ s.1 s.2.1 s.2.2.1 s.2.2.2.1 s.2.2.2.2.1 s.2.2.2.2.2.1 s.2.2.2.2.2.2.1 s.2.2.2.2.2.2.2.1 s.2.2.2.2.2.2.2.2.1 s.2.2.2.2.2.2.2.2.2.1 s.2.2.2.2.2.2.2.2.2.2.1 s.2.2.2.2.2.2.2.2.2.2.2.1 s.2.2.2.2.2.2.2.2.2.2.2.2.1 s.2.2.2.2.2.2.2.2.2.2.2.2.2.1 s.2.2.2.2.2.2.2.2.2.2.2.2.2.2) (fun n s hI hk => hs n s.1 s.2.1 s.2.2.1 s.2.2.2.1 s.2.2.2.2.1 s.2.2.2.2.2.1 s.2.2.2.2.2.2.1 s.2.2.2.2.2.2.2.1 s.2.2.2.2.2.2.2.2.1 s.2.2.2.2.2.2.2.2.2.1 s.2.2.2.2.2.2.2.2.2.2.1 s.2.2.2.2.2.2.2.2.2.2.2.1 s.2.2.2.2.2.2.2.2.2.2.2.2.1 s.2.2.2.2.2.2.2.2.2.2.2.2.2.1 s.2.2.2.2.2.2.2.2.2.2.2.2.2.2 hI (fun b1 b2 b3 b4 b5 b6 b7 b8 b9 b10 b11 b12 b13 b14 b15 h9 hm => hk (b1, b2, b3, b4, b5, b6, b7, b8, b9, b10, b11, b12, b13, b14, b15) h9 hm)) (a1, a2, a3, a4, a5, a6, a7, a8, a9, a10, a11, a12, a13, a14, a15) h
theorem lp16 {A1 A2 A3 A4 A5 A6 A7 A8 A9 A10 A11 A12 A13 A14 A15 A16 : Type} (W : Nat → A1 → A2 → A3 → A4 → A5 → A6 → A7 → A8 → A9 → A10 → A11 → A12 → A13 → A14 → A15 → A16 → Prop) (I : A1 → A2 → A3 → A4 → A5 → A6 → A7 → A8 → A9 → A10 → A11 → A12 → A13 → A14 → A15 → A16 → Prop) (μ : A1 → A2 → A3 → A4 → A5 → A6 → A7 → A8 → A9 → A10 → A11 → A12 → A13 → A14 → A15 → A16 → Nat) (hs : ∀ (n : Nat) (a1 : A1) (a2 : A2) (a3 : A3) (a4 : A4) (a5 : A5) (a6 : A6) (a7 : A7) (a8 : A8) (a9 : A9) (a10 : A10) (a11 : A11) (a12 : A12) (a13 : A13) (a14 : A14) (a15 : A15) (a16 : A16), I a1 a2 a3 a4 a5 a6 a7 a8 a9 a10 a11 a12 a13 a14 a15 a16 → (∀ (b1 : A1) (b2 : A2) (b3 : A3) (b4 : A4) (b5 : A5) (b6 : A6) (b7 : A7) (b8 : A8) (b9 : A9) (b10 : A10) (b11 : A11) (b12 : A12) (b13 : A13) (b14 : A14) (b15 : A15) (b16 : A16), I b1 b2 b3 b4 b5 b6 b7 b8 b9 b10 b11 b12 b13 b14 b15 b16 → μ b1 b2 b3 b4 b5 b6 b7 b8 b9 b10 b11 b12 b13 b14 b15 b16 < μ a1 a2 a3 a4 a5 a6 a7 a8 a9 a10 a11 a12 a13 a14 a15 a16 → W n b1 b2 b3 b4 b5 b6 b7 b8 b9 b10 b11 b12 b13 b14 b15 b16) → W (n + 1) a1 a2 a3 a4 a5 a6 a7 a8 a9 a10 a11 a12 a13 a14 a15 a16) (a1 : A1) (a2 : A2) (a3 : A3) (a4 : A4) (a5 : A5) (a6 : A6) (a7 : A7) (a8 : A8) (a9 : A9) (a10 : A10) (a11 : A11) (a12 : A12) (a13 : A13) (a14 : A14) (a15 : A15) (a16 : A16) (h : I a1 a2 a3 a4 a5 a6 a7 a8 a9 a10 a11 a12 a13 a14 a15 a16) : ∃ n, W n a1 a2 a3 a4 a5 a6 a7 a8 a9 a10 a11 a12 a13 a14 a15 a16 :=
  loop_m (σ := A1 × A2 × A3 × A4 × A5 × A6 × A7 × A8 × A9 × A10 × A11 × A12 × A13 × A14 × A15 × A16) (fun n s => W n s.1 s.2.1 s.2.2.1 s.2.2.2.1 s.2.2.2.2.1 s.2.2.2.2.2.1 s.2.2.2.2.2.2.1 s.2.2.2.2.2.2.2.1 s.2.2.2.2.2.2.2.2.1 s.2.2.2.2.2.2.2.2.2.1 s.2.2.2.2.2.2.2.2.2.2.1 s.2.2.2.2.2.2.2.2.2.2.2.1 s.2.2.2.2.2.2.2.2.2.2.2.2.1 s.2.2.2.2.2.2.2.2.2.2.2.2.2.1 s.2.2.2.2.2.2.2.2.2.2.2.2.2.2.1 s.2.2.2.2.2.2.2.2.2.2.2.2.2.2.2) (fun s => I s.1 s.2.1 s.2.2.1 s.2.2.2.1 s.2.2.2.2.1 s.2.2.2.2.2.1 s.2.2.2.2.2.2.1 s.2.2.2.2.2.2.2.1 s.2.2.2.2.2.2.2.2.1 s.2.2.2.2.2.2.2.2.2.1 s.2.2.2.2.2.2.2.2.2.2.1 s.2.2.2.2.2.2.2.2.2.2.2.1 s.2.2.2.2.2.2.2.2.2.2.2.2.1 s.2.2.2.2.2.2.2.2.2.2.2.2.2.1 s.2.2.2.2.2.2.2.2.2.2.2.2.2.2.1 s.2.2.2.2.2.2.2.2.2.2.2.2.2.2.2) (fun s => μ s.1 s.2.1 s.2.2.1 s.2.2.2.1 s.2.2.2.2.1 s.2.2.2.2.2.1 s.2.2.2.2.2.2.1 s.2.2.2.2.2.2.2.1 s.2.2.2.2.2.2.2.2.1 s.2.2.2.2.2.2.2.2.2.1 s.2.2.2.2.2.2.2.2.2.2.1 s.2.2.2.2.2.2.2.2.2.2.2.1 s.2.2.2.2.2.2.2.2.2.2.2.2.1 s.2.2.2.2.2.2.2.2.2.2.2.2.2.1 s.2.2.2.2.2.2.2.2.2.2.2.2.2.2.1 s.2.2.2.2.2.2.2.2.2.2.2.2.2.2.2) (fun n s hI hk => hs n s.1 s.2.1 s.2.2.1 s.2.2.2.1 s.2.2.2.2.1 s.2.2.2.2.2.1 s.2.2.2.2.2.2.1 s.2.2.2.2.2.2.2.1 s.2.2.2.2.2.2.2.2.1 s.2.2.2.2.2.2.2.2.2.1 s.2.2.2.2.2.2.2.2.2.2.1 s.2.2.2.2.2.2.2.2.2.2.2.1 s.2.2.2.2.2.2.2.2.2.2.2.2.1 s.2.2.2.2.2.2.2.2.2.2.2.2.2.1 s.2.2.2.2.2.2.2.2.2.2.2.2.2.2.1 s.2.2.2.2.2.2.2.2.2.2.2.2.2.2.2 hI (fun b1 b2 b3 b4 b5 b6 b7 b8 b9 b10 b11 b12 b13 b14 b15 b16 h9 hm => hk (b1, b2, b3, b4, b5, b6, b7, b8, b9, b10, b11, b12, b13, b14, b15, b16) h9 hm)) (a1, a2, a3, a4, a5, a6, a7, a8, a9, a10, a11, a12, a13, a14, a15, a16) h
theorem pk_least (P : Nat → Prop) (h : ∃ k, P k) : ∃ k, P k ∧ ∀ j, j < k → ¬ P j := by
  obtain ⟨k, hk⟩ := h
  induction k using Nat.strongRecOn with
  | ind k ih =>
    by_cases e : ∃ j, j < k ∧ P j
    · obtain ⟨j, hj, pj⟩ := e
      exact ih j hj pj
    · exact ⟨k, hk, fun j hj pj => e ⟨j, hj, pj⟩⟩
theorem rp1 {ρ A1 : Type} (W : Nat → (ρ → Prop) → A1 → Prop) (ok : A1 → Prop) (μ : A1 → Nat) (val : A1 → ρ)
    (hs : ∀ (d : Nat) (post : ρ → Prop) (a1 : A1), ok a1 → post (val a1) → (∀ (post' : ρ → Prop) (b1 : A1), ok b1 → μ b1 < μ a1 → post' (val b1) → W d post' b1) → W (d + 1) post a1) :
    ∀ (d : Nat) (post : ρ → Prop) (a1 : A1), ok a1 → μ a1 < d → post (val a1) → W d post a1 := by
  intro d
  induction d with
  | zero => intro post a1 _ h; omega
  | succ d ih =>
    intro post a1 ho hm hp
    exact hs d post a1 ho hp (fun post' b1 ho' hm' hp' => ih post' b1 ho' (by omega) hp')
theorem rp2 {ρ A1 A2 : Type} (W : Nat → (ρ → Prop) → A1 → A2 → Prop) (ok : A1 → A2 → Prop) (μ : A1 → A2 → Nat) (val : A1 → A2 → ρ)
    (hs : ∀ (d : Nat) (post : ρ → Prop) (a1 : A1) (a2 : A2), ok a1 a2 → post (val a1 a2) → (∀ (post' : ρ → Prop) (b1 : A1) (b2 : A2), ok b1 b2 → μ b1 b2 < μ a1 a2 → post' (val b1 b2) → W d post' b1 b2) → W (d + 1) post a1 a2) :
    ∀ (d : Nat) (post : ρ → Prop) (a1 : A1) (a2 : A2), ok a1 a2 → μ a1 a2 < d → post (val a1 a2) → W d post a1 a2 := by
  intro d
  induction d with
  | zero => intro post a1 a2 _ h; omega
  | succ d ih =>
    intro post a1 a2 ho hm hp
    exact hs d post a1 a2 ho hp (fun post' b1 b2 ho' hm' hp' => ih post' b1 b2 ho' (by omega) hp')
theorem rp3 {ρ A1 A2 A3 : Type} (W : Nat → (ρ → Prop) → A1 → A2 → A3 → Prop) (ok : A1 → A2 → A3 → Prop) (μ : A1 → A2 → A3 → Nat) (val : A1 → A2 → A3 → ρ)
    (hs : ∀ (d : Nat) (post : ρ → Prop) (a1 : A1) (a2 : A2) (a3 : A3), ok a1 a2 a3 → post (val a1 a2 a3) → (∀ (post' : ρ → Prop) (b1 : A1) (b2 : A2) (b3 : A3), ok b1 b2 b3 → μ b1 b2 b3 < μ a1 a2 a3 → post' (val b1 b2 b3) → W d post' b1 b2 b3) → W (d + 1) post a1 a2 a3) :
    ∀ (d : Nat) (post : ρ → Prop) (a1 : A1) (a2 : A2) (a3 : A3), ok a1 a2 a3 → μ a1 a2 a3 < d → post (val a1 a2 a3) → W d post a1 a2 a3 := by
  intro d
  induction d with
  | zero => intro post a1 a2 a3 _ h; omega
  | succ d ih =>
    intro post a1 a2 a3 ho hm hp
    exact hs d post a1 a2 a3 ho hp (fun post' b1 b2 b3 ho' hm' hp' => ih post' b1 b2 b3 ho' (by omega) hp')
theorem rp4 {ρ A1 A2 A3 A4 : Type} (W : Nat → (ρ → Prop) → A1 → A2 → A3 → A4 → Prop) (ok : A1 → A2 → A3 → A4 → Prop) (μ : A1 → A2 → A3 → A4 → Nat) (val : A1 → A2 → A3 → A4 → ρ)
    (hs : ∀ (d : Nat) (post : ρ → Prop) (a1 : A1) (a2 : A2) (a3 : A3) (a4 : A4), ok a1 a2 a3 a4 → post (val a1 a2 a3 a4) → (∀ (post' : ρ → Prop) (b1 : A1) (b2 : A2) (b3 : A3) (b4 : A4), ok b1 b2 b3 b4 → μ b1 b2 b3 b4 < μ a1 a2 a3 a4 → post' (val b1 b2 b3 b4) → W d post' b1 b2 b3 b4) → W (d + 1) post a1 a2 a3 a4) :
    ∀ (d : Nat) (post : ρ → Prop) (a1 : A1) (a2 : A2) (a3 : A3) (a4 : A4), ok a1 a2 a3 a4 → μ a1 a2 a3 a4 < d → post (val a1 a2 a3 a4) → W d post a1 a2 a3 a4 := by
  intro d
  induction d with
  | zero => intro post a1 a2 a3 a4 _ h; omega
  | succ d ih =>
    intro post a1 a2 a3 a4 ho hm hp
    exact hs d post a1 a2 a3 a4 ho hp (fun post' b1 b2 b3 b4 ho' hm' hp' => ih post' b1 b2 b3 b4 ho' (by omega) hp')
theorem rp5 {ρ A1 A2 A3 A4 A5 : Type} (W : Nat → (ρ → Prop) → A1 → A2 → A3 → A4 → A5 → Prop) (ok : A1 → A2 → A3 → A4 → A5 → Prop) (μ : A1 → A2 → A3 → A4 → A5 → Nat) (val : A1 → A2 → A3 → A4 → A5 → ρ)
    (hs : ∀ (d : Nat) (post : ρ → Prop) (a1 : A1) (a2 : A2) (a3 : A3) (a4 : A4) (a5 : A5), ok a1 a2 a3 a4 a5 → post (val a1 a2 a3 a4 a5) → (∀ (post' : ρ → Prop) (b1 : A1) (b2 : A2) (b3 : A3) (b4 : A4) (b5 : A5), ok b1 b2 b3 b4 b5 → μ b1 b2 b3 b4 b5 < μ a1 a2 a3 a4 a5 → post' (val b1 b2 b3 b4 b5) → W d post' b1 b2 b3 b4 b5) → W (d + 1) post a1 a2 a3 a4 a5) :
    ∀ (d : Nat) (post : ρ → Prop) (a1 : A1) (a2 : A2) (a3 : A3) (a4 : A4) (a5 : A5), ok a1 a2 a3 a4 a5 → μ a1 a2 a3 a4 a5 < d → post (val a1 a2 a3 a4 a5) → W d post a1 a2 a3 a4 a5 := by
  intro d
  induction d with
  | zero => intro post a1 a2 a3 a4 a5 _ h; omega
  | succ d ih =>
    intro post a1 a2 a3 a4 a5 ho hm hp
    exact hs d post a1 a2 a3 a4 a5 ho hp (fun post' b1 b2 b3 b4 b5 ho' hm' hp' => ih post' b1 b2 b3 b4 b5 ho' (by omega) hp')
theorem rp6 {ρ A1 A2 A3 A4 A5 A6 : Type} (W : Nat → (ρ → Prop) → A1 → A2 → A3 → A4 → A5 → A6 → Prop) (ok : A1 → A2 → A3 → A4 → A5 → A6 → Prop) (μ : A1 → A2 → A3 → A4 → A5 → A6 → Nat) (val : A1 → A2 → A3 → A4 → A5 → A6 → ρ)
    (hs : ∀ (d : Nat) (post : ρ → Prop) (a1 : A1) (a2 : A2) (a3 : A3) (a4 : A4) (a5 : A5) (a6 : A6), ok a1 a2 a3 a4 a5 a6 → post (val a1 a2 a3 a4 a5 a6) → (∀ (post' : ρ → Prop) (b1 : A1) (b2 : A2) (b3 : A3) (b4 : A4) (b5 : A5) (b6 : A6), ok b1 b2 b3 b4 b5 b6 → μ b1 b2 b3 b4 b5 b6 < μ a1 a2 a3 a4 a5 a6 → post' (val b1 b2 b3 b4 b5 b6) → W d post' b1 b2 b3 b4 b5 b6) → W (d + 1) post a1 a2 a3 a4 a5 a6) :
    ∀ (d : Nat) (post : ρ → Prop) (a1 : A1) (a2 : A2) (a3 : A3) (a4 : A4) (a5 : A5) (a6 : A6), ok a1 a2 a3 a4 a5 a6 → μ a1 a2 a3 a4 a5 a6 < d → post (val a1 a2 a3 a4 a5 a6) → W d post a1 a2 a3 a4 a5 a6 := by
  intro d
  induction d with
  | zero => intro post a1 a2 a3 a4 a5 a6 _ h; omega
  | succ d ih =>
    intro post a1 a2 a3 a4 a5 a6 ho hm hp
    exact hs d post a1 a2 a3 a4 a5 a6 ho hp (fun post' b1 b2 b3 b4 b5 b6 ho' hm' hp' => ih post' b1 b2 b3 b4 b5 b6 ho' (by omega) hp')
theorem rec_p {σ ρ : Type} (W : Nat → (ρ → Prop) → σ → Prop) (ok : σ → Prop) (μ : σ → Nat) (val : σ → ρ)
    (hs : ∀ d s post, ok s → post (val s) → (∀ s' post', ok s' → μ s' < μ s → post' (val s') → W d post' s') → W (d + 1) post s) :
    ∀ d s post, ok s → μ s < d → post (val s) → W d post s := by
  intro d
  induction d with
  | zero => intro s post _ h; omega
  | succ d ih =>
    intro s post ho hm hp
    exact hs d s post ho hp (fun s' post' ho' hm' hp' => ih s' post' ho' (by omega) hp')
theorem rec_q {σ ρ : Type} (W : Nat → (ρ → Prop) → σ → Prop) (ok : σ → Prop) (μ : σ → Nat) (Q : σ → ρ → Prop)
    (hs : ∀ d s post, ok s → (∀ r, Q s r → post r) → (∀ s' post', ok s' → μ s' < μ s → (∀ r, Q s' r → post' r) → W d post' s') → W (d + 1) post s) :
    ∀ d s post, ok s → μ s < d → (∀ r, Q s r → post r) → W d post s := by
  intro d
  induction d with
  | zero => intro s post _ h; omega
  | succ d ih =>
    intro s post ho hm hp
    exact hs d s post ho hp (fun s' post' ho' hm' hp' => ih s' post' ho' (by omega) hp')
def bx_sum (f : Nat → Int32) : Nat → Int32
  | 0 => 0
  | n + 1 => bx_sum f n + f n
theorem ek_u {A : Prop} {B : Nat → Prop} {k N : Nat} (hk : k < N) (h : B k) : (some k = none → A) ∧ (∀ y : Nat, some k = some y → (y < N ∧ B y)) :=
  ⟨fun z => absurd z (Option.some_ne_none k), fun _ e => (by cases e; exact ⟨hk, h⟩)⟩
theorem ek_nu {A : Prop} {B : Nat → Prop} (h : A) : ((none : Option Nat) = none → A) ∧ (∀ y : Nat, (none : Option Nat) = some y → B y) :=
  ⟨fun _ => h, fun _ e => (by cases e)⟩
theorem ek_if {c d A B : Prop} (e : c ↔ d) (f : d → A) (g : ¬ d → B) : (c → A) ∧ (¬ c → B) :=
  ⟨fun z => f (e.mp z), fun z => g (fun y => z (e.mpr y))⟩
theorem ek_v {α : Sort _} {P : α → Prop} {a b : α} (e : a = b) (h : P b) : P a := e ▸ h
theorem co_some {x : Option Nat} {A : Prop} {B : Nat → Prop} (i : Nat) (h : B i) (hx : x = some i := by rfl) : (x = none → A) ∧ (∀ y : Nat, x = some y → B y) := by
  subst hx
  exact ⟨fun e => (nomatch e), fun y e => Option.some.inj e ▸ h⟩
theorem co_none {x : Option Nat} {A : Prop} {B : Nat → Prop} (h : A) (hx : x = none := by rfl) : (x = none → A) ∧ (∀ y : Nat, x = some y → B y) := by
  subst hx
  exact ⟨fun _ => h, fun y e => (nomatch e)⟩
theorem co_any {x : Option Nat} {A : Prop} {B : Nat → Prop} (hn : x = none → A) (hs : ∀ i : Nat, x = some i → B i) : (x = none → A) ∧ (∀ y : Nat, x = some y → B y) := ⟨hn, hs⟩
theorem co_2 {P : Nat → Prop} (h0 : P 0) (h1 : P 1) {i : Nat} (hi : i < 2) : P i :=
  match i, hi with
  | 0, _ => h0
  | 1, _ => h1
theorem co_3 {P : Nat → Prop} (h0 : P 0) (h1 : P 1) (h2 : P 2) {i : Nat} (hi : i < 3) : P i :=
  match i, hi with
  | 0, _ => h0
  | 1, _ => h1
  | 2, _ => h2
theorem co_4 {P : Nat → Prop} (h0 : P 0) (h1 : P 1) (h2 : P 2) (h3 : P 3) {i : Nat} (hi : i < 4) : P i :=
  match i, hi with
  | 0, _ => h0
  | 1, _ => h1
  | 2, _ => h2
  | 3, _ => h3
theorem co_dec {N : Nat} {P : Nat → Prop} [DecidablePred P] (h : (List.range N).all (fun i => decide (P i)) = true) {i : Nat} (hi : i < N) : P i := by
  have := List.all_eq_true.mp h i (List.mem_range.mpr hi)
  exact of_decide_eq_true this
theorem co_tab {α : Type} {l : List α} {d : α} {P : α → Prop} (h : ∀ a, a ∈ l → P a) {i : Nat} (hi : i < l.length) : P (l.getD i d) := by
  rw [List.getD_eq_getElem?_getD, List.getElem?_eq_getElem hi]
  exact h _ (List.getElem_mem hi)
theorem pk_mu {x : Int32} {L : Nat} (h0 : ¬ x < 0) (h : ¬ nI L ≤ x) (hL : L < 2 ^ 31) : ∃ j : Nat, j < L ∧ x = nI j ∧ x + 1 = nI (j + 1) ∧ x.toNatClampNeg = j ∧ L - (x + 1).toNatClampNeg < L - x.toNatClampNeg := by
  obtain ⟨j, hj, rfl⟩ := nI_of h0
  have hl : j < L := Nat.not_le.mp fun q => h (nI_le q hj)
  refine ⟨j, hl, rfl, nI_1 j, nI_clamp hj, ?_⟩
  rw [nI_1, nI_clamp (by omega), nI_clamp hj]
  omega
theorem op_s {α : Type} {r : Option α} {A : Prop} {B : α → Prop} {y : α} (h : r = some y) (b : B y) : (r = none → A) ∧ ∀ z, r = some z → B z :=
  ⟨fun e => (by rw [h] at e; cases e), fun z e => (by rw [h] at e; cases e; exact b)⟩
def l_holds {α : Type} (a : Nat → Option Nat) (LP : List Nat) (p : Nat → α) (c : Nat) (b : Nat → α) : Prop :=
  ∀ j, j < c → ∃ y, a j = some y ∧ y ∈ LP ∧ p y = b j
theorem l_holds_0 {α : Type} {a : Nat → Option Nat} {LP : List Nat} {p b : Nat → α} : l_holds a LP p 0 b := fun j h => absurd h (Nat.not_lt_zero j)
theorem l_in_new (LP : List Nat) (q : Nat) : q ∈ LP ++ [q] := List.mem_append.mpr (Or.inr (List.mem_singleton.mpr rfl))
def l_sum (b : Nat → Int32) : Nat → Int32
  | 0 => 0
  | k + 1 => l_sum b k + b k
theorem sb_shr0 (x : Int32) : x >>> ((0 : Int32) &&& 31) = x := by
  rw [show ((0 : Int32) &&& 31) = 0 by decide]
  simp
theorem sb_shl0 (x : Int32) : x <<< ((0 : Int32) &&& 31) = x := by
  rw [show ((0 : Int32) &&& 31) = 0 by decide]
  simp
theorem sb_cl0 : (0 : Int32).toNatClampNeg = 0 := by decide
theorem sb_m1 {p : Nat} (h : 0 < p) : nI p + (-1) = nI (p - 1) := by
  obtain ⟨q, rfl⟩ : ∃ q, p = q + 1 := ⟨p - 1, by omega⟩
  exact pk_m1 q
def sb_b (c : Nat) : Int32 := (nI c).toInt8.toInt32
theorem sb_byte : ∀ c, c < 256 → sb_b c &&& 255 = nI c ∧ ((nI c).toUInt32 % 65536).toInt32 = nI c ∧ nI c ≤ 255 := by decide +kernel
def sb_Fit (a : Nat → Int32) : Prop := ∀ j, fits .byte (.int (a j)) = true
def sb_Lat (t : Nat → Nat) (n : Nat) (a : Nat → Int32) : Prop := ∀ j, j < n → t j < 256 ∧ a j = sb_b (t j)
theorem sb_fitB (c : Nat) : fits .byte (.int (sb_b c)) = true := pk_fb _
theorem sb_fit0 : sb_Fit (fun _ => 0) := fun _ => by
  show fits .byte (.int 0) = true
  decide
theorem sb_fitU {a : Nat → Int32} {k : Nat} {x : Int32} (h : sb_Fit a) (hx : fits .byte (.int x) = true) : sb_Fit (upd a k x) := by
  intro j
  by_cases e : j = k
  · subst e
    rw [pk_us]
    exact hx
  · rw [pk_un e]
    exact h j
def sb_cat (t : Nat → Nat) (n : Nat) (s : Nat → Nat) : Nat → Nat := fun j => if j < n then t j else s (j - n)
theorem sb_cat_lo {t s : Nat → Nat} {n j : Nat} (h : j < n) : sb_cat t n s j = t j := if_pos h
theorem sb_cat_hi {t s : Nat → Nat} {n j : Nat} : sb_cat t n s (n + j) = s j := by
  show (if n + j < n then t (n + j) else s (n + j - n)) = s j
  rw [if_neg (by omega), Nat.add_sub_cancel_left]
theorem sb_latPut {t s : Nat → Nat} {n w : Nat} {a a' : Nat → Int32} (h : sb_Lat t n a) (hk : ∀ j, j < n → a' j = a j) (hs : ∀ i, i < w → s i < 256 ∧ a' (n + i) = sb_b (s i)) : sb_Lat (sb_cat t n s) (n + w) a' := by
  intro j hj
  by_cases e : j < n
  · rw [sb_cat_lo e, hk j e]
    exact h j e
  · obtain ⟨i, rfl⟩ : ∃ i, j = n + i := ⟨j - n, by omega⟩
    rw [sb_cat_hi]
    exact hs i (by omega)
theorem sb_latKeep {t : Nat → Nat} {n : Nat} {a a' : Nat → Int32} (h : sb_Lat t n a) (hk : ∀ j, j < n → a' j = a j) : sb_Lat t n a' := fun j hj => by
  rw [hk j hj]
  exact h j hj
def sb_cap (q m : Nat) : Nat := if q ≤ m then m else if 2 * m + 2 < q then q else 2 * m + 2
def sb_Room (q m mc ms : Nat) : Prop := q ≤ m ∨ (1 ≤ mc ∧ sb_cap q m ≤ ms ∧ sb_cap q m ≤ 65536)
theorem sb_cap_ge (q m : Nat) : q ≤ sb_cap q m := by
  unfold sb_cap
  split
  · omega
  · split <;> omega
theorem sb_cap_gem (q m : Nat) : m ≤ sb_cap q m := by
  unfold sb_cap
  split
  · omega
  · split <;> omega
theorem sb_cap_le {q m mc ms : Nat} (hm : m ≤ 65536) (hr : sb_Room q m mc ms) : sb_cap q m ≤ 65536 := by
  rcases hr with h | h
  · rw [sb_cap, if_pos h]
    exact hm
  · exact h.2.2
theorem sb_at {P : Int32 → Prop} {x y : Int32} (e : x = y) (h : P y) : P x := e ▸ h
def sb_dg (w : Nat) : Nat := if w < 10 then 1 else if w < 100 then 2 else if w < 1000 then 3 else if w < 10000 then 4 else if w < 100000 then 5 else if w < 1000000 then 6 else if w < 10000000 then 7 else if w < 100000000 then 8 else if w < 1000000000 then 9 else 10
def sb_dec (v : Nat) : Nat → Nat := fun i => 48 + v / 10 ^ (sb_dg v - 1 - i) % 10
theorem sb_dg_in (w : Nat) : 1 ≤ sb_dg w ∧ sb_dg w ≤ 10 := by
  unfold sb_dg
  constructor <;> (repeat' split) <;> omega
theorem sb_dg100 {w : Nat} (h : 100 ≤ w) (hw : w < 2 ^ 31) : sb_dg w = sb_dg (w / 100) + 2 := by
  rw [sb_dg, sb_dg, if_neg (show ¬ w < 10 by omega), if_neg (show ¬ w < 100 by omega)]
  by_cases h3 : w < 1000
  · rw [if_pos h3, if_pos (show w / 100 < 10 by omega)]
  rw [if_neg h3, if_neg (show ¬ w / 100 < 10 by omega)]
  by_cases h4 : w < 10000
  · rw [if_pos h4, if_pos (show w / 100 < 100 by omega)]
  rw [if_neg h4, if_neg (show ¬ w / 100 < 100 by omega)]
  by_cases h5 : w < 100000
  · rw [if_pos h5, if_pos (show w / 100 < 1000 by omega)]
  rw [if_neg h5, if_neg (show ¬ w / 100 < 1000 by omega)]
  by_cases h6 : w < 1000000
  · rw [if_pos h6, if_pos (show w / 100 < 10000 by omega)]
  rw [if_neg h6, if_neg (show ¬ w / 100 < 10000 by omega)]
  by_cases h7 : w < 10000000
  · rw [if_pos h7, if_pos (show w / 100 < 100000 by omega)]
  rw [if_neg h7, if_neg (show ¬ w / 100 < 100000 by omega)]
  by_cases h8 : w < 100000000
  · rw [if_pos h8, if_pos (show w / 100 < 1000000 by omega)]
  rw [if_neg h8, if_neg (show ¬ w / 100 < 1000000 by omega)]
  by_cases h9 : w < 1000000000
  · rw [if_pos h9, if_pos (show w / 100 < 10000000 by omega)]
  rw [if_neg h9, if_neg (show ¬ w / 100 < 10000000 by omega)]
  rw [if_pos (show w / 100 < 100000000 by omega)]
theorem sb_negT {w : Nat} (h : w < 2 ^ 31) : (-nI w).toInt = -(w : Int) := by
  rw [Int32.toInt_neg, nI_toInt h]
  exact Int.bmod_eq_of_le (by omega) (by omega)
theorem sb_nle {a b : Nat} (ha : a < 2 ^ 31) (hb : b < 2 ^ 31) : -nI a ≤ -nI b ↔ b ≤ a := by
  rw [Int32.le_iff_toInt_le, sb_negT ha, sb_negT hb]
  omega
theorem sb_nlt {a b : Nat} (ha : a < 2 ^ 31) (hb : b < 2 ^ 31) : -nI a < -nI b ↔ b < a := by
  rw [Int32.lt_iff_toInt_lt, sb_negT ha, sb_negT hb]
  omega
theorem sb_cmp {A B : Prop} {x : Int32} (v c : Nat) (f : c ≤ v → A) (g : v < c → B) (hv : v < 2 ^ 31) (hx : x = -nI c := by rfl) (hc : c < 2 ^ 31 := by omega) : (-nI v ≤ x → A) ∧ (¬ -nI v ≤ x → B) := by
  subst hx
  rw [sb_nle hv hc]
  exact ⟨f, fun z => g (by omega)⟩
theorem sb_ndiv {w : Nat} (hw : w < 2 ^ 31) : (-nI w) / 100 = -nI (w / 100) := by
  apply Int32.toInt_inj.mp
  have h100 : (100 : Int32).toInt = 100 := by decide
  rw [Int32.toInt_div, sb_negT hw, h100, sb_negT (by omega), Int.neg_tdiv, Int.tdiv_eq_ediv_of_nonneg (by omega), Int.bmod_eq_of_le (by omega) (by omega)]
  omega
theorem sb_nrem {w : Nat} (hw : w < 2 ^ 31) : (-nI (w / 100)) * 100 - (-nI w) = nI (w % 100) := by
  have h := pk_rem (a := w) (d := 100) hw (by decide) (by decide)
  rw [pk_div hw (by decide) (by decide)] at h
  rw [← h]
  show (-nI (w / 100)) * nI 100 - (-nI w) = nI w - nI (w / 100) * nI 100
  rw [Int32.neg_mul, Int32.sub_neg, Int32.add_comm, ← Int32.sub_eq_add_neg]
end
section
/-! rows on bits, shifts and unsigned numbers, to paste: each family out of a closed proof of our own, whole with what it rests on; each by itself clean at Lean in its own claim (generation 39, form 5). Take a family whole -/
/-! ===== Int32 by its bits: bt x i ===== -/
def bt (x : Int32) (i : Nat) : Bool := x.toBitVec.getLsbD i
theorem b_ext {x y : Int32} (h : ∀ i, i < 32 → bt x i = bt y i) : x = y := Int32.toBitVec_inj.mp (BitVec.eq_of_getLsbD_eq (fun i hi => h i hi))
theorem b_or (x y : Int32) (i : Nat) : bt (x ||| y) i = (bt x i || bt y i) := by unfold bt; rw [Int32.toBitVec_or, BitVec.getLsbD_or]
theorem b_and (x y : Int32) (i : Nat) : bt (x &&& y) i = (bt x i && bt y i) := by unfold bt; rw [Int32.toBitVec_and, BitVec.getLsbD_and]
theorem b_xor (x y : Int32) (i : Nat) : bt (x ^^^ y) i = (bt x i ^^ bt y i) := by unfold bt; rw [Int32.toBitVec_xor, BitVec.getLsbD_xor]
theorem b_big {x : Int32} {i : Nat} (h : 32 ≤ i) : bt x i = false := BitVec.getLsbD_of_ge _ _ h
theorem b_255 (i : Nat) : bt 255 i = decide (i < 8) := by
  rcases Nat.lt_or_ge i 32 with h | h
  · exact (by decide +kernel : ∀ i, i < 32 → bt 255 i = decide (i < 8)) i h
  · rw [b_big h, decide_eq_false (by omega)]
theorem b_65535 (i : Nat) : bt 65535 i = decide (i < 16) := by
  rcases Nat.lt_or_ge i 32 with h | h
  · exact (by decide +kernel : ∀ i, i < 32 → bt 65535 i = decide (i < 16)) i h
  · rw [b_big h, decide_eq_false (by omega)]
theorem b_m1 : ∀ i, i < 32 → bt (-1) i = true := by decide +kernel
theorem b_0 (i : Nat) : bt 0 i = false := BitVec.getLsbD_zero
theorem s_l : ∀ n, n < 32 → ((nI n &&& 31).toBitVec.smod 32).toNat = n := by decide +kernel
theorem s_u : ∀ n, n < 32 → (((nI n).toUInt32 &&& Int32.toUInt32 31).toBitVec % 32).toNat = n := by decide +kernel
theorem b_shl (n : Nat) (hn : n < 32) (x : Int32) {i : Nat} (hi : i < 32) : bt (x <<< (nI n &&& 31)) i = (decide (n ≤ i) && bt x (i - n)) := by
  unfold bt
  rw [Int32.toBitVec_shiftLeft]
  show (x.toBitVec <<< ((nI n &&& 31).toBitVec.smod 32).toNat).getLsbD i = _
  rw [s_l n hn, BitVec.getLsbD_shiftLeft]
  rcases Nat.lt_or_ge i n with h | h
  · simp [h, Nat.not_le.mpr h]
  · simp [hi, h, Nat.not_lt.mpr h]
theorem b_ushr (n : Nat) (hn : n < 32) (x : Int32) (i : Nat) : bt ((x.toUInt32 >>> ((nI n).toUInt32 &&& Int32.toUInt32 31)).toInt32) i = bt x (n + i) := by
  show (x.toUInt32 >>> ((nI n).toUInt32 &&& Int32.toUInt32 31)).toBitVec.getLsbD i = x.toUInt32.toBitVec.getLsbD (n + i)
  rw [UInt32.toBitVec_shiftRight]
  show (x.toUInt32.toBitVec >>> (((nI n).toUInt32 &&& Int32.toUInt32 31).toBitVec % 32).toNat).getLsbD i = _
  rw [s_u n hn, BitVec.getLsbD_ushiftRight]
theorem b_sshr (n : Nat) (hn : n < 32) (x : Int32) {i : Nat} (hi : i < 32) : bt (x >>> (nI n &&& 31)) i = if n + i < 32 then bt x (n + i) else bt x 31 := by
  unfold bt
  rw [Int32.toBitVec_shiftRight]
  show (x.toBitVec.sshiftRight ((nI n &&& 31).toBitVec.smod 32).toNat).getLsbD i = _
  rw [s_l n hn, BitVec.getLsbD_sshiftRight, BitVec.msb_eq_getLsbD_last]
  simp [hi]
theorem b_shl8 (x : Int32) {i : Nat} (hi : i < 32) : bt (x <<< ((8 : Int32) &&& 31)) i = (decide (8 ≤ i) && bt x (i - 8)) := b_shl 8 (by omega) x hi
theorem b_shl16 (x : Int32) {i : Nat} (hi : i < 32) : bt (x <<< ((16 : Int32) &&& 31)) i = (decide (16 ≤ i) && bt x (i - 16)) := b_shl 16 (by omega) x hi
theorem b_shl24 (x : Int32) {i : Nat} (hi : i < 32) : bt (x <<< ((24 : Int32) &&& 31)) i = (decide (24 ≤ i) && bt x (i - 24)) := b_shl 24 (by omega) x hi
theorem b_sshr8 (x : Int32) {i : Nat} (hi : i < 32) : bt (x >>> ((8 : Int32) &&& 31)) i = if 8 + i < 32 then bt x (8 + i) else bt x 31 := b_sshr 8 (by omega) x hi
/-! ===== nI under and, xor, >>>, one bit, 65535 ===== -/
theorem nx_and (a b : Nat) : nI a &&& nI b = nI (a &&& b) := by
  apply Int32.toBitVec_inj.1
  show BitVec.ofNat 32 a &&& BitVec.ofNat 32 b = BitVec.ofNat 32 (a &&& b)
  apply BitVec.eq_of_getLsbD_eq
  intro i hi
  simp [hi]
theorem nx_xor (a b : Nat) : nI a ^^^ nI b = nI (a ^^^ b) := by
  apply Int32.toBitVec_inj.1
  show BitVec.ofNat 32 a ^^^ BitVec.ofNat 32 b = BitVec.ofNat 32 (a ^^^ b)
  apply BitVec.eq_of_getLsbD_eq
  intro i hi
  simp [hi]
theorem nx_cnt : ∀ j : Fin 32, (UInt32.ofNat j.val &&& Int32.toUInt32 31).toNat % 32 = j.val := by decide +kernel
theorem nx_ush {k j : Nat} (hk : k < 65536) (hj : j < 32) : ((nI k).toUInt32 >>> ((nI j).toUInt32 &&& Int32.toUInt32 31)).toInt32 = nI (k >>> j) := by
  have hs : k >>> j ≤ k := by
    rw [Nat.shiftRight_eq_div_pow]
    exact Nat.div_le_self _ _
  have e2 : UInt32.ofNat k >>> (UInt32.ofNat j &&& Int32.toUInt32 31) = UInt32.ofNat (k >>> j) := by
    apply UInt32.toNat_inj.1
    have h1 : (UInt32.ofNat k).toNat = k := Nat.mod_eq_of_lt (by omega)
    have h2 : (UInt32.ofNat (k >>> j)).toNat = k >>> j := Nat.mod_eq_of_lt (by omega)
    rw [UInt32.toNat_shiftRight, nx_cnt ⟨j, hj⟩, h1, h2]
  show (UInt32.ofNat k >>> (UInt32.ofNat j &&& Int32.toUInt32 31)).toInt32 = _
  rw [e2]
  rfl
theorem nx_bit {k j : Nat} (hk : k < 65536) (hj : j < 16) : (((nI k).toUInt32 >>> ((nI j).toUInt32 &&& Int32.toUInt32 31)).toInt32 &&& 1) = 0 ↔ k.testBit j = false := by
  rw [nx_ush hk (by omega)]
  show nI (k >>> j) &&& nI 1 = 0 ↔ _
  rw [nx_and, Nat.and_one_is_mod, ← nI_0, nI_eq (by omega) (by omega), Nat.testBit_eq_decide_div_mod_eq, Nat.shiftRight_eq_div_pow, decide_eq_false_iff_not]
  generalize k / 2 ^ j = z
  omega
theorem nx_mod (k : Nat) : nI k &&& 65535 = nI (k % 65536) := by
  show nI k &&& nI 65535 = _
  rw [nx_and, show (65535 : Nat) = 2 ^ 16 - 1 from rfl, Nat.and_two_pow_sub_one_eq_mod]
theorem nx_m16 {k : Nat} (h : k < 65536) : nI k &&& 65535 = nI k := by rw [nx_mod, Nat.mod_eq_of_lt h]
theorem nx_mask (x : Int32) : ∃ k, k < 65536 ∧ x &&& 65535 = nI k := by
  have e : x = nI x.toBitVec.toNat := by
    apply Int32.toBitVec_inj.1
    show x.toBitVec = BitVec.ofNat 32 x.toBitVec.toNat
    simp
  refine ⟨x.toBitVec.toNat % 65536, Nat.mod_lt _ (by omega), ?_⟩
  rw [← nx_mod, ← e]
/-! ===== Int32 as a set of bits: test, set ===== -/
def nf_M (m : Int32) : Nat := 4294967296 - m.toBitVec.toNat
theorem nf_sh : ∀ l, l < 32 → ((1 : Int32) <<< (nI l &&& 31)).toBitVec = BitVec.twoPow 32 l := by decide +kernel
theorem nf_sl : ∀ l, l < 32 → (((nI l).toUInt32 &&& Int32.toUInt32 31).toBitVec % 32).toNat = l := by decide +kernel
theorem nf_tp : ∀ l, l < 32 → BitVec.twoPow 32 l ≠ 0#32 := by decide +kernel
theorem nf_bit (m : Int32) (l : Nat) (hl : l < 32) : ((m.toUInt32 >>> ((nI l).toUInt32 &&& Int32.toUInt32 31)).toInt32 &&& 1) = 0 ↔ (m &&& ((1 : Int32) <<< (nI l &&& 31))) = 0 := by
  have e : ((m.toUInt32 >>> ((nI l).toUInt32 &&& Int32.toUInt32 31)).toInt32).toBitVec = m.toBitVec >>> l := by
    show m.toBitVec >>> (((nI l).toUInt32 &&& Int32.toUInt32 31).toBitVec % 32) = m.toBitVec >>> l
    rw [BitVec.ushiftRight_eq', nf_sl l hl]
  rw [← Int32.toBitVec_inj, ← Int32.toBitVec_inj, Int32.toBitVec_and, Int32.toBitVec_and, nf_sh l hl, e, BitVec.and_twoPow]
  show (m.toBitVec >>> l &&& 1#32) = 0#32 ↔ _ = 0#32
  rw [BitVec.and_one_eq_setWidth_ofBool_getLsbD, BitVec.getLsbD_ushiftRight, Nat.add_zero]
  cases hb : m.toBitVec.getLsbD l
  · exact ⟨fun _ => by simp, fun _ => by decide⟩
  · exact ⟨fun z => absurd z (by decide), fun z => absurd ((if_pos rfl).symm.trans z) (nf_tp l hl)⟩
theorem nf_gr (m k : Int32) (h : m &&& k = 0) (hk : k ≠ 0) : nf_M (m ||| k) < nf_M m := by
  have hm := m.toBitVec.isLt
  have hm' := (m ||| k).toBitVec.isLt
  have h1 : m.toBitVec.toNat ≤ (m ||| k).toBitVec.toNat := by
    rw [Int32.toBitVec_or, BitVec.toNat_or]
    exact Nat.left_le_or
  have h2 : m.toBitVec.toNat ≠ (m ||| k).toBitVec.toNat := by
    intro e
    have e2 : m = m ||| k := Int32.toBitVec_inj.mp (BitVec.eq_of_toNat_eq e)
    apply hk
    apply Int32.toBitVec_inj.mp
    show k.toBitVec = 0#32
    apply BitVec.eq_of_getLsbD_eq
    intro i hi
    have a : m.toBitVec.getLsbD i = (m.toBitVec.getLsbD i || k.toBitVec.getLsbD i) := by rw [← BitVec.getLsbD_or, ← Int32.toBitVec_or, ← e2]
    have b : (m.toBitVec.getLsbD i && k.toBitVec.getLsbD i) = false := by
      rw [← BitVec.getLsbD_and, ← Int32.toBitVec_and, h]
      exact BitVec.getLsbD_zero
    rw [BitVec.getLsbD_zero]
    revert a b
    cases m.toBitVec.getLsbD i <;> cases k.toBitVec.getLsbD i <;> simp
  unfold nf_M
  omega
/-! ===== a byte read unsigned ===== -/
theorem bp_b (x : Int32) : x.toInt8.toInt32 &&& 255 = x &&& 255 := by
  apply Int32.toBitVec_inj.mp
  rw [Int32.toBitVec_and, Int32.toBitVec_and, Int8.toBitVec_toInt32, Int32.toBitVec_toInt8]
  apply BitVec.eq_of_getLsbD_eq
  intro i hi
  rw [BitVec.getLsbD_and, BitVec.getLsbD_and]
  have hm : ∀ i < 32, 8 ≤ i → (255 : Int32).toBitVec.getLsbD i = false := by decide
  rcases Nat.lt_or_ge i 8 with z | z
  · rw [BitVec.getLsbD_signExtend, BitVec.getLsbD_signExtend, if_pos z, if_pos hi]
    simp only [z, hi, decide_true, Bool.true_and]
  · rw [hm i hi z]; simp
/-! ===== the char cast and 65535 ===== -/
theorem em_w (v : Int32) : ∃ w : Nat, w < 65536 ∧ (v.toUInt32 % 65536).toInt32 = nI w ∧ v &&& 65535 = nI w := by
  have hr := lw_u16_r v
  have h0 : (0 : Int32).toInt = 0 := by decide
  obtain ⟨w, h1, h2⟩ := nI_of (x := lw_u16 v) (by rw [Int32.lt_iff_toInt_lt]; omega)
  have h3 : (v.toUInt32 % 65536).toInt32 = nI w := h2
  rw [h2, nI_toInt h1] at hr
  exact ⟨w, by omega, h3, by rw [← lg_i2c_mask, ← lg_i2c_nf, h3]⟩
/-! ===== Int64 as a set of bits: test, set, clear ===== -/
theorem ts_nf {x : Bool} (h : ¬ x = false) : x = true := by cases x <;> first | rfl | exact absurd rfl h
theorem ts_nt {x : Bool} (h : ¬ x = true) : x = false := by cases x <;> first | rfl | exact absurd rfl h
theorem ts_bit {w : Int64} {s : UInt64} {j : Nat} (hj : j < 64) (hs : s.toNat = j) : ((w.toUInt64 >>> s).toInt64 &&& 1) = 0 ↔ w.toBitVec.getLsbD j = false := by
  have e : (w.toUInt64 >>> s).toInt64.toBitVec = w.toBitVec >>> j := by
    apply BitVec.eq_of_toNat_eq
    show (w.toUInt64 >>> s).toNat = _
    rw [UInt64.toNat_shiftRight, hs, Nat.mod_eq_of_lt hj, BitVec.toNat_ushiftRight]
    rfl
  rw [← Int64.toBitVec_inj, Int64.toBitVec_and, e]
  show w.toBitVec >>> j &&& 1#64 = 0#64 ↔ _
  constructor
  · intro h
    have t := congrArg (fun x => x.getLsbD 0) h
    simpa using t
  · intro h
    apply BitVec.eq_of_getLsbD_eq
    intro i hi
    cases i with
    | zero => simp [h]
    | succ i => simp
theorem ts_or {w m : Int64} {j : Nat} (hj : j < 64) (hm : m.toBitVec = BitVec.twoPow 64 j) : (w ||| m) = w ↔ w.toBitVec.getLsbD j = true := by
  rw [← Int64.toBitVec_inj, Int64.toBitVec_or, hm]
  constructor
  · intro h
    have t := congrArg (fun x => x.getLsbD j) h
    simp only [BitVec.getLsbD_or, BitVec.getLsbD_twoPow] at t
    simpa [hj] using t.symm
  · intro h
    apply BitVec.eq_of_getLsbD_eq
    intro i hi
    rw [BitVec.getLsbD_or, BitVec.getLsbD_twoPow]
    by_cases e : j = i
    · subst e; rw [h, Bool.true_or]
    · simp [e]
theorem ts_and {w m : Int64} {j : Nat} (hj : j < 64) (hm : m.toBitVec = BitVec.twoPow 64 j) : (w &&& (m ^^^ (-1))) = w ↔ w.toBitVec.getLsbD j = false := by
  have ha : (-1 : Int64).toBitVec = BitVec.allOnes 64 := by decide
  rw [← Int64.toBitVec_inj, Int64.toBitVec_and, Int64.toBitVec_xor, hm, ha]
  constructor
  · intro h
    have t := congrArg (fun x => x.getLsbD j) h
    simp only [BitVec.getLsbD_and, BitVec.getLsbD_xor, BitVec.getLsbD_twoPow, BitVec.getLsbD_allOnes] at t
    simpa [hj] using t.symm
  · intro h
    apply BitVec.eq_of_getLsbD_eq
    intro i hi
    rw [BitVec.getLsbD_and, BitVec.getLsbD_xor, BitVec.getLsbD_twoPow, BitVec.getLsbD_allOnes]
    by_cases e : j = i
    · subst e; rw [h, Bool.false_and]
    · simp [e, hi]
/-! ===== lN n to 2^64: shifts, and, or, masks, one bit ===== -/
theorem wb_tb (n : Nat) : (lN n).toBitVec = BitVec.ofNat 64 n := rfl
theorem wb_inj {a b : Int64} (h : a.toBitVec = b.toBitVec) : a = b := Int64.toBitVec_inj.mp h
theorem wb_tn {n : Nat} (h : n < 2 ^ 64) : (lN n).toBitVec.toNat = n := by rw [wb_tb, BitVec.toNat_ofNat, Nat.mod_eq_of_lt h]
theorem wb_of (x : Int64) : ∃ n, n < 2 ^ 64 ∧ x = lN n := ⟨x.toBitVec.toNat, x.toBitVec.isLt, wb_inj (by rw [wb_tb]; simp)⟩
theorem wb_of32 (x : Int32) : ∃ n, n < 2 ^ 32 ∧ x = nI n := ⟨x.toBitVec.toNat, x.toBitVec.isLt, Int32.toBitVec_inj.mp (by show _ = BitVec.ofNat 32 _; simp)⟩
theorem wb_c : ∀ k, k < 64 → ((nI k).toInt64 &&& 63) = lN k := by decide +kernel
theorem wb_cu : ∀ k, k < 64 → ((nI k).toInt64.toUInt64 &&& Int64.toUInt64 63) = UInt64.ofNat k := by decide +kernel
theorem wb_sm : ∀ k, k < 64 → (BitVec.ofNat 64 k).smod 64 = BitVec.ofNat 64 k := by decide +kernel
theorem wb_pw {a b : Nat} (h : a ≤ b) : 2 ^ b = 2 ^ a * 2 ^ (b - a) := by rw [← Nat.pow_add]; congr 1; omega
theorem wb_lt2 {a b : Nat} (h : a < b) : 2 ^ a < 2 ^ b := Nat.pow_lt_pow_right (by decide) h
theorem wb_mod (n : Nat) : lN n = lN (n % 2 ^ 64) := wb_inj (by rw [wb_tb, wb_tb]; apply BitVec.eq_of_toNat_eq; rw [BitVec.toNat_ofNat, BitVec.toNat_ofNat, Nat.mod_mod])
theorem wb_shr {n k : Nat} (hn : n < 2 ^ 64) (hk : k < 64) : ((lN n).toUInt64 >>> ((nI k).toInt64.toUInt64 &&& Int64.toUInt64 63)).toInt64 = lN (n / 2 ^ k) := by
  rw [wb_cu k hk]
  apply wb_inj
  apply BitVec.eq_of_toNat_eq
  show ((lN n).toUInt64 >>> UInt64.ofNat k).toNat = (BitVec.ofNat 64 _).toNat
  have h1 : (UInt64.ofNat k).toNat = k := by
    show (BitVec.ofNat 64 k).toNat = k
    rw [BitVec.toNat_ofNat, Nat.mod_eq_of_lt (by omega)]
  have h2 : (lN n).toUInt64.toNat = n := wb_tn hn
  rw [UInt64.toNat_shiftRight, h1, h2, Nat.mod_eq_of_lt hk, Nat.shiftRight_eq_div_pow, BitVec.toNat_ofNat, Nat.mod_eq_of_lt (Nat.lt_of_le_of_lt (Nat.div_le_self _ _) hn)]
theorem wb_shl (n : Nat) {k : Nat} (hk : k < 64) : lN n <<< ((nI k).toInt64 &&& 63) = lN (n * 2 ^ k) := by
  rw [wb_c k hk]
  apply wb_inj
  rw [Int64.toBitVec_shiftLeft, wb_tb, wb_tb, wb_tb, wb_sm k hk]
  apply BitVec.eq_of_toNat_eq
  rw [BitVec.shiftLeft_eq', BitVec.toNat_shiftLeft, BitVec.toNat_ofNat, BitVec.toNat_ofNat, BitVec.toNat_ofNat, Nat.mod_eq_of_lt (show k < 2 ^ 64 by omega), Nat.shiftLeft_eq, Nat.mul_mod, Nat.mod_mod, ← Nat.mul_mod]
theorem wb_and {a b : Nat} (ha : a < 2 ^ 64) (hb : b < 2 ^ 64) : lN a &&& lN b = lN (a &&& b) := by
  apply wb_inj
  rw [Int64.toBitVec_and, wb_tb, wb_tb, wb_tb]
  apply BitVec.eq_of_toNat_eq
  rw [BitVec.toNat_and, BitVec.toNat_ofNat, BitVec.toNat_ofNat, BitVec.toNat_ofNat, Nat.mod_eq_of_lt ha, Nat.mod_eq_of_lt hb, Nat.mod_eq_of_lt (Nat.and_lt_two_pow _ hb)]
theorem wb_or {a b : Nat} (ha : a < 2 ^ 64) (hb : b < 2 ^ 64) : lN a ||| lN b = lN (a ||| b) := by
  apply wb_inj
  rw [Int64.toBitVec_or, wb_tb, wb_tb, wb_tb]
  apply BitVec.eq_of_toNat_eq
  rw [BitVec.toNat_or, BitVec.toNat_ofNat, BitVec.toNat_ofNat, BitVec.toNat_ofNat, Nat.mod_eq_of_lt ha, Nat.mod_eq_of_lt hb, Nat.mod_eq_of_lt (Nat.or_lt_two_pow ha hb)]
theorem wb_mask {n k : Nat} (hn : n < 2 ^ 64) (hk : k < 64) : lN n &&& lN (2 ^ k - 1) = lN (n % 2 ^ k) := by
  rw [wb_and hn (by have := wb_lt2 hk; omega), Nat.and_two_pow_sub_one_eq_mod]
theorem wb_a1 {n : Nat} (hn : n < 2 ^ 64) : lN n &&& 1 = lN (n % 2) := wb_mask (k := 1) hn (by decide)
theorem wb_bit {n k : Nat} (hn : n < 2 ^ 64) (hk : k < 64) : ((lN n).toUInt64 >>> ((nI k).toInt64.toUInt64 &&& Int64.toUInt64 63)).toInt64 &&& 1 = lN (n / 2 ^ k % 2) := by
  rw [wb_shr hn hk, wb_a1 (Nat.lt_of_le_of_lt (Nat.div_le_self _ _) hn)]
theorem wb_xor {q k : Nat} (hk : k < 63) (h : 2 ^ k ≤ q) (h2 : q < 2 ^ (k + 1)) : lN q ^^^ lN (2 ^ k) = lN (q - 2 ^ k) := by
  obtain ⟨r, rfl⟩ : ∃ r, q = 2 ^ k + r := ⟨q - 2 ^ k, by omega⟩
  have hr : r < 2 ^ k := by rw [Nat.pow_succ] at h2; omega
  have hx : (2 ^ k + r) ^^^ 2 ^ k = r := by
    apply Nat.eq_of_testBit_eq
    intro i
    rw [Nat.testBit_xor, Nat.testBit_two_pow]
    rcases Nat.lt_trichotomy i k with h | h | h
    · rw [Nat.testBit_two_pow_add_gt h]
      simp [show ¬ k = i by omega]
    · subst h
      rw [Nat.testBit_two_pow_add_eq]
      simp
    · have a1 : 2 ^ (k + 1) ≤ 2 ^ i := Nat.pow_le_pow_right (by decide) h
      rw [Nat.testBit_lt_two_pow (show 2 ^ k + r < 2 ^ i by omega), Nat.testBit_lt_two_pow (show r < 2 ^ i by omega)]
      simp [show ¬ k = i by omega]
  have b1 := wb_lt2 (show k + 1 < 64 by omega)
  have b2 := wb_lt2 (show k < 64 by omega)
  apply wb_inj
  rw [Int64.toBitVec_xor, wb_tb, wb_tb, wb_tb]
  apply BitVec.eq_of_toNat_eq
  rw [BitVec.toNat_xor, BitVec.toNat_ofNat, BitVec.toNat_ofNat, BitVec.toNat_ofNat, Nat.mod_eq_of_lt (by omega : 2 ^ k + r < 2 ^ 64), Nat.mod_eq_of_lt b2, hx, Nat.add_sub_cancel_left, Nat.mod_eq_of_lt (by omega)]
/-! ===== lN: masks, 'or' of parts that don't overlap is a sum ===== -/
theorem u_tn {n : Nat} (h : n < 2 ^ 64) : (UInt64.ofNat n).toNat = n := Nat.mod_eq_of_lt h
theorem g_and {a b c : Nat} (ha : a < 2 ^ 64) (hb : b < 2 ^ 64) (hc : a &&& b = c) : lN a &&& lN b = lN c := by
  subst hc
  have h : UInt64.ofNat a &&& UInt64.ofNat b = UInt64.ofNat (a &&& b) := UInt64.toNat_inj.mp (by rw [UInt64.toNat_and, u_tn ha, u_tn hb, u_tn (Nat.and_lt_two_pow a hb)])
  have h2 := congrArg UInt64.toInt64 h
  exact h2
theorem g_and1 {a : Nat} (ha : a < 2 ^ 64) : lN a &&& 1 = lN (a % 2) := g_and (b := 1) ha (by decide) (Nat.and_two_pow_sub_one_eq_mod a 1)
theorem g_mask {a s p : Nat} (hp : 2 ^ s = p) (hs : s < 64) (ha : a < 2 ^ 64) : lN a &&& lN (p - 1) = lN (a % p) := by
  subst hp
  have := Nat.pow_lt_pow_right (show 1 < 2 by decide) hs
  exact g_and ha (by omega) (Nat.and_two_pow_sub_one_eq_mod a s)
theorem g_or {k p a b : Nat} (hp : 2 ^ k = p) (ha : a < p) (h : b * p + a < 2 ^ 64) : lN (b * p) ||| lN a = lN (b * p + a) := by
  subst hp
  have h1 : b * 2 ^ k ||| a = b * 2 ^ k + a := by rw [← Nat.shiftLeft_eq, Nat.shiftLeft_add_eq_or_of_lt ha]
  have h3 : UInt64.ofNat (b * 2 ^ k) ||| UInt64.ofNat a = UInt64.ofNat (b * 2 ^ k + a) := UInt64.toNat_inj.mp (by rw [UInt64.toNat_or, u_tn (by omega), u_tn (by omega), u_tn h, h1])
  have h2 := congrArg UInt64.toInt64 h3
  exact h2
theorem g_or' {k p a b : Nat} (hp : 2 ^ k = p) (ha : a < p) (h : a + b * p < 2 ^ 64) : lN a ||| lN (b * p) = lN (a + b * p) := by
  rw [Int64.or_comm, g_or hp ha (by omega), Nat.add_comm]
theorem g_ushr {a k p : Nat} {y : UInt64} (hy : y = UInt64.ofNat k) (hk : k < 64) (hp : 2 ^ k = p) (ha : a < 2 ^ 64) : ((lN a).toUInt64 >>> y).toInt64 = lN (a / p) := by
  subst hy hp
  have h : UInt64.ofNat a >>> UInt64.ofNat k = UInt64.ofNat (a / 2 ^ k) := UInt64.toNat_inj.mp (by rw [UInt64.toNat_shiftRight, u_tn ha, u_tn (by omega), u_tn (Nat.lt_of_le_of_lt (Nat.div_le_self _ _) ha), Nat.mod_eq_of_lt hk, Nat.shiftRight_eq_div_pow])
  have h2 := congrArg UInt64.toInt64 h
  exact h2
theorem g_shl {a k p : Nat} {y : Int64} (hy : y.toBitVec.smod 64 = BitVec.ofNat 64 k) (hk : k < 64) (hp : 2 ^ k = p) (ha : a < 2 ^ 64) : lN a <<< y = lN (a * p) := by
  subst hp
  apply Int64.toBitVec_inj.mp
  rw [Int64.toBitVec_shiftLeft, hy]
  apply BitVec.eq_of_toNat_eq
  have hb : (lN a).toBitVec.toNat = a := Nat.mod_eq_of_lt ha
  have hk' : (BitVec.ofNat 64 k).toNat = k := Nat.mod_eq_of_lt (by omega)
  have h : ((lN a).toBitVec <<< BitVec.ofNat 64 k).toNat = (a * 2 ^ k) % 2 ^ 64 := by simp only [BitVec.shiftLeft_eq', BitVec.toNat_shiftLeft, hb, hk', Nat.shiftLeft_eq]
  exact h
/-! ===== lN to 2^62 under >> and >>> ===== -/
theorem pf_lI {a : Nat} (h : a < 2 ^ 63) : (lN a).toInt = (a : Int) := lg_ofNat_toInt h
theorem pf_shr {a d : Nat} {D : Int64} (hD : (D.toBitVec.smod 64).toNat = d) (h : a < 2 ^ 62) : lN a >>> D = lN (a / 2 ^ d) := by
  have hd : a / 2 ^ d ≤ a := Nat.div_le_self _ _
  apply Int64.toInt_inj.mp
  have e : (lN a >>> D).toInt = (lN a).toInt >>> d := by
    rw [← hD]
    exact BitVec.toInt_sshiftRight ..
  rw [e, Int.shiftRight_eq_div_pow, pf_lI (by omega), pf_lI (by omega)]
  rfl
theorem pf_ushr {a d : Nat} {D : UInt64} (hD : D.toNat % 64 = d) (h : a < 2 ^ 62) : ((lN a).toUInt64 >>> D).toInt64 = lN (a / 2 ^ d) := by
  have hd : a / 2 ^ d ≤ a := Nat.div_le_self _ _
  have e : (lN a).toUInt64 >>> D = UInt64.ofNat (a / 2 ^ d) := UInt64.toNat_inj.mp (by
    rw [UInt64.toNat_shiftRight, hD, Nat.shiftRight_eq_div_pow, UInt64.toNat_ofNat']
    show (UInt64.ofNat a).toNat / 2 ^ d = _
    rw [UInt64.toNat_ofNat', Nat.mod_eq_of_lt (by omega), Nat.mod_eq_of_lt (by omega)])
  rw [e]
  rfl
theorem pf_andw (x : Int64) : ∃ m, m < 2 ^ 32 ∧ x &&& 4294967295 = lN m := ⟨x.toBitVec.toNat % 2 ^ 32, Nat.mod_lt _ (by decide), Int64.toBitVec_inj.mp (BitVec.eq_of_toNat_eq (by
  show (x.toBitVec &&& 4294967295#64).toNat = (BitVec.ofNat 64 (x.toBitVec.toNat % 2 ^ 32)).toNat
  rw [BitVec.toNat_and, show (4294967295#64).toNat = 2 ^ 32 - 1 from by decide, Nat.and_two_pow_sub_one_eq_mod, BitVec.toNat_ofNat]
  omega))⟩
/-! ===== Int64 as an unsigned number: uN x ===== -/
def uN (x : Int64) : Nat := x.toUInt64.toNat
theorem uN_lt (x : Int64) : uN x < 18446744073709551616 := x.toUInt64.toNat_lt
theorem uN_inj {x y : Int64} (h : uN x = uN y) : x = y := congrArg UInt64.toInt64 (UInt64.toNat_inj.mp h)
theorem uN_add (x y : Int64) : uN (x + y) = (uN x + uN y) % 18446744073709551616 := by
  show (x.toUInt64 + y.toUInt64).toNat = _
  exact UInt64.toNat_add _ _
theorem uN_mul (x y : Int64) : uN (x * y) = (uN x * uN y) % 18446744073709551616 := by
  show (x.toUInt64 * y.toUInt64).toNat = _
  exact UInt64.toNat_mul _ _
theorem uN_shl (x : Int64) : uN (x <<< ((1 : Int32).toInt64 &&& 63)) = (2 * uN x) % 18446744073709551616 := by
  have h : (((1 : Int32).toInt64 &&& 63).toBitVec.smod 64).toNat = 1 := by decide
  show (x.toBitVec <<< (((1 : Int32).toInt64 &&& 63).toBitVec.smod 64).toNat).toNat = _
  rw [h, BitVec.toNat_shiftLeft, Nat.shiftLeft_eq, Nat.mul_comm]
  rfl
theorem uN_shr (x : Int64) (s : UInt64) : uN (x.toUInt64 >>> s).toInt64 = uN x / 2 ^ (s.toNat % 64) := by
  show (x.toUInt64 >>> s).toNat = _
  rw [UInt64.toNat_shiftRight, Nat.shiftRight_eq_div_pow]
  rfl
theorem uN_s32 (x : Int64) : uN (x.toUInt64 >>> ((32 : Int32).toInt64.toUInt64 &&& Int64.toUInt64 63)).toInt64 = uN x / 4294967296 := by
  have h : ((32 : Int32).toInt64.toUInt64 &&& Int64.toUInt64 63).toNat % 64 = 32 := by decide
  rw [uN_shr, h]
theorem uN_s63 (x : Int64) : uN (x.toUInt64 >>> ((63 : Int32).toInt64.toUInt64 &&& Int64.toUInt64 63)).toInt64 = uN x / 9223372036854775808 := by
  have h : ((63 : Int32).toInt64.toUInt64 &&& Int64.toUInt64 63).toNat % 64 = 63 := by decide
  rw [uN_shr, h]
theorem uN_lo (x : Int64) : uN (x &&& 4294967295) = uN x % 4294967296 := by
  show (x.toUInt64 &&& Int64.toUInt64 4294967295).toNat = _
  rw [UInt64.toNat_and]
  exact Nat.and_two_pow_sub_one_eq_mod _ 32
theorem uN_bit (x : Int64) : (x &&& 1) = 0 ↔ uN x % 2 = 0 := by
  have h : uN (x &&& 1) = uN x % 2 := by
    show (x.toUInt64 &&& Int64.toUInt64 1).toNat = _
    rw [UInt64.toNat_and]
    exact Nat.and_two_pow_sub_one_eq_mod _ 1
  rw [← h]
  exact ⟨fun z => by rw [z]; rfl, fun z => uN_inj (z.trans rfl)⟩
theorem uN_or {x y : Int64} (hy : uN y < 2) : uN ((x <<< ((1 : Int32).toInt64 &&& 63)) ||| y) = (2 * uN x) % 18446744073709551616 + uN y := by
  have h1 : uN ((x <<< ((1 : Int32).toInt64 &&& 63)) ||| y) = uN (x <<< ((1 : Int32).toInt64 &&& 63)) ||| uN y := UInt64.toNat_or _ _
  have h2 : (2 * uN x) % 18446744073709551616 = 2 ^ 1 * (uN x % 9223372036854775808) := by omega
  rw [h1, uN_shl, h2]
  exact (Nat.two_pow_add_eq_or_of_lt (i := 1) hy _).symm
theorem nat_xor {a : Nat} (h : a < 18446744073709551616) : a ^^^ 2 ^ 63 = (a + 9223372036854775808) % 18446744073709551616 := by
  have h1 : (a ^^^ 2 ^ 63) % 2 ^ 63 = a % 2 ^ 63 := by rw [Nat.xor_mod_two_pow, Nat.mod_self, Nat.xor_zero]
  have h2 : (a ^^^ 2 ^ 63) / 2 ^ 63 = (a / 2 ^ 63) ^^^ 1 := by rw [Nat.xor_div_two_pow, Nat.div_self (Nat.two_pow_pos 63)]
  have h3 : a / 2 ^ 63 = 0 ∨ a / 2 ^ 63 = 1 := by omega
  generalize a ^^^ 2 ^ 63 = t at h1 h2
  rcases h3 with h3 | h3
  · rw [h3] at h2
    have h2 : t / 2 ^ 63 = 1 := h2
    omega
  · rw [h3] at h2
    have h2 : t / 2 ^ 63 = 0 := h2
    omega
theorem uN_xor (x : Int64) : uN (x ^^^ (-9223372036854775808)) = (uN x + 9223372036854775808) % 18446744073709551616 := by
  rw [← nat_xor (uN_lt x)]
  exact UInt64.toNat_xor _ _
theorem uN_int (x : Int64) : x.toInt = if 2 * uN x < 18446744073709551616 then (uN x : Int) else (uN x : Int) - 18446744073709551616 := BitVec.toInt_eq_toNat_cond _
theorem uN_le (x y : Int64) : (x ^^^ (-9223372036854775808)) ≤ (y ^^^ (-9223372036854775808)) ↔ uN x ≤ uN y := by
  have hx := uN_lt x
  have hy := uN_lt y
  rw [Int64.le_iff_toInt_le, uN_int, uN_int, uN_xor, uN_xor]
  omega
theorem uN_sk (x : Int64) {k : Nat} (hk : k < 64) : uN (x.toUInt64 >>> ((nI k).toInt64.toUInt64 &&& Int64.toUInt64 63)).toInt64 = uN x / 2 ^ k := by
  have h : ((nI k).toInt64.toUInt64 &&& Int64.toUInt64 63).toNat % 64 = k := by
    rw [nI_l (by omega), UInt64.toNat_and]
    have e : (lN k).toUInt64.toNat = k % 2 ^ 64 := rfl
    have e2 : (Int64.toUInt64 63).toNat = 2 ^ 6 - 1 := by decide
    rw [e, e2, Nat.and_two_pow_sub_one_eq_mod]
    omega
  rw [uN_shr, h]
/-! ===== unsigned comparison by xor with the least ===== -/
theorem lN_bv (n : Nat) : (lN n).toBitVec = BitVec.ofNat 64 n := rfl
theorem lN_nat {n : Nat} (h : n < 2 ^ 64) : (lN n).toBitVec.toNat = n := by rw [lN_bv, BitVec.toNat_ofNat]; exact Nat.mod_eq_of_lt h
theorem lN_xor (a b : Nat) : lN a ^^^ lN b = lN (a ^^^ b) := by
  apply Int64.toBitVec_inj.mp; rw [Int64.toBitVec_xor, lN_bv, lN_bv, lN_bv]; apply BitVec.eq_of_getLsbD_eq; intro i hi; simp [BitVec.getLsbD_ofNat, Nat.testBit_xor, hi]
theorem lN_ti {m : Nat} (h : m < 2 ^ 64) : (lN m).toInt = if m < 2 ^ 63 then (m : Int) else (m : Int) - 2 ^ 64 := by
  have c := BitVec.toInt_eq_toNat_cond (lN m).toBitVec
  rw [lN_nat h] at c
  show (lN m).toBitVec.toInt = _
  rw [c]
  split <;> split <;> omega
theorem xor63 {x : Nat} (h : x < 2 ^ 63) : x ^^^ 2 ^ 63 = 2 ^ 63 + x := by
  apply Nat.eq_of_testBit_eq
  intro i
  rw [Nat.testBit_xor, Nat.testBit_two_pow]
  rcases Nat.lt_trichotomy i 63 with z | z | z
  · rw [Nat.testBit_two_pow_add_gt z, decide_eq_false (by omega)]; simp
  · subst z; rw [Nat.testBit_two_pow_add_eq]; simp
  · have hp : 2 ^ 64 ≤ 2 ^ i := Nat.pow_le_pow_right (by decide) z
    rw [Nat.testBit_lt_two_pow (show x < 2 ^ i by omega), Nat.testBit_lt_two_pow (show 2 ^ 63 + x < 2 ^ i by omega), decide_eq_false (by omega)]; rfl
theorem xorS {a : Nat} (h : a < 2 ^ 64) : (lN a ^^^ (-9223372036854775808)).toInt = (a : Int) - 2 ^ 63 := by
  rw [show (-9223372036854775808 : Int64) = lN (2 ^ 63) from by decide +kernel, lN_xor]
  rcases Nat.lt_or_ge a (2 ^ 63) with z | z
  · rw [xor63 z, lN_ti (by omega), if_neg (by omega)]; omega
  · obtain ⟨x, rfl⟩ : ∃ x, a = 2 ^ 63 + x := ⟨a - 2 ^ 63, by omega⟩
    rw [← xor63 (by omega), Nat.xor_assoc, Nat.xor_self, Nat.xor_zero, lN_ti (by omega), if_pos (by omega), xor63 (by omega)]; omega
theorem ultL {a b : Nat} (ha : a < 2 ^ 64) (hb : b < 2 ^ 64) : ((lN b ^^^ (-9223372036854775808)) ≤ (lN a ^^^ (-9223372036854775808))) ↔ b ≤ a := by
  rw [Int64.le_iff_toInt_le, xorS ha, xorS hb]; omega
/-! ===== Int64 masks of n low bits ===== -/
theorem cr_bits (W U M : BitVec 64) : ((W &&& U) &&& (U &&& (M ^^^ BitVec.allOnes 64))) = 0#64 ↔ (W &&& U) &&& M = W &&& U := by
  constructor
  · intro h
    apply BitVec.eq_of_getLsbD_eq
    intro i hi
    have e := congrArg (fun x => BitVec.getLsbD x i) h
    simp only [BitVec.getLsbD_and, BitVec.getLsbD_xor, BitVec.getLsbD_allOnes, BitVec.getLsbD_zero, hi, decide_true] at e ⊢
    revert e
    cases W.getLsbD i <;> cases U.getLsbD i <;> cases M.getLsbD i <;> decide
  · intro h
    apply BitVec.eq_of_getLsbD_eq
    intro i hi
    have e := congrArg (fun x => BitVec.getLsbD x i) h
    simp only [BitVec.getLsbD_and, BitVec.getLsbD_xor, BitVec.getLsbD_allOnes, BitVec.getLsbD_zero, hi, decide_true] at e ⊢
    revert e
    cases W.getLsbD i <;> cases U.getLsbD i <;> cases M.getLsbD i <;> decide
theorem cr_mask (w U m : Int64) (n : Nat) (hm : m.toBitVec.toNat = 2 ^ n - 1) : ((w &&& U) &&& (U &&& (m ^^^ (-1)))) = 0 ↔ (w &&& U).toBitVec.toNat < 2 ^ n := by
  have e0 : (-1 : Int64).toBitVec = BitVec.allOnes 64 := by decide
  have z0 : (0 : Int64).toBitVec = 0#64 := by decide
  rw [← Int64.toBitVec_inj, z0, Int64.toBitVec_and, Int64.toBitVec_and, Int64.toBitVec_and, Int64.toBitVec_xor, e0, cr_bits]
  generalize w.toBitVec &&& U.toBitVec = T
  rw [← BitVec.toNat_inj, BitVec.toNat_and, hm, Nat.and_two_pow_sub_one_eq_mod]
  constructor
  · intro h
    have t := Nat.mod_lt T.toNat (Nat.two_pow_pos n)
    rw [h] at t
    exact t
  · exact Nat.mod_eq_of_lt
theorem cr_shr (t : Int64) (x : UInt64) (n : Nat) (hx : x.toNat % 64 = n) : (t.toUInt64 >>> x).toInt64 = 0 ↔ t.toBitVec.toNat < 2 ^ n := by
  rw [← Int64.toBitVec_inj, ← BitVec.toNat_inj]
  show (t.toUInt64 >>> x).toNat = 0 ↔ t.toUInt64.toNat < 2 ^ n
  rw [UInt64.toNat_shiftRight, hx, Nat.shiftRight_eq_div_pow]
  constructor
  · intro h
    have d : t.toUInt64.toNat / 2 ^ n < 1 := by
      rw [h]
      decide
    have e := (Nat.div_lt_iff_lt_mul (Nat.two_pow_pos n)).mp d
    rw [Nat.one_mul] at e
    exact e
  · exact Nat.div_eq_of_lt
theorem cr_amt (s : Int64) : ∃ n, n < 64 ∧ s &&& 63 = lN n ∧ (s.toUInt64 &&& Int64.toUInt64 63).toNat % 64 = n := by
  have e : (s.toUInt64 &&& Int64.toUInt64 63).toNat = s.toUInt64.toNat % 2 ^ 6 := by
    rw [UInt64.toNat_and, show (Int64.toUInt64 63).toNat = 2 ^ 6 - 1 from by decide, Nat.and_two_pow_sub_one_eq_mod]
  refine ⟨s.toUInt64.toNat % 2 ^ 6, by omega, ?_, by omega⟩
  rw [← Int64.toBitVec_inj, ← BitVec.toNat_inj]
  show (s.toUInt64 &&& Int64.toUInt64 63).toNat = (BitVec.ofNat 64 (s.toUInt64.toNat % 2 ^ 6)).toNat
  rw [e, BitVec.toNat_ofNat]
  omega
end
section
/-! terms as the lists of their symbols, a symbol before its parts -/
/-- how many parts a symbol has -/
def bu_ar (s : Int32) : Nat := if s = 3 then 1 else if s = 4 then 1 else if s = 5 then 2 else if s = 6 then 2 else 0
theorem bu_ar_le (s : Int32) : bu_ar s ≤ 2 := by
  unfold bu_ar
  repeat' split
  all_goals decide
theorem bu_ar_var {s : Int32} (h : 7 ≤ s) : bu_ar s = 0 := by
  unfold bu_ar
  rw [if_neg, if_neg, if_neg, if_neg]
  all_goals (intro e; rw [e] at h; revert h; decide)
theorem bu_ar_cases (s : Int32) : bu_ar s = 0 ∨ bu_ar s = 1 ∨ bu_ar s = 2 := by
  have := bu_ar_le s
  omega
/-- the segment of an array as a list -/
def bu_sg (f : Nat → Int32) : Nat → Nat → List Int32
  | _, 0 => []
  | a, k + 1 => f a :: bu_sg f (a + 1) k
theorem bu_sg_0 (f : Nat → Int32) (a : Nat) : bu_sg f a 0 = [] := rfl
theorem bu_sg_s (f : Nat → Int32) (a k : Nat) : bu_sg f a (k + 1) = f a :: bu_sg f (a + 1) k := rfl
theorem bu_sg_len (f : Nat → Int32) : ∀ (k a : Nat), (bu_sg f a k).length = k := by
  intro k
  induction k with
  | zero => intro a; rfl
  | succ k ih => intro a; rw [bu_sg_s, List.length_cons, ih]
theorem bu_sg_app (f : Nat → Int32) (l : Nat) : ∀ (k a : Nat), bu_sg f a (k + l) = bu_sg f a k ++ bu_sg f (a + k) l := by
  intro k
  induction k with
  | zero => intro a; rw [Nat.zero_add, bu_sg_0, List.nil_append, Nat.add_zero]
  | succ k ih =>
    intro a
    rw [show k + 1 + l = (k + l) + 1 from by omega, bu_sg_s, bu_sg_s, ih, List.cons_append, show a + 1 + k = a + (k + 1) from by omega]
theorem bu_sg_cg {f g : Nat → Int32} : ∀ (k a b : Nat), (∀ j, j < k → f (a + j) = g (b + j)) → bu_sg f a k = bu_sg g b k := by
  intro k
  induction k with
  | zero => intro a b _; rfl
  | succ k ih =>
    intro a b h
    have h0 : f a = g b := h 0 (by omega)
    rw [bu_sg_s, bu_sg_s, h0, ih (a + 1) (b + 1) (fun j hj => by
      have := h (j + 1) (by omega)
      rw [show a + 1 + j = a + (j + 1) from by omega, show b + 1 + j = b + (j + 1) from by omega]
      exact this)]
theorem bu_sg_inj {f g : Nat → Int32} : ∀ (k a b : Nat), bu_sg f a k = bu_sg g b k → ∀ j, j < k → f (a + j) = g (b + j) := by
  intro k
  induction k with
  | zero => intro a b _ j hj; omega
  | succ k ih =>
    intro a b h j hj
    rw [bu_sg_s, bu_sg_s] at h
    have h1 := (List.cons.inj h).1
    have h2 := (List.cons.inj h).2
    cases j with
    | zero => exact h1
    | succ j =>
      have := ih (a + 1) (b + 1) h2 j (by omega)
      rw [show a + (j + 1) = a + 1 + j from by omega, show b + (j + 1) = b + 1 + j from by omega]
      exact this
theorem bu_sg_get (f : Nat → Int32) : ∀ (k a j : Nat), j < k → (bu_sg f a k).getD j 0 = f (a + j) := by
  intro k
  induction k with
  | zero => intro a j hj; omega
  | succ k ih =>
    intro a j hj
    rw [bu_sg_s]
    cases j with
    | zero => rfl
    | succ j =>
      have := ih (a + 1) j (by omega)
      rw [show a + (j + 1) = a + 1 + j from by omega, ← this]
      rfl
theorem bu_sg_of {f : Nat → Int32} : ∀ (L : List Int32) (a : Nat), (∀ j, j < L.length → f (a + j) = L.getD j 0) → bu_sg f a L.length = L := by
  intro L
  induction L with
  | nil => intro a _; rfl
  | cons s L ih =>
    intro a h
    have h0 : f a = s := h 0 (by rw [List.length_cons]; omega)
    rw [List.length_cons, bu_sg_s, h0, ih (a + 1) (fun j hj => by
      have := h (j + 1) (by rw [List.length_cons]; omega)
      rw [show a + 1 + j = a + (j + 1) from by omega, this]
      rfl)]
theorem bu_sg_drop (f : Nat → Int32) : ∀ (j k a : Nat), (bu_sg f a k).drop j = bu_sg f (a + j) (k - j) := by
  intro j
  induction j with
  | zero => intro k a; rfl
  | succ j ih =>
    intro k a
    cases k with
    | zero => rw [bu_sg_0, Nat.zero_sub, bu_sg_0, List.drop_nil]
    | succ k =>
      rw [bu_sg_s, List.drop_succ_cons, ih, show a + 1 + j = a + (j + 1) from by omega, Nat.succ_sub_succ]
theorem bu_sg_mem (f : Nat → Int32) (v : Int32) : ∀ (k a : Nat), v ∈ bu_sg f a k ↔ ∃ j, j < k ∧ f (a + j) = v := by
  intro k
  induction k with
  | zero =>
    intro a
    rw [bu_sg_0]
    exact ⟨fun h => by simp at h, fun ⟨j, hj, _⟩ => by omega⟩
  | succ k ih =>
    intro a
    rw [bu_sg_s, List.mem_cons, ih]
    constructor
    · intro h
      cases h with
      | inl h => exact ⟨0, by omega, h.symm⟩
      | inr h =>
        obtain ⟨j, hj, e⟩ := h
        exact ⟨j + 1, by omega, by rw [show a + (j + 1) = a + 1 + j from by omega]; exact e⟩
    · intro ⟨j, hj, e⟩
      cases j with
      | zero => exact Or.inl e.symm
      | succ j => exact Or.inr ⟨j, by omega, by rw [show a + 1 + j = a + (j + 1) from by omega]; exact e⟩
/-- the list is a forest of m terms -/
def bu_Fo : Nat → List Int32 → Prop
  | m, [] => m = 0
  | m, s :: L => 0 < m ∧ bu_Fo (m - 1 + bu_ar s) L
theorem bu_Fo_nil {m : Nat} : bu_Fo m [] ↔ m = 0 := Iff.rfl
theorem bu_Fo_cons {m : Nat} {s : Int32} {L : List Int32} : bu_Fo m (s :: L) ↔ 0 < m ∧ bu_Fo (m - 1 + bu_ar s) L := Iff.rfl
/-- how long the first m terms are together -/
def bu_ln : Nat → List Int32 → Nat
  | _, [] => 0
  | 0, _ :: _ => 0
  | m + 1, s :: L => 1 + bu_ln (m + bu_ar s) L
theorem bu_ln_nil (m : Nat) : bu_ln m [] = 0 := by cases m <;> rfl
theorem bu_ln_0 (L : List Int32) : bu_ln 0 L = 0 := by cases L <;> rfl
theorem bu_ln_s (m : Nat) (s : Int32) (L : List Int32) : bu_ln (m + 1) (s :: L) = 1 + bu_ln (m + bu_ar s) L := rfl
theorem bu_ln_le : ∀ (L : List Int32) (m : Nat), bu_ln m L ≤ L.length := by
  intro L
  induction L with
  | nil => intro m; rw [bu_ln_nil]; exact Nat.zero_le _
  | cons s L ih =>
    intro m
    cases m with
    | zero => rw [bu_ln_0]; exact Nat.zero_le _
    | succ m =>
      rw [bu_ln_s, List.length_cons]
      have := ih (m + bu_ar s)
      omega
theorem bu_ln_add (b : Nat) : ∀ (L : List Int32) (a : Nat), bu_ln (a + b) L = bu_ln a L + bu_ln b (L.drop (bu_ln a L)) := by
  intro L
  induction L with
  | nil => intro a; rw [bu_ln_nil, bu_ln_nil, List.drop_nil, bu_ln_nil]
  | cons s L ih =>
    intro a
    cases a with
    | zero => rw [bu_ln_0, Nat.zero_add, Nat.zero_add, List.drop_zero]
    | succ a =>
      rw [show a + 1 + b = (a + b) + 1 from by omega, bu_ln_s, bu_ln_s, show a + b + bu_ar s = (a + bu_ar s) + b from by omega, ih, Nat.add_comm 1 (bu_ln (a + bu_ar s) L), List.drop_succ_cons]
      omega
theorem bu_Fo_ln : ∀ (L : List Int32) (m : Nat), bu_Fo m L → bu_ln m L = L.length := by
  intro L
  induction L with
  | nil => intro m _; rw [bu_ln_nil]; rfl
  | cons s L ih =>
    intro m h
    obtain ⟨h0, h1⟩ := bu_Fo_cons.mp h
    obtain ⟨c, rfl⟩ : ∃ c, m = c + 1 := ⟨m - 1, by omega⟩
    rw [show c + 1 - 1 + bu_ar s = c + bu_ar s from by omega] at h1
    rw [bu_ln_s, ih _ h1, List.length_cons]
    omega
theorem bu_Fo_len : ∀ (L : List Int32) (m : Nat), bu_Fo m L → m ≤ L.length := by
  intro L
  induction L with
  | nil => intro m h; rw [bu_Fo_nil.mp h]; exact Nat.zero_le _
  | cons s L ih =>
    intro m h
    obtain ⟨h0, h1⟩ := bu_Fo_cons.mp h
    have := ih _ h1
    rw [List.length_cons]
    omega
theorem bu_Fo_app {b : Nat} {B : List Int32} (hB : bu_Fo b B) : ∀ (A : List Int32) (a : Nat), bu_Fo a A → bu_Fo (a + b) (A ++ B) := by
  intro A
  induction A with
  | nil => intro a h; rw [bu_Fo_nil.mp h, Nat.zero_add]; exact hB
  | cons s A ih =>
    intro a h
    obtain ⟨h0, h1⟩ := bu_Fo_cons.mp h
    rw [List.cons_append]
    refine bu_Fo_cons.mpr ⟨by omega, ?_⟩
    have := ih _ h1
    rw [show a + b - 1 + bu_ar s = a - 1 + bu_ar s + b from by omega]
    exact this
theorem bu_Fo_drop (b : Nat) : ∀ (L : List Int32) (a : Nat), bu_Fo (a + b) L → bu_Fo b (L.drop (bu_ln a L)) := by
  intro L
  induction L with
  | nil =>
    intro a h
    have := bu_Fo_nil.mp h
    rw [List.drop_nil]
    exact bu_Fo_nil.mpr (by omega)
  | cons s L ih =>
    intro a h
    cases a with
    | zero => rw [bu_ln_0, List.drop_zero]; rw [Nat.zero_add] at h; exact h
    | succ a =>
      obtain ⟨h0, h1⟩ := bu_Fo_cons.mp h
      rw [bu_ln_s, Nat.add_comm 1, List.drop_succ_cons]
      exact ih _ (by rw [show a + bu_ar s + b = a + 1 + b - 1 + bu_ar s from by omega]; exact h1)
theorem bu_Fo_take (b : Nat) : ∀ (L : List Int32) (a : Nat), bu_Fo (a + b) L → bu_Fo a (L.take (bu_ln a L)) := by
  intro L
  induction L with
  | nil =>
    intro a h
    have := bu_Fo_nil.mp h
    rw [List.take_nil]
    exact bu_Fo_nil.mpr (by omega)
  | cons s L ih =>
    intro a h
    cases a with
    | zero => rw [bu_ln_0, List.take_zero]; exact bu_Fo_nil.mpr rfl
    | succ a =>
      obtain ⟨h0, h1⟩ := bu_Fo_cons.mp h
      rw [bu_ln_s, Nat.add_comm 1, List.take_succ_cons]
      refine bu_Fo_cons.mpr ⟨by omega, ?_⟩
      rw [show a + 1 - 1 + bu_ar s = a + bu_ar s from by omega]
      exact ih _ (by rw [show a + bu_ar s + b = a + 1 + b - 1 + bu_ar s from by omega]; exact h1)
theorem bu_Fo_cut {B : List Int32} : ∀ (A : List Int32) (a m : Nat), bu_Fo a A → bu_Fo m (A ++ B) → a ≤ m ∧ bu_Fo (m - a) B := by
  intro A
  induction A with
  | nil =>
    intro a m h g
    rw [bu_Fo_nil.mp h]
    exact ⟨Nat.zero_le _, g⟩
  | cons s A ih =>
    intro a m h g
    obtain ⟨h0, h1⟩ := bu_Fo_cons.mp h
    rw [List.cons_append] at g
    obtain ⟨g0, g1⟩ := bu_Fo_cons.mp g
    obtain ⟨q0, q1⟩ := ih _ _ h1 g1
    refine ⟨by omega, ?_⟩
    rw [show m - a = m - 1 + bu_ar s - (a - 1 + bu_ar s) from by omega]
    exact q1
/-- a term in its place is taken for another one -/
theorem bu_Fo_rep {T T' B : List Int32} (hT : bu_Fo 1 T) (hT' : bu_Fo 1 T') : ∀ (A : List Int32) (m : Nat), bu_Fo m (A ++ (T ++ B)) → bu_Fo m (A ++ (T' ++ B)) := by
  intro A
  induction A with
  | nil =>
    intro m h
    rw [List.nil_append] at h ⊢
    obtain ⟨h0, h1⟩ := bu_Fo_cut _ _ _ hT h
    have := bu_Fo_app h1 _ _ hT'
    rw [show 1 + (m - 1) = m from by omega] at this
    exact this
  | cons s A ih =>
    intro m h
    rw [List.cons_append] at h ⊢
    obtain ⟨h0, h1⟩ := bu_Fo_cons.mp h
    exact bu_Fo_cons.mpr ⟨h0, ih _ h1⟩
theorem bu_ln_app {B : List Int32} : ∀ (X : List Int32) (c m : Nat), bu_Fo c X → m ≤ c → bu_ln m (X ++ B) = bu_ln m X := by
  intro X
  induction X with
  | nil =>
    intro c m h hm
    have := bu_Fo_nil.mp h
    rw [show m = 0 from by omega, bu_ln_0, bu_ln_0]
  | cons s X ih =>
    intro c m h hm
    obtain ⟨h0, h1⟩ := bu_Fo_cons.mp h
    cases m with
    | zero => rw [bu_ln_0, bu_ln_0]
    | succ m =>
      rw [List.cons_append, bu_ln_s, bu_ln_s, ih _ _ h1 (by omega)]
theorem bu_ln_over {B : List Int32} (m : Nat) : ∀ (X : List Int32) (c : Nat), bu_Fo c X → bu_ln (c + m) (X ++ B) = X.length + bu_ln m B := by
  intro X
  induction X with
  | nil =>
    intro c h
    rw [bu_Fo_nil.mp h, List.nil_append, List.length_nil, Nat.zero_add, Nat.zero_add]
  | cons s X ih =>
    intro c h
    obtain ⟨h0, h1⟩ := bu_Fo_cons.mp h
    obtain ⟨d, rfl⟩ : ∃ d, c = d + 1 := ⟨c - 1, by omega⟩
    rw [show d + 1 - 1 + bu_ar s = d + bu_ar s from by omega] at h1
    have := ih _ h1
    rw [List.cons_append, show d + 1 + m = (d + m) + 1 from by omega, bu_ln_s, show d + m + bu_ar s = d + bu_ar s + m from by omega, this, List.length_cons]
    omega
theorem bu_ln_rep {T T' B : List Int32} (hT : bu_Fo 1 T) (hT' : bu_Fo 1 T') : ∀ (A : List Int32) (m : Nat), (bu_ln m (A ++ (T ++ B)) ≤ A.length ∧ bu_ln m (A ++ (T' ++ B)) = bu_ln m (A ++ (T ++ B))) ∨ (A.length + T.length ≤ bu_ln m (A ++ (T ++ B)) ∧ bu_ln m (A ++ (T' ++ B)) + T.length = bu_ln m (A ++ (T ++ B)) + T'.length) := by
  intro A
  induction A with
  | nil =>
    intro m
    rw [List.nil_append, List.nil_append, List.length_nil]
    cases m with
    | zero =>
      rw [bu_ln_0, bu_ln_0]
      exact Or.inl ⟨Nat.le_refl _, rfl⟩
    | succ m =>
      rw [Nat.add_comm m 1, bu_ln_over m _ _ hT, bu_ln_over m _ _ hT']
      exact Or.inr ⟨by omega, by omega⟩
  | cons s A ih =>
    intro m
    rw [List.cons_append, List.cons_append, List.length_cons]
    cases m with
    | zero =>
      rw [bu_ln_0, bu_ln_0]
      exact Or.inl ⟨Nat.zero_le _, rfl⟩
    | succ m =>
      rw [bu_ln_s, bu_ln_s]
      cases ih (m + bu_ar s) with
      | inl h => exact Or.inl ⟨by omega, by omega⟩
      | inr h => exact Or.inr ⟨by omega, by omega⟩
end
section
/-! places of a term that lies in an array -/
/-- the place behind m terms from place i of s[0 .. n) -/
def bu_fe (s : Nat → Int32) (n m i : Nat) : Nat := i + bu_ln m (bu_sg s i (n - i))
/-- from place i on there are c terms -/
def bu_FO (s : Nat → Int32) (n c i : Nat) : Prop := bu_Fo c (bu_sg s i (n - i))
theorem bu_sgi {s : Nat → Int32} {n i : Nat} (h : i < n) : bu_sg s i (n - i) = s i :: bu_sg s (i + 1) (n - (i + 1)) := by
  rw [show n - i = (n - (i + 1)) + 1 from by omega, bu_sg_s]
theorem bu_sgn {s : Nat → Int32} {n i : Nat} (h : n ≤ i) : bu_sg s i (n - i) = [] := by
  rw [show n - i = 0 from by omega, bu_sg_0]
theorem fe_0 (s : Nat → Int32) (n i : Nat) : bu_fe s n 0 i = i := by
  unfold bu_fe
  rw [bu_ln_0, Nat.add_zero]
theorem fe_n {s : Nat → Int32} {n i : Nat} (m : Nat) (h : n ≤ i) : bu_fe s n m i = i := by
  unfold bu_fe
  rw [bu_sgn h, bu_ln_nil, Nat.add_zero]
theorem fe_s {s : Nat → Int32} {n i : Nat} (m : Nat) (h : i < n) : bu_fe s n (m + 1) i = bu_fe s n (m + bu_ar (s i)) (i + 1) := by
  unfold bu_fe
  rw [bu_sgi h, bu_ln_s]
  omega
theorem fe_1 {s : Nat → Int32} {n i : Nat} (h : i < n) : bu_fe s n 1 i = bu_fe s n (bu_ar (s i)) (i + 1) := by
  rw [fe_s 0 h, Nat.zero_add]
theorem fe_add (s : Nat → Int32) (n a b i : Nat) : bu_fe s n (a + b) i = bu_fe s n b (bu_fe s n a i) := by
  unfold bu_fe
  rw [bu_ln_add, bu_sg_drop, Nat.sub_sub, Nat.add_assoc]
theorem fe_ge (s : Nat → Int32) (n m i : Nat) : i ≤ bu_fe s n m i := Nat.le_add_right _ _
theorem fe_le {s : Nat → Int32} {n i : Nat} (m : Nat) (h : i ≤ n) : bu_fe s n m i ≤ n := by
  unfold bu_fe
  have := bu_ln_le (bu_sg s i (n - i)) m
  rw [bu_sg_len] at this
  omega
theorem fe_gt {s : Nat → Int32} {n i : Nat} (m : Nat) (h : i < n) : i < bu_fe s n (m + 1) i := by
  rw [fe_s m h]
  have := fe_ge s n (m + bu_ar (s i)) (i + 1)
  omega
theorem fe_mono (s : Nat → Int32) (n i : Nat) {a b : Nat} (h : a ≤ b) : bu_fe s n a i ≤ bu_fe s n b i := by
  obtain ⟨c, rfl⟩ : ∃ c, b = a + c := ⟨b - a, by omega⟩
  rw [fe_add]
  exact fe_ge _ _ _ _
theorem fe_cg {s s' : Nat → Int32} {n i : Nat} (m : Nat) (h : ∀ j, i ≤ j → j < n → s j = s' j) : bu_fe s n m i = bu_fe s' n m i := by
  unfold bu_fe
  rw [bu_sg_cg (f := s) (g := s') (n - i) i i (fun j hj => h _ (by omega) (by omega))]
theorem FO_cg {s s' : Nat → Int32} {n i : Nat} {c : Nat} (h : ∀ j, i ≤ j → j < n → s j = s' j) (H : bu_FO s n c i) : bu_FO s' n c i := by
  unfold bu_FO at H ⊢
  rw [← bu_sg_cg (f := s) (g := s') (n - i) i i (fun j hj => h _ (by omega) (by omega))]
  exact H
theorem FO_s {s : Nat → Int32} {n c i : Nat} (h : i < n) (H : bu_FO s n c i) : 0 < c ∧ bu_FO s n (c - 1 + bu_ar (s i)) (i + 1) := by
  unfold bu_FO at H ⊢
  rw [bu_sgi h] at H
  exact bu_Fo_cons.mp H
theorem FO_n {s : Nat → Int32} {n c i : Nat} (h : n ≤ i) (H : bu_FO s n c i) : c = 0 := by
  unfold bu_FO at H
  rw [bu_sgn h] at H
  exact bu_Fo_nil.mp H
theorem FO_lt {s : Nat → Int32} {n c i : Nat} (hc : 0 < c) (H : bu_FO s n c i) : i < n := by
  apply Classical.byContradiction
  intro h
  have := FO_n (by omega) H
  omega
theorem FO_fe {s : Nat → Int32} {n i : Nat} (a b : Nat) (H : bu_FO s n (a + b) i) : bu_FO s n b (bu_fe s n a i) := by
  unfold bu_FO at H ⊢
  have := bu_Fo_drop b _ a H
  rw [bu_sg_drop, Nat.sub_sub] at this
  exact this
theorem FO_end {s : Nat → Int32} {n c i : Nat} (h : i ≤ n) (H : bu_FO s n c i) : bu_fe s n c i = n := by
  unfold bu_FO at H
  unfold bu_fe
  rw [bu_Fo_ln _ _ H, bu_sg_len]
  omega
theorem FO_len {s : Nat → Int32} {n c i : Nat} (H : bu_FO s n c i) : c ≤ n - i := by
  unfold bu_FO at H
  have := bu_Fo_len _ _ H
  rw [bu_sg_len] at this
  exact this
theorem FO_ex {s : Nat → Int32} {n c : Nat} (H : bu_FO s n c 0) : ∀ i, i ≤ n → ∃ c, bu_FO s n c i := by
  intro i
  induction i with
  | zero => intro _; exact ⟨c, H⟩
  | succ i ih =>
    intro h
    obtain ⟨d, hd⟩ := ih (by omega)
    exact ⟨_, (FO_s (by omega) hd).2⟩
/-- a place within has c + 1 terms ahead, its own first -/
theorem FO_at {s : Nat → Int32} {n c : Nat} (H : bu_FO s n c 0) {i : Nat} (h : i < n) : ∃ c, bu_FO s n (c + 1) i := by
  obtain ⟨d, hd⟩ := FO_ex H i (by omega)
  have := (FO_s h hd).1
  exact ⟨d - 1, by rw [show d - 1 + 1 = d from by omega]; exact hd⟩
/-- the parts of a place lie within -/
theorem FO_c1 {s : Nat → Int32} {n c : Nat} (H : bu_FO s n c 0) {i : Nat} (h : i < n) (ha : 0 < bu_ar (s i)) : i + 1 < n := by
  obtain ⟨d, hd⟩ := FO_at H h
  exact FO_lt (by omega) (FO_s h hd).2
theorem FO_c2 {s : Nat → Int32} {n c : Nat} (H : bu_FO s n c 0) {i : Nat} (h : i < n) (ha : 1 < bu_ar (s i)) : bu_fe s n 1 (i + 1) < n := by
  obtain ⟨d, hd⟩ := FO_at H h
  have h2 := (FO_s h hd).2
  have h3 := FO_fe 1 (d + 1 - 1 + bu_ar (s i) - 1) (by rw [show 1 + (d + 1 - 1 + bu_ar (s i) - 1) = d + 1 - 1 + bu_ar (s i) from by omega]; exact h2)
  exact FO_lt (by omega) h3
/-- the same for a suffix that is a forest -/
theorem FO_d1 {s : Nat → Int32} {n c i : Nat} (H : bu_FO s n c i) (h : i < n) (ha : 0 < bu_ar (s i)) : i + 1 < n :=
  FO_lt (by omega) (FO_s h H).2
theorem FO_d2 {s : Nat → Int32} {n c i : Nat} (H : bu_FO s n c i) (h : i < n) (ha : 1 < bu_ar (s i)) : bu_fe s n 1 (i + 1) < n := by
  have h1 := (FO_s h H).1
  have h2 := (FO_s h H).2
  have h3 := FO_fe 1 (c - 1 + bu_ar (s i) - 1) (by rw [show 1 + (c - 1 + bu_ar (s i) - 1) = c - 1 + bu_ar (s i) from by omega]; exact h2)
  exact FO_lt (by omega) h3
/-- every place within a part, but its first, is a part of a place there -/
theorem fe_par (s : Nat → Int32) (n q : Nat) : ∀ (d i : Nat), n - i ≤ d → i < q → q < bu_fe s n 1 i → ∃ j, i ≤ j ∧ j < q ∧ ((0 < bu_ar (s j) ∧ q = j + 1) ∨ (1 < bu_ar (s j) ∧ q = bu_fe s n 1 (j + 1))) := by
  intro d
  induction d with
  | zero =>
    intro i hd hi hq
    rw [fe_n 1 (by omega)] at hq
    omega
  | succ d ih =>
    intro i hd hi hq
    by_cases hn : i < n
    · rw [fe_1 hn] at hq
      have c := bu_ar_cases (s i)
      by_cases h0 : bu_ar (s i) = 0
      · rw [h0, fe_0] at hq; omega
      · by_cases h1 : q = i + 1
        · exact ⟨i, by omega, hi, Or.inl ⟨by omega, h1⟩⟩
        · by_cases h2 : q < bu_fe s n 1 (i + 1)
          · obtain ⟨j, a, b, e⟩ := ih (i + 1) (by omega) (by omega) h2
            exact ⟨j, by omega, b, e⟩
          · have h3 : bu_ar (s i) = 2 := by
              rcases c with c | c | c
              · omega
              · rw [c] at hq; omega
              · exact c
            rw [h3, show (2 : Nat) = 1 + 1 from rfl, fe_add] at hq
            by_cases h4 : q = bu_fe s n 1 (i + 1)
            · exact ⟨i, by omega, hi, Or.inr ⟨by omega, h4⟩⟩
            · have h5 := fe_ge s n 1 (i + 1)
              obtain ⟨j, a, b, e⟩ := ih (bu_fe s n 1 (i + 1)) (by omega) (by omega) hq
              exact ⟨j, by omega, b, e⟩
    · rw [fe_n 1 (by omega)] at hq
      omega
/-- a part ends within the part that it begins in -/
theorem fe_lam (s : Nat → Int32) (n q : Nat) : ∀ (d i : Nat), n - i ≤ d → i ≤ q → q < bu_fe s n 1 i → bu_fe s n 1 q ≤ bu_fe s n 1 i := by
  intro d
  induction d with
  | zero =>
    intro i hd hi hq
    rw [fe_n 1 (by omega)] at hq
    omega
  | succ d ih =>
    intro i hd hi hq
    by_cases h0 : q = i
    · rw [h0]; exact Nat.le_refl _
    by_cases hn : i < n
    · rw [fe_1 hn] at hq ⊢
      have c := bu_ar_cases (s i)
      by_cases h0 : bu_ar (s i) = 0
      · rw [h0, fe_0] at hq; omega
      · by_cases h2 : q < bu_fe s n 1 (i + 1)
        · have h3 := ih (i + 1) (by omega) (by omega) h2
          have h4 := fe_mono s n (i + 1) (a := 1) (b := bu_ar (s i)) (by omega)
          omega
        · have h3 : bu_ar (s i) = 2 := by
            rcases c with c | c | c
            · omega
            · rw [c] at hq; omega
            · exact c
          rw [h3, show (2 : Nat) = 1 + 1 from rfl, fe_add] at hq ⊢
          have h5 := fe_ge s n 1 (i + 1)
          exact ih (bu_fe s n 1 (i + 1)) (by omega) (by omega) hq
    · rw [fe_n 1 (by omega)] at hq
      omega
/-! a splice: the part at place q, t long, is taken for a term of r symbols -/
/-- places of s' ahead of q -/
theorem fe_cut1 {s s' : Nat → Int32} {n n' q t r : Nat} (hq : q < n) (ht : bu_fe s n 1 q = q + t) (hF : bu_Fo 1 (bu_sg s q t)) (hR : bu_Fo 1 (bu_sg s' q r)) (hn : n' + t = n + r) (hA : ∀ j, j < q → s' j = s j) (hB : ∀ j, q + t + j < n → s' (q + r + j) = s (q + t + j)) (m : Nat) {i : Nat} (hi : i ≤ q) :
    (bu_fe s n m i ≤ q ∧ bu_fe s' n' m i = bu_fe s n m i) ∨ (q + t ≤ bu_fe s n m i ∧ bu_fe s' n' m i + t = bu_fe s n m i + r) := by
  have hle := fe_le (s := s) 1 (Nat.le_of_lt hq)
  rw [ht] at hle
  have e1 : bu_sg s i (n - i) = bu_sg s i (q - i) ++ (bu_sg s q t ++ bu_sg s (q + t) (n - (q + t))) := by
    rw [show n - i = (q - i) + (t + (n - (q + t))) from by omega, bu_sg_app, bu_sg_app, show i + (q - i) = q from by omega]
  have e2 : bu_sg s' i (n' - i) = bu_sg s i (q - i) ++ (bu_sg s' q r ++ bu_sg s (q + t) (n - (q + t))) := by
    rw [show n' - i = (q - i) + (r + (n - (q + t))) from by omega, bu_sg_app, bu_sg_app, show i + (q - i) = q from by omega]
    rw [bu_sg_cg (f := s') (g := s) (q - i) i i (fun j hj => hA _ (by omega)), bu_sg_cg (f := s') (g := s) (n - (q + t)) (q + r) (q + t) (fun j hj => hB j (by omega))]
  have h := bu_ln_rep (B := bu_sg s (q + t) (n - (q + t))) hF hR (bu_sg s i (q - i)) m
  rw [← e1, ← e2, bu_sg_len, bu_sg_len, bu_sg_len] at h
  unfold bu_fe
  omega
/-- places of s' in the new term -/
theorem fe_cut2 {w s' : Nat → Int32} {n' q r c : Nat} (hn : q + r ≤ n') (hR : ∀ j, j < r → s' (q + j) = w j) (m : Nat) {i : Nat} (hi : i ≤ r) (hF : bu_FO w r c i) (hm : m ≤ c) : bu_fe s' n' m (q + i) = q + bu_fe w r m i := by
  unfold bu_fe
  have e : bu_sg s' (q + i) (n' - (q + i)) = bu_sg w i (r - i) ++ bu_sg s' (q + r) (n' - (q + r)) := by
    rw [show n' - (q + i) = (r - i) + (n' - (q + r)) from by omega, bu_sg_app, show q + i + (r - i) = q + r from by omega]
    rw [bu_sg_cg (f := s') (g := w) (r - i) (q + i) i (fun j hj => by rw [← hR (i + j) (by omega), Nat.add_assoc])]
  rw [e, bu_ln_app _ _ _ hF hm]
  omega
/-- places of s' behind the new term -/
theorem fe_cut3 {s s' : Nat → Int32} {n n' q t r : Nat} (hn : n' + t = n + r) (hB : ∀ j, q + t + j < n → s' (q + r + j) = s (q + t + j)) (m i : Nat) : bu_fe s' n' m (q + r + i) + t = bu_fe s n m (q + t + i) + r := by
  unfold bu_fe
  have e : bu_sg s' (q + r + i) (n' - (q + r + i)) = bu_sg s (q + t + i) (n - (q + t + i)) := by
    rw [show n' - (q + r + i) = n - (q + t + i) from by omega]
    exact bu_sg_cg _ _ _ (fun j hj => by
      have := hB (i + j) (by omega)
      rw [← Nat.add_assoc, ← Nat.add_assoc] at this
      exact this)
  rw [e]
  omega
theorem bu_sg_take (f : Nat → Int32) (a : Nat) {j k : Nat} (h : j ≤ k) : (bu_sg f a k).take j = bu_sg f a j := by
  have e : bu_sg f a k = bu_sg f a j ++ bu_sg f (a + j) (k - j) := by
    rw [← bu_sg_app, show j + (k - j) = k from by omega]
  rw [e, List.take_left' (bu_sg_len f j a)]
theorem FO_part {s : Nat → Int32} {n c q t : Nat} (H : bu_FO s n (c + 1) q) (h : q ≤ n) (ht : bu_fe s n 1 q = q + t) : bu_Fo 1 (bu_sg s q t) := by
  have hl := fe_le (s := s) 1 h
  unfold bu_FO at H
  have h1 := bu_Fo_take c _ 1 (by rw [Nat.add_comm 1 c]; exact H)
  unfold bu_fe at ht hl
  rw [show bu_ln 1 (bu_sg s q (n - q)) = t from by omega, bu_sg_take s q (by omega)] at h1
  exact h1
end
section
/-! a row of symbols, parts before their symbol, replayed over a pile of terms (each a symbol before its parts) -/
def bu_RP : List Int32 → List (List Int32) → List (List Int32) → Prop
  | [], R, R' => R' = R
  | s :: P, R, R' => (bu_ar s = 0 ∧ bu_RP P ([s] :: R) R') ∨ (bu_ar s = 1 ∧ ∃ L R0, R = L :: R0 ∧ bu_RP P ((s :: L) :: R0) R') ∨ (bu_ar s = 2 ∧ ∃ L2 L1 R0, R = L2 :: L1 :: R0 ∧ bu_RP P ((s :: (L1 ++ L2)) :: R0) R')
theorem RP_nil {R R' : List (List Int32)} : bu_RP [] R R' ↔ R' = R := Iff.rfl
theorem RP_cons {s : Int32} {P : List Int32} {R R' : List (List Int32)} : bu_RP (s :: P) R R' ↔ (bu_ar s = 0 ∧ bu_RP P ([s] :: R) R') ∨ (bu_ar s = 1 ∧ ∃ L R0, R = L :: R0 ∧ bu_RP P ((s :: L) :: R0) R') ∨ (bu_ar s = 2 ∧ ∃ L2 L1 R0, R = L2 :: L1 :: R0 ∧ bu_RP P ((s :: (L1 ++ L2)) :: R0) R') := Iff.rfl
theorem RP_app {Q : List Int32} {R2 : List (List Int32)} : ∀ (P : List Int32) (R R1 : List (List Int32)), bu_RP P R R1 → bu_RP Q R1 R2 → bu_RP (P ++ Q) R R2 := by
  intro P
  induction P with
  | nil => intro R R1 h g; rw [RP_nil.mp h] at g; exact g
  | cons s P ih =>
    intro R R1 h g
    rw [List.cons_append]
    refine RP_cons.mpr ?_
    rcases RP_cons.mp h with ⟨a, h⟩ | ⟨a, L, R0, e, h⟩ | ⟨a, L2, L1, R0, e, h⟩
    · exact Or.inl ⟨a, ih _ _ h g⟩
    · exact Or.inr (Or.inl ⟨a, L, R0, e, ih _ _ h g⟩)
    · exact Or.inr (Or.inr ⟨a, L2, L1, R0, e, ih _ _ h g⟩)
theorem RP_frame {T : List (List Int32)} : ∀ (P : List Int32) (R R1 : List (List Int32)), bu_RP P R R1 → bu_RP P (R ++ T) (R1 ++ T) := by
  intro P
  induction P with
  | nil => intro R R1 h; rw [RP_nil.mp h]; exact RP_nil.mpr rfl
  | cons s P ih =>
    intro R R1 h
    refine RP_cons.mpr ?_
    rcases RP_cons.mp h with ⟨a, h⟩ | ⟨a, L, R0, e, h⟩ | ⟨a, L2, L1, R0, e, h⟩
    · exact Or.inl ⟨a, ih _ _ h⟩
    · exact Or.inr (Or.inl ⟨a, L, R0 ++ T, by rw [e]; rfl, ih _ _ h⟩)
    · exact Or.inr (Or.inr ⟨a, L2, L1, R0 ++ T, by rw [e]; rfl, ih _ _ h⟩)
theorem RP_cnt (v : Int32) : ∀ (P : List Int32) (R R1 : List (List Int32)), bu_RP P R R1 → R1.flatten.count v = R.flatten.count v + P.count v := by
  intro P
  induction P with
  | nil => intro R R1 h; rw [RP_nil.mp h]; rfl
  | cons s P ih =>
    intro R R1 h
    rcases RP_cons.mp h with ⟨a, h⟩ | ⟨a, L, R0, e, h⟩ | ⟨a, L2, L1, R0, e, h⟩
    · rw [ih _ _ h, List.flatten_cons, List.count_append, List.count_cons, List.count_cons, List.count_nil]
      omega
    · rw [ih _ _ h, e, List.flatten_cons, List.flatten_cons, List.count_append, List.count_append, List.count_cons, List.count_cons]
      omega
    · rw [ih _ _ h, e, List.flatten_cons, List.flatten_cons, List.flatten_cons, List.count_append, List.count_append, List.count_append, List.count_cons, List.count_cons, List.count_append]
      omega
theorem RP_len : ∀ (P : List Int32) (R R1 : List (List Int32)), bu_RP P R R1 → R1.flatten.length = R.flatten.length + P.length := by
  intro P
  induction P with
  | nil => intro R R1 h; rw [RP_nil.mp h]; rfl
  | cons s P ih =>
    intro R R1 h
    rcases RP_cons.mp h with ⟨a, h⟩ | ⟨a, L, R0, e, h⟩ | ⟨a, L2, L1, R0, e, h⟩
    · rw [ih _ _ h, List.flatten_cons, List.length_append, List.length_cons, List.length_cons, List.length_nil]
      omega
    · rw [ih _ _ h, e, List.flatten_cons, List.flatten_cons, List.length_append, List.length_append, List.length_cons, List.length_cons]
      omega
    · rw [ih _ _ h, e, List.flatten_cons, List.flatten_cons, List.flatten_cons, List.length_append, List.length_append, List.length_append, List.length_cons, List.length_cons, List.length_append]
      omega
theorem bu_Fo_1 {s : Int32} (a : bu_ar s = 0) : bu_Fo 1 [s] := bu_Fo_cons.mpr ⟨by decide, bu_Fo_nil.mpr (by rw [a])⟩
theorem bu_Fo_2 {s : Int32} {L : List Int32} (a : bu_ar s = 1) (h : bu_Fo 1 L) : bu_Fo 1 (s :: L) := bu_Fo_cons.mpr ⟨by decide, by rw [a]; exact h⟩
theorem bu_Fo_3 {s : Int32} {L1 L2 : List Int32} (a : bu_ar s = 2) (h1 : bu_Fo 1 L1) (h2 : bu_Fo 1 L2) : bu_Fo 1 (s :: (L1 ++ L2)) := bu_Fo_cons.mpr ⟨by decide, by rw [a]; exact bu_Fo_app h2 _ _ h1⟩
theorem RP_Fo : ∀ (P : List Int32) (R R1 : List (List Int32)), bu_RP P R R1 → (∀ L, L ∈ R → bu_Fo 1 L) → ∀ L, L ∈ R1 → bu_Fo 1 L := by
  intro P
  induction P with
  | nil => intro R R1 h g; rw [RP_nil.mp h]; exact g
  | cons s P ih =>
    intro R R1 h g
    rcases RP_cons.mp h with ⟨a, h⟩ | ⟨a, L, R0, e, h⟩ | ⟨a, L2, L1, R0, e, h⟩
    · refine ih _ _ h (fun L hL => ?_)
      rcases List.mem_cons.mp hL with q | q
      · rw [q]; exact bu_Fo_1 a
      · exact g L q
    · refine ih _ _ h (fun M hM => ?_)
      rcases List.mem_cons.mp hM with q | q
      · rw [q]; exact bu_Fo_2 a (g L (by rw [e]; exact List.mem_cons_self))
      · exact g M (by rw [e]; exact List.mem_cons_of_mem _ q)
    · refine ih _ _ h (fun M hM => ?_)
      rcases List.mem_cons.mp hM with q | q
      · rw [q]
        exact bu_Fo_3 a (g L1 (by rw [e]; exact List.mem_cons_of_mem _ List.mem_cons_self)) (g L2 (by rw [e]; exact List.mem_cons_self))
      · exact g M (by rw [e]; exact List.mem_cons_of_mem _ (List.mem_cons_of_mem _ q))
/-- one row replays to one term -/
def bu_PT (P L : List Int32) : Prop := bu_RP P [] [L]
theorem PT_0 {s : Int32} (a : bu_ar s = 0) : bu_PT [s] [s] := RP_cons.mpr (Or.inl ⟨a, RP_nil.mpr rfl⟩)
theorem PT_1 {s : Int32} {P L : List Int32} (a : bu_ar s = 1) (h : bu_PT P L) : bu_PT (P ++ [s]) (s :: L) :=
  RP_app _ _ _ h (RP_cons.mpr (Or.inr (Or.inl ⟨a, L, [], rfl, RP_nil.mpr rfl⟩)))
theorem PT_2 {s : Int32} {P1 L1 P2 L2 : List Int32} (a : bu_ar s = 2) (h1 : bu_PT P1 L1) (h2 : bu_PT P2 L2) : bu_PT (P1 ++ (P2 ++ [s])) (s :: (L1 ++ L2)) :=
  RP_app _ _ _ h1 (RP_app _ _ _ (RP_frame (T := [L1]) _ _ _ h2) (RP_cons.mpr (Or.inr (Or.inr ⟨a, L2, L1, [], rfl, RP_nil.mpr rfl⟩))))
theorem PT_Fo {P L : List Int32} (h : bu_PT P L) : bu_Fo 1 L := RP_Fo _ _ _ h (fun L hL => by simp at hL) L (List.mem_cons_self)
theorem PT_cnt {P L : List Int32} (h : bu_PT P L) (v : Int32) : L.count v = P.count v := by
  have := RP_cnt v _ _ _ h
  rw [List.flatten_cons, List.flatten_nil, List.append_nil, List.count_nil, Nat.zero_add] at this
  exact this
theorem PT_len {P L : List Int32} (h : bu_PT P L) : L.length = P.length := by
  have := RP_len _ _ _ h
  rw [List.flatten_cons, List.flatten_nil, List.append_nil, List.length_nil, Nat.zero_add] at this
  exact this
theorem PT_mem {P L : List Int32} (h : bu_PT P L) (v : Int32) : v ∈ L ↔ v ∈ P := by
  rw [← List.count_pos_iff, ← List.count_pos_iff, PT_cnt h]
/-! the shift that makes room for a symbol -/
def bu_sh (f : Nat → Int32) (a k : Nat) : Nat → Int32 := fun j => if a < j ∧ j ≤ k then f (j - 1) else f j
theorem sh_0 (f : Nat → Int32) (a : Nat) : bu_sh f a a = f := by
  funext j
  unfold bu_sh
  rw [if_neg (by omega)]
theorem sh_s (f : Nat → Int32) {a k : Nat} (h : a ≤ k) : bu_sh (upd f (k + 1) (f k)) a k = bu_sh f a (k + 1) := by
  funext j
  unfold bu_sh upd
  by_cases h1 : a < j ∧ j ≤ k
  · rw [if_pos h1, if_neg (by omega), if_pos (by omega)]
  · rw [if_neg h1]
    by_cases h2 : j = k + 1
    · rw [if_pos h2, if_pos (by omega), h2]
      rfl
    · rw [if_neg h2, if_neg (by omega)]
/-- a symbol put ahead of what lies from a on -/
def bu_pu (f : Nat → Int32) (a k : Nat) (s : Int32) : Nat → Int32 := upd (bu_sh f a k) a s
theorem pu_lo {f : Nat → Int32} {a k j : Nat} {s : Int32} (h : j < a) : bu_pu f a k s j = f j := by
  unfold bu_pu upd bu_sh
  rw [if_neg (by omega), if_neg (by omega)]
theorem pu_at {f : Nat → Int32} {a k : Nat} {s : Int32} : bu_pu f a k s a = s := by
  unfold bu_pu upd
  rw [if_pos rfl]
theorem pu_hi {f : Nat → Int32} {a k j : Nat} {s : Int32} (h : a ≤ j) (h2 : j < k) : bu_pu f a k s (j + 1) = f j := by
  unfold bu_pu upd bu_sh
  rw [if_neg (by omega), if_pos (by omega)]
  rfl
theorem pu_sg {f : Nat → Int32} {a k : Nat} {s : Int32} (h : a ≤ k) : bu_sg (bu_pu f a k s) a (k - a + 1) = s :: bu_sg f a (k - a) := by
  rw [bu_sg_s, pu_at, bu_sg_cg (f := bu_pu f a k s) (g := f) (k - a) (a + 1) a (fun j hj => by
    rw [show a + 1 + j = (a + j) + 1 from by omega]
    exact pu_hi (by omega) (by omega))]
theorem pu_sgl {f : Nat → Int32} {a k : Nat} {s : Int32} {x l : Nat} (h : x + l ≤ a) : bu_sg (bu_pu f a k s) x l = bu_sg f x l :=
  bu_sg_cg _ _ _ (fun j hj => pu_lo (by omega))
/-! the terms of a pile lie on the line one behind the other -/
def bu_LI (line pile : Nat → Int32) : List (List Int32) → Prop
  | [] => True
  | L :: R => pile R.length = nI R.flatten.length ∧ bu_sg line R.flatten.length L.length = L ∧ bu_LI line pile R
theorem LI_cons {line pile : Nat → Int32} {L : List Int32} {R : List (List Int32)} : bu_LI line pile (L :: R) ↔ pile R.length = nI R.flatten.length ∧ bu_sg line R.flatten.length L.length = L ∧ bu_LI line pile R := Iff.rfl
theorem LI_cg {line pile line' pile' : Nat → Int32} : ∀ (R : List (List Int32)), (∀ j, j < R.flatten.length → line' j = line j) → (∀ j, j < R.length → pile' j = pile j) → bu_LI line pile R → bu_LI line' pile' R := by
  intro R
  induction R with
  | nil => intro _ _ _; trivial
  | cons L R ih =>
    intro h1 h2 h
    obtain ⟨a, b, c⟩ := LI_cons.mp h
    rw [List.flatten_cons, List.length_append] at h1
    rw [List.length_cons] at h2
    refine LI_cons.mpr ⟨by rw [h2 _ (by omega)]; exact a, ?_, ih (fun j hj => h1 j (by omega)) (fun j hj => h2 j (by omega)) c⟩
    rw [bu_sg_cg (f := line') (g := line) _ _ _ (fun j hj => h1 _ (by omega))]
    exact b
/-- a new top term, whose symbol was put ahead of the terms that it takes -/
theorem LI_put {line pile : Nat → Int32} {s : Int32} {M : List Int32} {R : List (List Int32)} (h : bu_LI line pile R) (hM : bu_sg line R.flatten.length M.length = M) :
    bu_LI (bu_pu line R.flatten.length (R.flatten.length + M.length) s) (upd pile R.length (nI R.flatten.length)) ((s :: M) :: R) := by
  refine LI_cons.mpr ⟨pk_us, ?_, LI_cg R (fun j hj => pu_lo hj) (fun j hj => pk_un (by omega)) h⟩
  have := pu_sg (f := line) (a := R.flatten.length) (k := R.flatten.length + M.length) (s := s) (by omega)
  rw [Nat.add_sub_cancel_left, hM] at this
  rw [List.length_cons]
  exact this
theorem LI_two {line pile : Nat → Int32} {L1 L2 : List Int32} {R : List (List Int32)} (h : bu_LI line pile (L2 :: L1 :: R)) : bu_sg line R.flatten.length (L1 ++ L2).length = L1 ++ L2 := by
  obtain ⟨_, b, c⟩ := LI_cons.mp h
  obtain ⟨_, b', _⟩ := LI_cons.mp c
  rw [List.flatten_cons, List.length_append, Nat.add_comm] at b
  rw [List.length_append, bu_sg_app, b', b]
end
section
/-! bits of a long; what holds at a node -/
def bu_bt (w : Int64) (j : Nat) : Bool := w.toBitVec.getLsbD j
theorem bu_and1 (y : Int64) : y &&& 1 = 0 ∨ y &&& 1 = 1 := by
  obtain ⟨n, hn, rfl⟩ := wb_of y
  rw [wb_a1 hn]
  rcases Nat.mod_two_eq_zero_or_one n with h | h
  · rw [h]; exact Or.inl rfl
  · rw [h]; exact Or.inr rfl
theorem bu_bit {W : Int64} {a : Nat} (ha : a < 64) : (((W.toUInt64 >>> ((nI a).toInt64.toUInt64 &&& Int64.toUInt64 63)).toInt64) &&& 1) = 1 ↔ bu_bt W a = true := by
  have hs : ((nI a).toInt64.toUInt64 &&& Int64.toUInt64 63).toNat = a := by
    rw [wb_cu a ha, u_tn (by omega)]
  have h0 := ts_bit (w := W) ha hs
  unfold bu_bt
  rcases bu_and1 ((W.toUInt64 >>> ((nI a).toInt64.toUInt64 &&& Int64.toUInt64 63)).toInt64) with h | h
  · rw [h]
    have := h0.mp h
    rw [this]
    decide
  · rw [h]
    constructor
    · intro _
      apply ts_nf
      intro e
      have := h0.mpr e
      rw [h] at this
      revert this
      decide
    · intro _; rfl
theorem bu_tp : ∀ l, l < 64 → ((1 : Int64) <<< ((nI l).toInt64 &&& 63)).toBitVec = BitVec.twoPow 64 l := by decide +kernel
theorem bu_bor {w : Int64} {p q : Nat} (hp : p < 64) : bu_bt (w ||| ((1 : Int64) <<< ((nI p).toInt64 &&& 63))) q = (bu_bt w q || decide (q = p)) := by
  unfold bu_bt
  rw [Int64.toBitVec_or, BitVec.getLsbD_or, bu_tp p hp, BitVec.getLsbD_twoPow]
  by_cases h : q = p
  · subst h
    rw [decide_eq_true hp]
    simp
  · have : ¬ p = q := fun e => h e.symm
    simp [h, this]
theorem bu_b1 : ∀ q, q < 64 → bu_bt 1 q = decide (q = 0) := by decide +kernel
/-- pattern p fits at the node x, by what its parts fit -/
def bu_cd (ps pf pg sy fi se : Nat → Int32) (ft : Nat → Int64) (x p : Nat) : Prop :=
  p = 0 ∨ (ps p = sy x ∧ (fi x ≠ 0 → bu_bt (ft (fi x).toNatClampNeg) (pf p).toNatClampNeg = true) ∧ (se x ≠ 0 → bu_bt (ft (se x).toNatClampNeg) (pg p).toNatClampNeg = true))
/-- the node x is worked out -/
def bu_WO (P : Nat) (ps pf pg sy fi se sz : Nat → Int32) (ft : Nat → Int64) (x : Nat) : Prop :=
  sz x = (1 + sz (fi x).toNatClampNeg) + sz (se x).toNatClampNeg ∧ ∀ p, p < P → (bu_bt (ft x) p = true ↔ bu_cd ps pf pg sy fi se ft x p)
/-- the places lo .. n - 1 of s lie in the nodes o, which hold its symbols and point to the nodes of their parts -/
def bu_HS (sy fi se : Nat → Int32) (s : Nat → Int32) (n : Nat) (o : Nat → Nat) (lo : Nat) : Prop :=
  ∀ i, lo ≤ i → i < n → 0 < o i ∧ o i < 64 ∧ sy (o i) = s i ∧ fi (o i) = (if 0 < bu_ar (s i) then nI (o (i + 1)) else 0) ∧ se (o i) = (if 1 < bu_ar (s i) then nI (o (bu_fe s n 1 (i + 1))) else 0)
section HS
variable {sy fi se s : Nat → Int32} {n lo : Nat} {o : Nat → Nat}
theorem HS_o (h : bu_HS sy fi se s n o lo) {i : Nat} (h1 : lo ≤ i) (h2 : i < n) : 0 < o i ∧ o i < 64 := ⟨(h i h1 h2).1, (h i h1 h2).2.1⟩
theorem HS_sy (h : bu_HS sy fi se s n o lo) {i : Nat} (h1 : lo ≤ i) (h2 : i < n) : sy (o i) = s i := (h i h1 h2).2.2.1
theorem HS_f0 (h : bu_HS sy fi se s n o lo) {i : Nat} (h1 : lo ≤ i) (h2 : i < n) (ha : ¬ 0 < bu_ar (s i)) : fi (o i) = 0 := by
  rw [(h i h1 h2).2.2.2.1, if_neg ha]
theorem HS_f1 (h : bu_HS sy fi se s n o lo) {i : Nat} (h1 : lo ≤ i) (h2 : i < n) (ha : 0 < bu_ar (s i)) : fi (o i) = nI (o (i + 1)) := by
  rw [(h i h1 h2).2.2.2.1, if_pos ha]
theorem HS_s0 (h : bu_HS sy fi se s n o lo) {i : Nat} (h1 : lo ≤ i) (h2 : i < n) (ha : ¬ 1 < bu_ar (s i)) : se (o i) = 0 := by
  rw [(h i h1 h2).2.2.2.2, if_neg ha]
theorem HS_s1 (h : bu_HS sy fi se s n o lo) {i : Nat} (h1 : lo ≤ i) (h2 : i < n) (ha : 1 < bu_ar (s i)) : se (o i) = nI (o (bu_fe s n 1 (i + 1))) := by
  rw [(h i h1 h2).2.2.2.2, if_pos ha]
theorem HS_fn (h : bu_HS sy fi se s n o lo) {c : Nat} (hF : bu_FO s n c lo) {i : Nat} (h1 : lo ≤ i) (h2 : i < n) : ∃ a, a < 64 ∧ fi (o i) = nI a := by
  by_cases ha : 0 < bu_ar (s i)
  · have hc : ∀ j, lo ≤ j → j ≤ n → ∃ c, bu_FO s n c j := by
      intro j hj
      induction j with
      | zero => intro _; rw [show lo = 0 from by omega] at hF; exact ⟨c, hF⟩
      | succ j ih =>
        intro hn
        by_cases e : lo = j + 1
        · rw [← e]; exact ⟨c, hF⟩
        · obtain ⟨d, hd⟩ := ih (by omega) (by omega)
          exact ⟨_, (FO_s (by omega) hd).2⟩
    obtain ⟨d, hd⟩ := hc i h1 (by omega)
    have h3 := FO_d1 hd h2 ha
    exact ⟨o (i + 1), (HS_o h (by omega) h3).2, HS_f1 h h1 h2 ha⟩
  · exact ⟨0, by decide, HS_f0 h h1 h2 ha⟩
end HS
/-- a forest's suffixes are forests -/
theorem FO_sx {s : Nat → Int32} {n c lo : Nat} (hF : bu_FO s n c lo) : ∀ j, lo ≤ j → j ≤ n → ∃ c, bu_FO s n c j := by
  intro j hj
  induction j with
  | zero => intro _; rw [show lo = 0 from by omega] at hF; exact ⟨c, hF⟩
  | succ j ih =>
    intro hn
    by_cases e : lo = j + 1
    · rw [← e]; exact ⟨c, hF⟩
    · obtain ⟨d, hd⟩ := ih (by omega) (by omega)
      exact ⟨_, (FO_s (by omega) hd).2⟩
theorem HS_sn {sy fi se s : Nat → Int32} {n lo : Nat} {o : Nat → Nat} (h : bu_HS sy fi se s n o lo) {c : Nat} (hF : bu_FO s n c lo) {i : Nat} (h1 : lo ≤ i) (h2 : i < n) : ∃ a, a < 64 ∧ se (o i) = nI a := by
  by_cases ha : 1 < bu_ar (s i)
  · obtain ⟨d, hd⟩ := FO_sx hF i h1 (by omega)
    have h3 := FO_d2 hd h2 ha
    have h4 := fe_ge s n 1 (i + 1)
    exact ⟨o (bu_fe s n 1 (i + 1)), (HS_o h (by omega) h3).2, HS_s1 h h1 h2 ha⟩
  · exact ⟨0, by decide, HS_s0 h h1 h2 ha⟩
/-- what a work-out of x leaves of another node -/
theorem WO_fr {P : Nat} {ps pf pg sy fi se sz sz' : Nat → Int32} {ft ft' : Nat → Int64} {x y : Nat} (h : bu_WO P ps pf pg sy fi se sz ft y) (hy : y ≠ x) (hf : (fi y).toNatClampNeg ≠ x) (hs : (se y).toNatClampNeg ≠ x) (hz : ∀ z, z ≠ x → sz' z = sz z) (ht : ∀ z, z ≠ x → ft' z = ft z) : bu_WO P ps pf pg sy fi se sz' ft' y := by
  unfold bu_WO bu_cd at h ⊢
  rw [hz y hy, hz _ hf, hz _ hs, ht y hy, ht _ hf, ht _ hs]
  exact h
/-- a node that is worked out stays so where nothing that it looks at changes -/
theorem WO_cg {P : Nat} {ps pf pg sy fi se sz sy' fi' se' sz' : Nat → Int32} {ft ft' : Nat → Int64} {y : Nat} (h : bu_WO P ps pf pg sy fi se sz ft y) (h1 : sy' y = sy y) (h2 : fi' y = fi y) (h3 : se' y = se y) (z1 : sz' y = sz y) (z2 : sz' (fi y).toNatClampNeg = sz (fi y).toNatClampNeg) (z3 : sz' (se y).toNatClampNeg = sz (se y).toNatClampNeg) (t1 : ft' y = ft y) (t2 : fi y ≠ 0 → ft' (fi y).toNatClampNeg = ft (fi y).toNatClampNeg) (t3 : se y ≠ 0 → ft' (se y).toNatClampNeg = ft (se y).toNatClampNeg) : bu_WO P ps pf pg sy' fi' se' sz' ft' y := by
  unfold bu_WO bu_cd at h ⊢
  rw [h1, h2, h3, z1, z2, z3, t1]
  refine ⟨h.1, fun p hp => ?_⟩
  refine Iff.trans (h.2 p hp) ?_
  constructor
  · intro g
    rcases g with g | ⟨a, b, c⟩
    · exact Or.inl g
    · exact Or.inr ⟨a, fun z => by rw [t2 z]; exact b z, fun z => by rw [t3 z]; exact c z⟩
  · intro g
    rcases g with g | ⟨a, b, c⟩
    · exact Or.inl g
    · exact Or.inr ⟨a, fun z => by rw [← t2 z]; exact b z, fun z => by rw [← t3 z]; exact c z⟩
theorem bu_cl {n : Nat} (h : n < 64) : (nI n).toNatClampNeg = n := nI_clamp (by omega)
theorem bu_z : (0 : Int32).toNatClampNeg = 0 := by decide
theorem bu_ne0 {n : Nat} (h0 : 0 < n) (h : n < 64) : nI n ≠ 0 := nI_ne0 h0 (by omega)
/-- the sizes that worked out nodes hold -/
theorem WO_size {P : Nat} {ps pf pg sy fi se sz : Nat → Int32} {ft : Nat → Int64} {s : Nat → Int32} {n : Nat} {o : Nat → Nat} {lo c : Nat} (hS : bu_HS sy fi se s n o lo) (hF : bu_FO s n c lo) (hz : sz 0 = 0) (hW : ∀ i, lo ≤ i → i < n → bu_WO P ps pf pg sy fi se sz ft (o i)) : ∀ d i, n - i ≤ d → lo ≤ i → i < n → sz (o i) = nI (bu_fe s n 1 i - i) := by
  intro d
  induction d with
  | zero => intro i h1 _ h2; omega
  | succ d ih =>
    intro i h1 h0 h2
    have hw := (hW i h0 h2).1
    obtain ⟨e, he⟩ := FO_sx hF i h0 (by omega)
    rw [hw, fe_1 h2]
    rcases bu_ar_cases (s i) with a | a | a
    · rw [HS_f0 hS h0 h2 (by omega), HS_s0 hS h0 h2 (by omega), bu_z, hz, a, fe_0, Nat.add_sub_cancel_left]
      decide
    · have h3 := FO_d1 he h2 (by omega)
      have h4 := fe_ge s n 1 (i + 1)
      rw [HS_f1 hS h0 h2 (by omega), HS_s0 hS h0 h2 (by omega), bu_z, hz, a, bu_cl (HS_o hS (by omega) h3).2, ih (i + 1) (by omega) (by omega) h3, Int32.add_zero, show (1 : Int32) = nI 1 from rfl, nI_add]
      exact congrArg nI (by omega)
    · have h3 := FO_d1 he h2 (by omega)
      have h4 := FO_d2 he h2 (by omega)
      have h5 := fe_ge s n 1 (i + 1)
      have h6 := fe_ge s n 1 (bu_fe s n 1 (i + 1))
      rw [HS_f1 hS h0 h2 (by omega), HS_s1 hS h0 h2 (by omega), a, bu_cl (HS_o hS (by omega) h3).2, bu_cl (HS_o hS (by omega) h4).2, ih (i + 1) (by omega) (by omega) h3, ih _ (by omega) (by omega) h4, show (1 : Int32) = nI 1 from rfl, nI_add, nI_add, show (2 : Nat) = 1 + 1 from rfl, fe_add]
      exact congrArg nI (by omega)
/-- among 63 nodes one is free, if fewer are in use -/
theorem bu_pig : ∀ (N : Nat) (l : List Nat), l.length < N → ∃ y, y < N ∧ y ∉ l := by
  intro N
  induction N with
  | zero => intro l h; omega
  | succ N ih =>
    intro l h
    by_cases hN : N ∈ l
    · have h1 : (l.erase N).length = l.length - 1 := List.length_erase_of_mem hN
      have h0 : 0 < l.length := List.length_pos_of_mem hN
      obtain ⟨y, hy, hm⟩ := ih (l.erase N) (by omega)
      refine ⟨y, by omega, fun hl => hm ?_⟩
      exact (List.mem_erase_of_ne (by omega)).mpr hl
    · exact ⟨N, by omega, hN⟩
theorem bu_free {us : Nat → Int32} (l : List Nat) (h : l.length < 63) (hu : ∀ x, 0 < x → x < 64 → us x ≠ 0 → x ∈ l) : ∃ y, 0 < y ∧ y < 64 ∧ us y = 0 := by
  obtain ⟨y, hy, hm⟩ := bu_pig 64 (0 :: l) (by rw [List.length_cons]; omega)
  have h0 : y ≠ 0 := fun e => hm (by rw [e]; exact List.mem_cons_self)
  refine ⟨y, by omega, hy, ?_⟩
  apply Classical.byContradiction
  intro hne
  exact hm (List.mem_cons_of_mem _ (hu y (by omega) hy hne))
end
section
/-! X: the small methods -/
theorem bu_vb1 : vp_nar .boolean 1 = 1 := by decide
theorem bu_vb0 : vp_nar .boolean 0 = 0 := by decide
section XB
variable {f_written f_height f_rules f_patterns f_root f_lined : Int32} {a_post a_begin a_leftSize a_left a_rightSize a_right a_patternSymbol a_patternFirst a_patternSecond a_top a_used a_symbol a_first a_second a_above a_size a_line a_order a_pile a_bound : Nat → Int32} {a_fitting : Nat → Int64}
theorem xq_parts {post : Int32 → Prop} {p : Int32} (K : post (nI (bu_ar p))) : wpX_parts post (f_written, f_height, f_rules, f_patterns, f_root, f_lined, a_post, a_begin, a_leftSize, a_left, a_rightSize, a_right, a_patternSymbol, a_patternFirst, a_patternSecond, a_top, a_used, a_symbol, a_first, a_second, a_above, a_size, a_fitting, a_line, a_order, a_pile, a_bound) p := by
  unfold bu_ar at K
  refine br_c (fun h => ?_) (fun h3 => br_c (fun h => ?_) (fun h4 => br_c (fun h => ?_) (fun h5 => br_c (fun h => ?_) (fun h6 => ?_))))
  · rw [if_pos h] at K; exact K
  · rw [if_neg h3, if_pos h] at K; exact K
  · rw [if_neg h3, if_neg h4, if_pos h] at K; exact K
  · rw [if_neg h3, if_neg h4, if_neg h5, if_pos h] at K; exact K
  · rw [if_neg h3, if_neg h4, if_neg h5, if_neg h6] at K; exact K
theorem xq_fn5 {post : Int32 → SX → Prop} (K : ∀ x, 0 < x → x < 64 → a_used x = 0 → post (nI x) (f_written, f_height, f_rules, f_patterns, f_root, f_lined, a_post, a_begin, a_leftSize, a_left, a_rightSize, a_right, a_patternSymbol, a_patternFirst, a_patternSecond, a_top, upd a_used x 1, a_symbol, a_first, a_second, a_above, a_size, a_fitting, a_line, a_order, a_pile, a_bound)) : ∀ (k x nn : Nat), k < 64 → k < nn → 0 < x → x < 64 → (a_used x = 0 ∨ ∃ y, 0 < y ∧ y ≤ k ∧ a_used y = 0) → wX_freshNode_5 post f_written f_height f_rules f_patterns f_root f_lined a_post a_begin a_leftSize a_left a_rightSize a_right a_patternSymbol a_patternFirst a_patternSecond a_top a_used a_symbol a_first a_second a_above a_size a_fitting a_line a_order a_pile a_bound nn (nI x) (nI k) := by
  intro k
  induction k with
  | zero =>
    intro x nn hk hn h0 hx hu
    obtain ⟨m, rfl⟩ : ∃ m, nn = m + 1 := ⟨nn - 1, by omega⟩
    have hu0 : a_used x = 0 := by
      rcases hu with h | ⟨y, h1, h2, _⟩
      · exact h
      · omega
    refine br_t (show nI 0 ≤ 0 by decide) ⟨pk_in x 64 hx, nm_r (e' := upd a_used x 1) ?_ (K x h0 hx hu0)⟩
    rw [bu_cl hx, bu_vb1]
  | succ k ih =>
    intro x nn hk hn h0 hx hu
    obtain ⟨m, rfl⟩ : ∃ m, nn = m + 1 := ⟨nn - 1, by omega⟩
    by_cases hz : a_used (k + 1) = 0
    · refine br_f (nI_nle (by omega) (by omega)) ⟨pk_in (k + 1) 64 hk, br_t (by rw [bu_cl hk]; exact hz) (nm_r (pk_m1 k) ?_)⟩
      exact ih (k + 1) m (by omega) (by omega) (by omega) hk (Or.inl hz)
    · refine br_f (nI_nle (by omega) (by omega)) ⟨pk_in (k + 1) 64 hk, br_f (by rw [bu_cl hk]; exact hz) (nm_r (pk_m1 k) ?_)⟩
      refine ih x m (by omega) (by omega) h0 hx ?_
      rcases hu with h | ⟨y, h1, h2, h3⟩
      · exact Or.inl h
      · refine Or.inr ⟨y, h1, ?_, h3⟩
        have : y ≠ k + 1 := fun e => hz (by rw [← e]; exact h3)
        omega
theorem xq_fresh {post : Int32 → SX → Prop} (hf : ∃ y, 0 < y ∧ y < 64 ∧ a_used y = 0) (K : ∀ x, 0 < x → x < 64 → a_used x = 0 → post (nI x) (f_written, f_height, f_rules, f_patterns, f_root, f_lined, a_post, a_begin, a_leftSize, a_left, a_rightSize, a_right, a_patternSymbol, a_patternFirst, a_patternSecond, a_top, upd a_used x 1, a_symbol, a_first, a_second, a_above, a_size, a_fitting, a_line, a_order, a_pile, a_bound)) : wpX_freshNode post (f_written, f_height, f_rules, f_patterns, f_root, f_lined, a_post, a_begin, a_leftSize, a_left, a_rightSize, a_right, a_patternSymbol, a_patternFirst, a_patternSecond, a_top, a_used, a_symbol, a_first, a_second, a_above, a_size, a_fitting, a_line, a_order, a_pile, a_bound) := by
  obtain ⟨y, h0, h1, h2⟩ := hf
  exact Exists.intro 64 (xq_fn5 K 63 1 64 (by decide) (by decide) (by decide) (by decide) (Or.inr ⟨y, h0, by omega, h2⟩))
/-! the work-out -/
theorem xq_wo162 {post : SX → Prop} {J : Int64 → Int32 → Prop} {x5 : Int32} {x1 : Int32} {w : Int64} {p : Nat} (K0 : x5 = 0 → J w (nI (p + 1))) (K1 : ¬ x5 = 0 → J (w ||| ((1 : Int64) <<< ((nI p).toInt64 &&& 63))) (nI (p + 1))) : wX_workOut_162 post J x1 w (nI p) x5 f_written f_height f_rules f_patterns f_root f_lined a_post a_begin a_leftSize a_left a_rightSize a_right a_patternSymbol a_patternFirst a_patternSecond a_top a_used a_symbol a_first a_second a_above a_size a_fitting a_line a_order a_pile a_bound :=
  br_c (fun h => nm_r (nI_1 p) (K0 h)) (fun h => nm_e (nm_r (nI_1 p) (K1 h)))
theorem xq_wo115z {post : SX → Prop} {J : Int64 → Int32 → Prop} {x1 : Int32} {w : Int64} {p : Nat} (K0 : J w (nI (p + 1))) : wX_workOut_115 post J x1 w (nI p) 0 f_written f_height f_rules f_patterns f_root f_lined a_post a_begin a_leftSize a_left a_rightSize a_right a_patternSymbol a_patternFirst a_patternSecond a_top a_used a_symbol a_first a_second a_above a_size a_fitting a_line a_order a_pile a_bound :=
  br_t rfl (xq_wo162 (fun _ => K0) (fun h => absurd rfl h))
theorem xq_wo115 {post : SX → Prop} {J : Int64 → Int32 → Prop} {x b c : Nat} {w : Int64} {p : Nat} (hx : x < 64) (hp : p < 48) (hb : b < 64) (eb : a_second x = nI b) (hc : c < 64) (ec : a_patternSecond p = nI c) (K0 : ¬ (a_second x ≠ 0 → bu_bt (a_fitting (a_second x).toNatClampNeg) (a_patternSecond p).toNatClampNeg = true) → J w (nI (p + 1))) (K1 : (a_second x ≠ 0 → bu_bt (a_fitting (a_second x).toNatClampNeg) (a_patternSecond p).toNatClampNeg = true) → J (w ||| ((1 : Int64) <<< ((nI p).toInt64 &&& 63))) (nI (p + 1))) : wX_workOut_115 post J (nI x) w (nI p) 1 f_written f_height f_rules f_patterns f_root f_lined a_post a_begin a_leftSize a_left a_rightSize a_right a_patternSymbol a_patternFirst a_patternSecond a_top a_used a_symbol a_first a_second a_above a_size a_fitting a_line a_order a_pile a_bound := by
  have ex : (nI x).toNatClampNeg = x := bu_cl hx
  have ep : (nI p).toNatClampNeg = p := bu_cl (by omega)
  have ix : vp_in (nI x) 64 := pk_in x 64 hx
  refine br_f (by decide) ⟨ix, ?_⟩
  rw [ex, ep]
  by_cases h : a_second x = 0
  · exact br_t h (xq_wo162 (fun z => absurd z (by decide)) (fun _ => K1 (fun z => absurd h z)))
  · refine br_f h ⟨ix, by rw [eb]; exact pk_in b 64 hb, pk_in p 48 hp, ?_⟩
    have e := bu_bit (W := a_fitting (a_second x).toNatClampNeg) hc
    rw [← ec] at e
    by_cases g : bu_bt (a_fitting (a_second x).toNatClampNeg) (a_patternSecond p).toNatClampNeg = true
    · refine br_t (e.mpr (by rw [ec, bu_cl hc] at g; exact g)) ?_
      exact xq_wo162 (fun z => absurd z (by decide)) (fun _ => K1 (fun _ => g))
    · refine br_f (fun z => g (by have := e.mp z; rw [ec, bu_cl hc]; exact this)) ?_
      exact xq_wo162 (fun _ => K0 (fun z => g (z h))) (fun z => absurd rfl z)
theorem xq_wo66z {post : SX → Prop} {J : Int64 → Int32 → Prop} {x1 : Int32} {w : Int64} {p : Nat} (K0 : J w (nI (p + 1))) : wX_workOut_66 post J x1 w (nI p) 0 f_written f_height f_rules f_patterns f_root f_lined a_post a_begin a_leftSize a_left a_rightSize a_right a_patternSymbol a_patternFirst a_patternSecond a_top a_used a_symbol a_first a_second a_above a_size a_fitting a_line a_order a_pile a_bound :=
  br_t rfl (xq_wo115z K0)
theorem xq_wo66 {post : SX → Prop} {J : Int64 → Int32 → Prop} {x a b c d : Nat} {w : Int64} {p : Nat} (hx : x < 64) (hp : p < 48) (ha : a < 64) (ea : a_first x = nI a) (hd : d < 64) (ed : a_patternFirst p = nI d) (hb : b < 64) (eb : a_second x = nI b) (hc : c < 64) (ec : a_patternSecond p = nI c) (K0 : ¬ ((a_first x ≠ 0 → bu_bt (a_fitting (a_first x).toNatClampNeg) (a_patternFirst p).toNatClampNeg = true) ∧ (a_second x ≠ 0 → bu_bt (a_fitting (a_second x).toNatClampNeg) (a_patternSecond p).toNatClampNeg = true)) → J w (nI (p + 1))) (K1 : ((a_first x ≠ 0 → bu_bt (a_fitting (a_first x).toNatClampNeg) (a_patternFirst p).toNatClampNeg = true) ∧ (a_second x ≠ 0 → bu_bt (a_fitting (a_second x).toNatClampNeg) (a_patternSecond p).toNatClampNeg = true)) → J (w ||| ((1 : Int64) <<< ((nI p).toInt64 &&& 63))) (nI (p + 1))) : wX_workOut_66 post J (nI x) w (nI p) 1 f_written f_height f_rules f_patterns f_root f_lined a_post a_begin a_leftSize a_left a_rightSize a_right a_patternSymbol a_patternFirst a_patternSecond a_top a_used a_symbol a_first a_second a_above a_size a_fitting a_line a_order a_pile a_bound := by
  have ex : (nI x).toNatClampNeg = x := bu_cl hx
  have ep : (nI p).toNatClampNeg = p := bu_cl (by omega)
  have ix : vp_in (nI x) 64 := pk_in x 64 hx
  refine br_f (by decide) ⟨ix, ?_⟩
  rw [ex, ep]
  by_cases h : a_first x = 0
  · exact br_t h (xq_wo115 hx hp hb eb hc ec (fun z => K0 (fun q => z q.2)) (fun z => K1 ⟨fun q => absurd h q, z⟩))
  · refine br_f h ⟨ix, by rw [ea]; exact pk_in a 64 ha, pk_in p 48 hp, ?_⟩
    have e := bu_bit (W := a_fitting (a_first x).toNatClampNeg) hd
    rw [← ed] at e
    by_cases g : bu_bt (a_fitting (a_first x).toNatClampNeg) (a_patternFirst p).toNatClampNeg = true
    · refine br_t (e.mpr (by rw [ed, bu_cl hd] at g; exact g)) ?_
      exact xq_wo115 hx hp hb eb hc ec (fun z => K0 (fun q => z q.2)) (fun z => K1 ⟨fun _ => g, z⟩)
    · refine br_f (fun z => g (by have := e.mp z; rw [ed, bu_cl hd]; exact this)) ?_
      exact xq_wo115z (K0 (fun z => g (z.1 h)))
theorem xq_wo36 {post : SX → Prop} {x a b P : Nat} (hx : x < 64) (hP : P ≤ 48) (eP : f_patterns = nI P) (ha : a < 64) (ea : a_first x = nI a) (hb : b < 64) (eb : a_second x = nI b)
    (hf : ∀ p, 0 < p → p < P → ∃ d, d < 64 ∧ a_patternFirst p = nI d) (hg : ∀ p, 0 < p → p < P → ∃ d, d < 64 ∧ a_patternSecond p = nI d)
    (K : ∀ w, (∀ p, p < P → (bu_bt w p = true ↔ bu_cd a_patternSymbol a_patternFirst a_patternSecond a_symbol a_first a_second a_fitting x p)) → post (f_written, f_height, f_rules, f_patterns, f_root, f_lined, a_post, a_begin, a_leftSize, a_left, a_rightSize, a_right, a_patternSymbol, a_patternFirst, a_patternSecond, a_top, a_used, a_symbol, a_first, a_second, a_above, a_size, vp_updL a_fitting x w, a_line, a_order, a_pile, a_bound)) :
    ∀ (d p nn : Nat) (w : Int64), p + d = P → d < nn → 0 < p → (∀ q, q < p → (bu_bt w q = true ↔ bu_cd a_patternSymbol a_patternFirst a_patternSecond a_symbol a_first a_second a_fitting x q)) → (∀ q, p ≤ q → q < 64 → bu_bt w q = false) → wX_workOut_36 post (nI x) f_written f_height f_rules f_patterns f_root f_lined a_post a_begin a_leftSize a_left a_rightSize a_right a_patternSymbol a_patternFirst a_patternSecond a_top a_used a_symbol a_first a_second a_above a_size a_fitting a_line a_order a_pile a_bound nn w (nI p) := by
  intro d
  induction d with
  | zero =>
    intro p nn w hd hn h0 hw hz
    obtain ⟨m, rfl⟩ : ∃ m, nn = m + 1 := ⟨nn - 1, by omega⟩
    refine br_t (by rw [eP]; exact nI_le (by omega) (by omega)) ⟨pk_in x 64 hx, nm_r (e' := vp_updL a_fitting x w) (by rw [bu_cl hx]) (K w ?_)⟩
    intro q hq
    exact hw q (by omega)
  | succ d ih =>
    intro p nn w hd hn h0 hw hz
    obtain ⟨m, rfl⟩ : ∃ m, nn = m + 1 := ⟨nn - 1, by omega⟩
    obtain ⟨df, hdf, edf⟩ := hf p h0 (by omega)
    obtain ⟨dg, hdg, edg⟩ := hg p h0 (by omega)
    have ex : (nI x).toNatClampNeg = x := bu_cl hx
    have ep : (nI p).toNatClampNeg = p := bu_cl (by omega)
    have hJ0 : ¬ bu_cd a_patternSymbol a_patternFirst a_patternSecond a_symbol a_first a_second a_fitting x p → wX_workOut_36 post (nI x) f_written f_height f_rules f_patterns f_root f_lined a_post a_begin a_leftSize a_left a_rightSize a_right a_patternSymbol a_patternFirst a_patternSecond a_top a_used a_symbol a_first a_second a_above a_size a_fitting a_line a_order a_pile a_bound m w (nI (p + 1)) := by
      intro hc
      refine ih (p + 1) m w (by omega) (by omega) (by omega) ?_ (fun q h1 h2 => hz q (by omega) h2)
      intro q hq
      by_cases e : q = p
      · rw [e, hz p (by omega) (by omega)]
        exact ⟨fun z => absurd z (by decide), fun z => absurd z hc⟩
      · exact hw q (by omega)
    have hJ1 : bu_cd a_patternSymbol a_patternFirst a_patternSecond a_symbol a_first a_second a_fitting x p → wX_workOut_36 post (nI x) f_written f_height f_rules f_patterns f_root f_lined a_post a_begin a_leftSize a_left a_rightSize a_right a_patternSymbol a_patternFirst a_patternSecond a_top a_used a_symbol a_first a_second a_above a_size a_fitting a_line a_order a_pile a_bound m (w ||| ((1 : Int64) <<< ((nI p).toInt64 &&& 63))) (nI (p + 1)) := by
      intro hc
      refine ih (p + 1) m _ (by omega) (by omega) (by omega) ?_ ?_
      · intro q hq
        rw [bu_bor (by omega)]
        by_cases e : q = p
        · rw [e, decide_eq_true rfl, Bool.or_true]
          exact ⟨fun _ => hc, fun _ => rfl⟩
        · rw [decide_eq_false e, Bool.or_false]
          exact hw q (by omega)
      · intro q h1 h2
        rw [bu_bor (by omega), hz q (by omega) h2, decide_eq_false (by omega)]
        rfl
    refine br_f (by rw [eP]; exact nI_ge (by omega) (by omega)) ⟨pk_in p 48 (by omega), pk_in x 64 hx, ?_⟩
    rw [ex, ep]
    by_cases h : a_patternSymbol p = a_symbol x
    · refine br_t h (xq_wo66 hx (by omega) ha ea hdf edf hb eb hdg edg (fun z => hJ0 ?_) (fun z => hJ1 (Or.inr ⟨h, z.1, z.2⟩)))
      intro hc
      rcases hc with hc | hc
      · omega
      · exact z ⟨hc.2.1, hc.2.2⟩
    · refine br_f h (xq_wo66z (hJ0 ?_))
      intro hc
      rcases hc with hc | hc
      · omega
      · exact h hc.1
/-- workOut(x): afterwards x is worked out -/
theorem xq_wo {post : SX → Prop} {x a b P : Nat} (hx : x < 64) (hP : P ≤ 48) (h1 : 0 < P) (eP : f_patterns = nI P) (ha : a < 64) (ea : a_first x = nI a) (hax : a ≠ x) (hb : b < 64) (eb : a_second x = nI b) (hbx : b ≠ x)
    (hf : ∀ p, 0 < p → p < P → ∃ d, d < 64 ∧ a_patternFirst p = nI d) (hg : ∀ p, 0 < p → p < P → ∃ d, d < 64 ∧ a_patternSecond p = nI d)
    (K : ∀ sz' ft', (∀ z, z ≠ x → sz' z = a_size z) → (∀ z, z ≠ x → ft' z = a_fitting z) → bu_WO P a_patternSymbol a_patternFirst a_patternSecond a_symbol a_first a_second sz' ft' x → post (f_written, f_height, f_rules, f_patterns, f_root, f_lined, a_post, a_begin, a_leftSize, a_left, a_rightSize, a_right, a_patternSymbol, a_patternFirst, a_patternSecond, a_top, a_used, a_symbol, a_first, a_second, a_above, sz', ft', a_line, a_order, a_pile, a_bound)) :
    wpX_workOut post (f_written, f_height, f_rules, f_patterns, f_root, f_lined, a_post, a_begin, a_leftSize, a_left, a_rightSize, a_right, a_patternSymbol, a_patternFirst, a_patternSecond, a_top, a_used, a_symbol, a_first, a_second, a_above, a_size, a_fitting, a_line, a_order, a_pile, a_bound) (nI x) := by
  have ex : (nI x).toNatClampNeg = x := bu_cl hx
  have ix : vp_in (nI x) 64 := pk_in x 64 hx
  refine And.intro ix (And.intro ?_ (And.intro ix (And.intro ?_ (And.intro ix (nm_r (e' := upd a_size x ((1 + (a_size (a_first x).toNatClampNeg)) + (a_size (a_second x).toNatClampNeg))) (by rw [ex]) (Exists.intro (P + 1) ?_))))))
  · rw [ex, ea]; exact pk_in a 64 ha
  · rw [ex, eb]; exact pk_in b 64 hb
  · refine xq_wo36 hx hP eP ha ea hb eb hf hg ?_ (P - 1) 1 (P + 1) 1 (by omega) (by omega) (by omega) ?_ ?_
    · intro w hw
      refine K _ _ (fun z hz => pk_un hz) (fun z hz => pk_uLn hz) ⟨?_, ?_⟩
      · rw [pk_us, ea, eb, bu_cl ha, bu_cl hb, pk_un hax, pk_un hbx]
      · intro p hp
        rw [pk_uLs]
        refine Iff.trans (hw p hp) ?_
        unfold bu_cd
        rw [ea, eb, bu_cl ha, bu_cl hb, pk_uLn hax, pk_uLn hbx]
    · intro q hq
      have e : q = 0 := by omega
      rw [e, bu_b1 0 (by decide)]
      exact ⟨fun _ => Or.inl rfl, fun _ => by decide⟩
    · intro q h1 h2
      rw [bu_b1 q h2, decide_eq_false (by omega)]
end XB
end
section
/-! X: the places of a part, listed -/
section XL
variable {f_written f_height f_rules f_patterns f_root f_lined : Int32} {a_post a_begin a_leftSize a_left a_rightSize a_right a_patternSymbol a_patternFirst a_patternSecond a_top a_used a_symbol a_first a_second a_above a_size a_line a_order a_pile a_bound : Nat → Int32} {a_fitting : Nat → Int64}
theorem xq_lp14 {post : Int32 → SX → Prop} {s : Nat → Int32} {n i0 c0 : Nat} {o : Nat → Nat} (hS : bu_HS a_symbol a_first a_second s n o 0) (hn : n ≤ 31) (hi : i0 < n)
    (K : ∀ od pl, (∀ j, i0 + j < bu_fe s n 1 i0 → od j = nI (o (i0 + j))) → post (nI (bu_fe s n 1 i0 - i0)) (f_written, f_height, f_rules, f_patterns, f_root, f_lined, a_post, a_begin, a_leftSize, a_left, a_rightSize, a_right, a_patternSymbol, a_patternFirst, a_patternSecond, a_top, a_used, a_symbol, a_first, a_second, a_above, a_size, a_fitting, a_line, od, pl, a_bound)) :
    ∀ (d c w nn : Nat) (od pl : Nat → Int32), i0 + c + d = bu_fe s n 1 i0 → bu_FO s n (w + c0) (i0 + c) → bu_fe s n w (i0 + c) = bu_fe s n 1 i0 → (∀ j, j < w → pl (w - 1 - j) = nI (o (bu_fe s n j (i0 + c)))) → (∀ j, j < c → od j = nI (o (i0 + j))) → d < nn → wX_listPlaces_14 post f_written f_height f_rules f_patterns f_root f_lined nn (nI c) (nI w) (nI c) a_post a_begin a_leftSize a_left a_rightSize a_right a_patternSymbol a_patternFirst a_patternSecond a_top a_used a_symbol a_first a_second a_above a_size a_fitting a_line od pl a_bound := by
  have hle := fe_le (s := s) 1 (Nat.le_of_lt hi)
  intro d
  induction d with
  | zero =>
    intro c w nn od pl hd hF he hp ho hnn
    obtain ⟨m, rfl⟩ : ∃ m, nn = m + 1 := ⟨nn - 1, by omega⟩
    have hw : w = 0 := by
      apply Classical.byContradiction
      intro hw
      have h1 := FO_lt (by omega) hF
      have h2 := fe_gt (s := s) (w - 1) h1
      rw [show w - 1 + 1 = w from by omega] at h2
      omega
    have K' : post (nI c) (f_written, f_height, f_rules, f_patterns, f_root, f_lined, a_post, a_begin, a_leftSize, a_left, a_rightSize, a_right, a_patternSymbol, a_patternFirst, a_patternSecond, a_top, a_used, a_symbol, a_first, a_second, a_above, a_size, a_fitting, a_line, od, pl, a_bound) := by
      have := K od pl (fun j hj => ho j (by omega))
      rw [show bu_fe s n 1 i0 - i0 = c from by omega] at this
      exact this
    by_cases h31 : 31 ≤ c
    · exact br_t (nI_le (a := 31) h31 (by omega)) K'
    · exact br_f (nI_ge (b := 31) (by omega) (by decide)) (br_t (by rw [hw]; decide) K')
  | succ d ih =>
    intro c w nn od pl hd hF he hp ho hnn
    obtain ⟨m, rfl⟩ : ∃ m, nn = m + 1 := ⟨nn - 1, by omega⟩
    have hw : w ≠ 0 := by
      intro hw
      rw [hw, fe_0] at he
      omega
    obtain ⟨v, rfl⟩ : ∃ v, w = v + 1 := ⟨w - 1, by omega⟩
    have hlt : i0 + c < n := by omega
    obtain ⟨o0, o64⟩ := HS_o hS (Nat.zero_le _) hlt
    have hF1 := FO_s hlt hF
    have hF2 := hF1.2
    rw [show v + 1 + c0 - 1 + bu_ar (s (i0 + c)) = v + bu_ar (s (i0 + c)) + c0 from by omega] at hF2
    have hlen := FO_len hF2
    have he2 : bu_fe s n (v + bu_ar (s (i0 + c))) (i0 + (c + 1)) = bu_fe s n 1 i0 := by
      rw [← he, fe_s v hlt]; rfl
    have ho2 : ∀ j, j < c + 1 → upd od c (nI (o (i0 + c))) j = nI (o (i0 + j)) := by
      intro j hj
      by_cases e : j = c
      · rw [e, pk_us]
      · rw [pk_un e]; exact ho j (by omega)
    have hcl : (nI (o (i0 + c))).toNatClampNeg = o (i0 + c) := bu_cl o64
    have io : vp_in (nI (o (i0 + c))) 64 := pk_in _ 64 o64
    have hrest : ∀ j, j < v → pl (v - 1 - j) = nI (o (bu_fe s n (j + bu_ar (s (i0 + c))) (i0 + (c + 1)))) := by
      intro j hj
      have := hp (j + 1) (by omega)
      rw [show v + 1 - 1 - (j + 1) = v - 1 - j from by omega, fe_s j hlt] at this
      exact this
    refine br_f (nI_ge (b := 31) (by omega) (by decide)) (br_f (nI_nle (by omega) (by omega)) (nm_r (pk_m1 v) ⟨pk_in v 64 (by omega), nm_r (e' := nI (o (i0 + c))) ?_ ⟨pk_in c 32 (by omega), nm_r (e' := upd od c (nI (o (i0 + c)))) ?_ (nm_r (nI_1 c) ⟨io, ?_⟩)⟩⟩))
    · rw [nI_clamp (by omega)]
      have := hp 0 (by omega)
      rw [fe_0] at this
      exact this
    · rw [nI_clamp (by omega)]
    · rw [hcl]
      rcases bu_ar_cases (s (i0 + c)) with a | a | a
      · refine br_t (HS_s0 hS (Nat.zero_le _) hlt (by omega)) (And.intro io (br_t (by rw [hcl]; exact HS_f0 hS (Nat.zero_le _) hlt (by omega)) (nm_r (nI_1 c) ?_)))
        rw [a, Nat.add_zero] at hF2 he2
        refine ih (c + 1) v m _ _ (by omega) hF2 he2 ?_ ho2 (by omega)
        intro j hj
        have := hrest j hj
        rw [a, Nat.add_zero] at this
        exact this
      · have hc1 := FO_d1 hF hlt (by omega)
        have ho1 := HS_o hS (Nat.zero_le _) hc1
        have f1 := HS_f1 hS (Nat.zero_le _) hlt (by omega)
        refine br_t (HS_s0 hS (Nat.zero_le _) hlt (by omega)) (And.intro io (br_f (by rw [hcl, f1]; exact bu_ne0 ho1.1 ho1.2) ⟨io, pk_in v 64 (by omega), nm_r (e' := upd pl v (nI (o (i0 + c + 1)))) (by rw [hcl, f1, nI_clamp (by omega)]) (nm_r (nI_1 v) (nm_r (nI_1 c) ?_))⟩))
        rw [a] at hF2 he2
        refine ih (c + 1) (v + 1) m _ _ (by omega) hF2 he2 ?_ ho2 (by omega)
        intro j hj
        cases j with
        | zero => rw [fe_0]; exact pk_us
        | succ j =>
          have := hrest j (by omega)
          rw [a] at this
          rw [pk_un (by omega), show v + 1 - 1 - (j + 1) = v - 1 - j from by omega]
          exact this
      · have hc1 := FO_d1 hF hlt (by omega)
        have ho1 := HS_o hS (Nat.zero_le _) hc1
        have f1 := HS_f1 hS (Nat.zero_le _) hlt (by omega)
        have hc2 := FO_d2 hF hlt (by omega)
        have hos := HS_o hS (Nat.zero_le _) hc2
        have s1 := HS_s1 hS (Nat.zero_le _) hlt (by omega)
        rw [a] at hlen
        refine br_f (by rw [s1]; exact bu_ne0 hos.1 hos.2) ⟨io, pk_in v 64 (by omega), nm_r (e' := upd pl v (nI (o (bu_fe s n 1 (i0 + c + 1))))) (by rw [s1, nI_clamp (by omega)]) (nm_r (nI_1 v) (And.intro io (br_f (by rw [hcl, f1]; exact bu_ne0 ho1.1 ho1.2) ⟨io, pk_in (v + 1) 64 (by omega), nm_r (e' := upd (upd pl v (nI (o (bu_fe s n 1 (i0 + c + 1))))) (v + 1) (nI (o (i0 + c + 1)))) (by rw [hcl, f1, nI_clamp (by omega)]) (nm_r (nI_1 (v + 1)) (nm_r (nI_1 c) ?_))⟩)))⟩
        rw [a] at hF2 he2
        refine ih (c + 1) (v + 2) m _ _ (by omega) hF2 he2 ?_ ho2 (by omega)
        intro j hj
        cases j with
        | zero => rw [fe_0]; exact pk_us
        | succ j =>
          cases j with
          | zero =>
            rw [pk_un (by omega), show v + 2 - 1 - (0 + 1) = v from by omega, pk_us]
            rfl
          | succ j =>
            have := hrest j (by omega)
            rw [a] at this
            rw [pk_un (by omega), pk_un (by omega), show v + 2 - 1 - (j + 1 + 1) = v - 1 - j from by omega]
            exact this
/-- listPlaces at the node of place i0 -/
theorem xq_lp {post : Int32 → SX → Prop} {s : Nat → Int32} {n i0 : Nat} {o : Nat → Nat} (hS : bu_HS a_symbol a_first a_second s n o 0) (hF : bu_FO s n 1 0) (hn : n ≤ 31) (hi : i0 < n)
    (K : ∀ od pl, (∀ j, i0 + j < bu_fe s n 1 i0 → od j = nI (o (i0 + j))) → post (nI (bu_fe s n 1 i0 - i0)) (f_written, f_height, f_rules, f_patterns, f_root, f_lined, a_post, a_begin, a_leftSize, a_left, a_rightSize, a_right, a_patternSymbol, a_patternFirst, a_patternSecond, a_top, a_used, a_symbol, a_first, a_second, a_above, a_size, a_fitting, a_line, od, pl, a_bound)) : wpX_listPlaces post (f_written, f_height, f_rules, f_patterns, f_root, f_lined, a_post, a_begin, a_leftSize, a_left, a_rightSize, a_right, a_patternSymbol, a_patternFirst, a_patternSecond, a_top, a_used, a_symbol, a_first, a_second, a_above, a_size, a_fitting, a_line, a_order, a_pile, a_bound) (nI (o i0)) := by
  obtain ⟨c0, hc0⟩ := FO_at hF hi
  have hge := fe_ge s n 1 i0
  refine nm_e (Exists.intro (bu_fe s n 1 i0 - i0 + 1) ?_)
  refine xq_lp14 (c0 := c0) hS hn hi K (bu_fe s n 1 i0 - i0) 0 1 _ _ _ (by omega) (by rw [Nat.add_comm 1 c0]; exact hc0) rfl ?_ (fun j hj => absurd hj (by omega)) (by omega)
  intro j hj
  have e : j = 0 := by omega
  rw [e, fe_0]
  exact pk_us
/-- the same, listed from the root -/
theorem xq_lpr {post : Int32 → SX → Prop} {s : Nat → Int32} {n : Nat} {o : Nat → Nat} (hS : bu_HS a_symbol a_first a_second s n o 0) (hF : bu_FO s n 1 0) (hn : n ≤ 31) (h0 : 0 < n)
    (K : ∀ od pl, (∀ j, j < n → od j = nI (o j)) → post (nI n) (f_written, f_height, f_rules, f_patterns, f_root, f_lined, a_post, a_begin, a_leftSize, a_left, a_rightSize, a_right, a_patternSymbol, a_patternFirst, a_patternSecond, a_top, a_used, a_symbol, a_first, a_second, a_above, a_size, a_fitting, a_line, od, pl, a_bound)) : wpX_listPlaces post (f_written, f_height, f_rules, f_patterns, f_root, f_lined, a_post, a_begin, a_leftSize, a_left, a_rightSize, a_right, a_patternSymbol, a_patternFirst, a_patternSecond, a_top, a_used, a_symbol, a_first, a_second, a_above, a_size, a_fitting, a_line, a_order, a_pile, a_bound) (nI (o 0)) := by
  have e : bu_fe s n 1 0 = n := FO_end (Nat.zero_le _) hF
  refine xq_lp hS hF hn h0 (fun od pl h => ?_)
  rw [e, Nat.sub_zero]
  refine K od pl (fun j hj => ?_)
  have := h j (by rw [e]; omega)
  rw [Nat.zero_add] at this
  exact this
/-- release -/
theorem xq_rel8 {post : SX → Prop} {n i0 m0 : Nat} {o : Nat → Nat} (hm : m0 ≤ 31) (ho : ∀ j, j < m0 → o (i0 + j) < 64) (hod : ∀ j, j < m0 → a_order j = nI (o (i0 + j)))
    (K : ∀ us, (∀ j, j < m0 → us (o (i0 + j)) = 0) → (∀ x, (∀ j, j < m0 → x ≠ o (i0 + j)) → us x = a_used x) → post (f_written, f_height, f_rules, f_patterns, f_root, f_lined, a_post, a_begin, a_leftSize, a_left, a_rightSize, a_right, a_patternSymbol, a_patternFirst, a_patternSecond, a_top, us, a_symbol, a_first, a_second, a_above, a_size, a_fitting, a_line, a_order, a_pile, a_bound)) :
    ∀ (d j nn : Nat) (us : Nat → Int32), j + d = m0 → d < nn → (∀ k, k < j → us (o (i0 + k)) = 0) → (∀ x, (∀ k, k < m0 → x ≠ o (i0 + k)) → us x = a_used x) → wX_release_8 post (nI m0) f_written f_height f_rules f_patterns f_root f_lined nn (nI j) a_post a_begin a_leftSize a_left a_rightSize a_right a_patternSymbol a_patternFirst a_patternSecond a_top us a_symbol a_first a_second a_above a_size a_fitting a_line a_order a_pile a_bound := by
  intro d
  induction d with
  | zero =>
    intro j nn us hd hnn h1 h2
    obtain ⟨m, rfl⟩ : ∃ m, nn = m + 1 := ⟨nn - 1, by omega⟩
    exact br_t (nI_le (by omega) (by omega)) (K us (fun k hk => h1 k (by omega)) h2)
  | succ d ih =>
    intro j nn us hd hnn h1 h2
    obtain ⟨m, rfl⟩ : ∃ m, nn = m + 1 := ⟨nn - 1, by omega⟩
    have hj := ho j (by omega)
    have e := hod j (by omega)
    refine br_f (nI_ge (by omega) (by omega)) ⟨pk_in j 32 (by omega), by rw [nI_clamp (by omega), e]; exact pk_in _ 64 hj, nm_r (e' := upd us (o (i0 + j)) 0) (by rw [nI_clamp (by omega), e, bu_cl hj, bu_vb0]) (nm_r (nI_1 j) (ih (j + 1) m _ (by omega) (by omega) ?_ ?_))⟩
    · intro k hk
      by_cases g : o (i0 + k) = o (i0 + j)
      · rw [g, pk_us]
      · rw [pk_un g]
        have : k ≠ j := fun z => g (by rw [z])
        exact h1 k (by omega)
    · intro x hx
      rw [pk_un (hx j (by omega))]
      exact h2 x hx
theorem xq_rel {post : SX → Prop} {s : Nat → Int32} {n i0 : Nat} {o : Nat → Nat} (hS : bu_HS a_symbol a_first a_second s n o 0) (hF : bu_FO s n 1 0) (hn : n ≤ 31) (hi : i0 < n)
    (K : ∀ us od pl, (∀ j, i0 ≤ j → j < bu_fe s n 1 i0 → us (o j) = 0) → (∀ x, (∀ j, i0 ≤ j → j < bu_fe s n 1 i0 → x ≠ o j) → us x = a_used x) → post (f_written, f_height, f_rules, f_patterns, f_root, f_lined, a_post, a_begin, a_leftSize, a_left, a_rightSize, a_right, a_patternSymbol, a_patternFirst, a_patternSecond, a_top, us, a_symbol, a_first, a_second, a_above, a_size, a_fitting, a_line, od, pl, a_bound)) : wpX_release post (f_written, f_height, f_rules, f_patterns, f_root, f_lined, a_post, a_begin, a_leftSize, a_left, a_rightSize, a_right, a_patternSymbol, a_patternFirst, a_patternSecond, a_top, a_used, a_symbol, a_first, a_second, a_above, a_size, a_fitting, a_line, a_order, a_pile, a_bound) (nI (o i0)) := by
  have hge := fe_ge s n 1 i0
  have hle := fe_le (s := s) 1 (Nat.le_of_lt hi)
  unfold wpX_release
  refine xq_lp hS hF hn hi (fun od pl h => Exists.intro (bu_fe s n 1 i0 - i0 + 1) ?_)
  refine xq_rel8 (o := o) (i0 := i0) (n := n) (m0 := bu_fe s n 1 i0 - i0) (by omega) (fun j hj => (HS_o hS (Nat.zero_le _) (by omega)).2) (fun j hj => h j (by omega)) ?_ (bu_fe s n 1 i0 - i0) 0 _ _ (by omega) (by omega) (fun k hk => absurd hk (by omega)) (fun x _ => rfl)
  intro us h1 h2
  refine K us od pl (fun j hj hj2 => ?_) (fun x hx => h2 x (fun j hj => hx _ (by omega) (by omega)))
  have := h1 (j - i0) (by omega)
  rw [show i0 + (j - i0) = j from by omega] at this
  exact this
end XL
end
section
/-! a tree grows, its last symbols first: what holds when the symbols from i on are done -/
def bu_up (o : Nat → Nat) (i x : Nat) : Nat → Nat := fun j => if j = i then x else o j
theorem up_at {o : Nat → Nat} {i x : Nat} : bu_up o i x i = x := if_pos rfl
theorem up_ne {o : Nat → Nat} {i x j : Nat} (h : j ≠ i) : bu_up o i x j = o j := if_neg h
theorem bu_Fo_uq : ∀ (L : List Int32) (a b : Nat), bu_Fo a L → bu_Fo b L → a = b := by
  intro L
  induction L with
  | nil => intro a b h g; rw [bu_Fo_nil.mp h, bu_Fo_nil.mp g]
  | cons s L ih =>
    intro a b h g
    have h1 := bu_Fo_cons.mp h
    have g1 := bu_Fo_cons.mp g
    have := ih _ _ h1.2 g1.2
    omega
theorem FO_uq {s : Nat → Int32} {n a b i : Nat} (h : bu_FO s n a i) (g : bu_FO s n b i) : a = b := bu_Fo_uq _ _ _ h g
/-- a part of a later place is no second part of an earlier one -/
theorem fe_kid1 {s : Nat → Int32} {n c i j : Nat} (hF : bu_FO s n c (i + 1)) (hij : i < j) (hj : j < n) (ha : 0 < bu_ar (s j)) : j + 1 ≠ bu_fe s n 1 (i + 1) := by
  intro e
  obtain ⟨d, hd⟩ := FO_sx hF j (by omega) (by omega)
  have h1 := FO_d1 hd hj ha
  have h2 := fe_lam s n j n (i + 1) (by omega) (by omega) (by omega)
  rw [fe_1 hj] at h2
  have h3 := fe_gt (s := s) (bu_ar (s j) - 1) h1
  rw [show bu_ar (s j) - 1 + 1 = bu_ar (s j) from by omega] at h3
  omega
theorem fe_kid2 {s : Nat → Int32} {n c i j : Nat} (hF : bu_FO s n c (i + 1)) (hij : i < j) (hj : j < n) (ha : 1 < bu_ar (s j)) : bu_fe s n 1 (j + 1) ≠ bu_fe s n 1 (i + 1) := by
  intro e
  obtain ⟨d, hd⟩ := FO_sx hF j (by omega) (by omega)
  have h1 := FO_d2 hd hj ha
  have h0 := fe_ge s n 1 (j + 1)
  have h2 := fe_lam s n j n (i + 1) (by omega) (by omega) (by omega)
  have h4 : bu_ar (s j) = 1 + 1 := by have := bu_ar_le (s j); omega
  rw [fe_1 hj, h4, fe_add] at h2
  have h3 := fe_gt (s := s) 0 h1
  rw [Nat.zero_add] at h3
  omega
def bu_GI (P : Nat) (ps pf pg us0 sy0 fi0 se0 ab0 sz0 : Nat → Int32) (ft0 : Nat → Int64) (s : Nat → Int32) (L i : Nat) (o : Nat → Nat) (us sy fi se ab sz : Nat → Int32) (ft : Nat → Int64) : Prop :=
  bu_HS sy fi se s L o i ∧
  (∀ j k, i ≤ j → j < L → i ≤ k → k < L → o j = o k → j = k) ∧
  (∀ j, i ≤ j → j < L → us0 (o j) = 0 ∧ us (o j) ≠ 0 ∧ bu_WO P ps pf pg sy fi se sz ft (o j)) ∧
  (∀ x, (∀ j, i ≤ j → j < L → x ≠ o j) → us x = us0 x ∧ sy x = sy0 x ∧ fi x = fi0 x ∧ se x = se0 x ∧ sz x = sz0 x ∧ ft x = ft0 x ∧ (x ≠ 0 → ab x = ab0 x)) ∧
  (∀ j, i ≤ j → j < L → (0 < bu_ar (s j) → ab (o (j + 1)) = nI (o j)) ∧ (1 < bu_ar (s j) → ab (o (bu_fe s L 1 (j + 1))) = nI (o j))) ∧
  (i < L → ab (o i) = 0)
section GI
variable {P : Nat} {ps pf pg us0 sy0 fi0 se0 ab0 sz0 : Nat → Int32} {ft0 : Nat → Int64} {s : Nat → Int32} {L : Nat}
theorem GI_0 (o : Nat → Nat) : bu_GI P ps pf pg us0 sy0 fi0 se0 ab0 sz0 ft0 s L L o us0 sy0 fi0 se0 ab0 sz0 ft0 :=
  ⟨fun i h1 h2 => absurd h2 (by omega), fun j k h1 h2 => absurd h2 (by omega), fun j h1 h2 => absurd h2 (by omega), fun x _ => ⟨rfl, rfl, rfl, rfl, rfl, rfl, fun _ => rfl⟩, fun j h1 h2 => absurd h2 (by omega), fun h => absurd h (by omega)⟩
/-- the nodes that a done node points to -/
theorem HS_fc {sy fi se s : Nat → Int32} {n lo c : Nat} {o : Nat → Nat} (h : bu_HS sy fi se s n o lo) (hF : bu_FO s n c lo) {i : Nat} (h1 : lo ≤ i) (h2 : i < n) : (fi (o i) = 0 ∧ (fi (o i)).toNatClampNeg = 0) ∨ (0 < bu_ar (s i) ∧ i + 1 < n ∧ (fi (o i)).toNatClampNeg = o (i + 1)) := by
  by_cases ha : 0 < bu_ar (s i)
  · obtain ⟨d, hd⟩ := FO_sx hF i h1 (by omega)
    have h3 := FO_d1 hd h2 ha
    exact Or.inr ⟨ha, h3, by rw [HS_f1 h h1 h2 ha, bu_cl (HS_o h (by omega) h3).2]⟩
  · exact Or.inl ⟨HS_f0 h h1 h2 ha, by rw [HS_f0 h h1 h2 ha, bu_z]⟩
theorem HS_sc {sy fi se s : Nat → Int32} {n lo c : Nat} {o : Nat → Nat} (h : bu_HS sy fi se s n o lo) (hF : bu_FO s n c lo) {i : Nat} (h1 : lo ≤ i) (h2 : i < n) : (se (o i) = 0 ∧ (se (o i)).toNatClampNeg = 0) ∨ (1 < bu_ar (s i) ∧ i + 1 < bu_fe s n 1 (i + 1) ∧ bu_fe s n 1 (i + 1) < n ∧ (se (o i)).toNatClampNeg = o (bu_fe s n 1 (i + 1))) := by
  by_cases ha : 1 < bu_ar (s i)
  · obtain ⟨d, hd⟩ := FO_sx hF i h1 (by omega)
    have h3 := FO_d2 hd h2 ha
    have h5 := FO_d1 hd h2 (by omega)
    have h4 := fe_gt (s := s) 0 h5
    rw [Nat.zero_add] at h4
    exact Or.inr ⟨ha, h4, h3, by rw [HS_s1 h h1 h2 ha, bu_cl (HS_o h (by omega) h3).2]⟩
  · exact Or.inl ⟨HS_s0 h h1 h2 ha, by rw [HS_s0 h h1 h2 ha, bu_z]⟩
theorem GI_s {i c : Nat} {o : Nat → Nat} {us sy fi se ab sz sz' : Nat → Int32} {ft ft' : Nat → Int64} (H : bu_GI P ps pf pg us0 sy0 fi0 se0 ab0 sz0 ft0 s L (i + 1) o us sy fi se ab sz ft) (hF : bu_FO s L c (i + 1)) (hi : i < L) (hc1 : bu_ar (s i) ≤ c) {x f g : Nat} (x0 : 0 < x) (x64 : x < 64) (xu : us x = 0)
    (hf : f = if 0 < bu_ar (s i) then o (i + 1) else 0) (hg : g = if 1 < bu_ar (s i) then o (bu_fe s L 1 (i + 1)) else 0)
    (hz : ∀ z, z ≠ x → sz' z = sz z) (ht : ∀ z, z ≠ x → ft' z = ft z) (hW : bu_WO P ps pf pg (upd sy x (s i)) (upd fi x (nI f)) (upd se x (nI g)) sz' ft' x) :
    bu_GI P ps pf pg us0 sy0 fi0 se0 ab0 sz0 ft0 s L i (bu_up o i x) (upd us x 1) (upd sy x (s i)) (upd fi x (nI f)) (upd se x (nI g)) (upd (upd (upd ab x 0) f (nI x)) g (nI x)) sz' ft' := by
  obtain ⟨hS, hI, hN, hR, hA, hT⟩ := H
  have xo : ∀ j, i + 1 ≤ j → j < L → o j ≠ x := fun j h1 h2 e => (hN j h1 h2).2.1 (by rw [e]; exact xu)
  have hfx : f ≠ x := by
    rw [hf]
    by_cases a : 0 < bu_ar (s i)
    · rw [if_pos a]; exact xo _ (by omega) (FO_lt (by omega) hF)
    · rw [if_neg a]; omega
  have e1lt : 1 < bu_ar (s i) → bu_fe s L 1 (i + 1) < L := fun a => FO_lt (c := c - 1) (by omega) (FO_fe 1 (c - 1) (by rw [show 1 + (c - 1) = c from by omega]; exact hF))
  have e1ge := fe_ge s L 1 (i + 1)
  have hgx : g ≠ x := by
    rw [hg]
    by_cases a : 1 < bu_ar (s i)
    · rw [if_pos a]; exact xo _ (by omega) (e1lt a)
    · rw [if_neg a]; omega
  have ou : ∀ j, i + 1 ≤ j → bu_up o i x j = o j := fun j h => up_ne (by omega)
  refine ⟨?_, ?_, ?_, ?_, ?_, ?_⟩
  · intro j h1 h2
    by_cases e : j = i
    · rw [e, up_at, pk_us, pk_us, pk_us, ou _ (Nat.le_refl _), ou _ e1ge, hf, hg]
      refine ⟨x0, x64, rfl, ?_, ?_⟩
      · split <;> rfl
      · split <;> rfl
    · have h3 : i + 1 ≤ j := by omega
      have h4 := fe_ge s L 1 (j + 1)
      rw [ou j h3, ou (j + 1) (by omega), ou _ (by omega), pk_un (xo j h3 h2), pk_un (xo j h3 h2), pk_un (xo j h3 h2)]
      exact hS j h3 h2
  · intro j k h1 h2 h3 h4 e
    by_cases ej : j = i
    · by_cases ek : k = i
      · omega
      · rw [ej, up_at, ou k (by omega)] at e
        exact absurd e.symm (xo k (by omega) h4)
    · by_cases ek : k = i
      · rw [ek, up_at, ou j (by omega)] at e
        exact absurd e (xo j (by omega) h2)
      · rw [ou j (by omega), ou k (by omega)] at e
        exact hI j k (by omega) h2 (by omega) h4 e
  · intro j h1 h2
    by_cases e : j = i
    · rw [e, up_at, pk_us]
      refine ⟨?_, by decide, hW⟩
      rw [← xu]
      exact (hR x (fun k k1 k2 z => xo k k1 k2 z.symm)).1.symm
    · have h3 : i + 1 ≤ j := by omega
      obtain ⟨n1, n2, n3⟩ := hN j h3 h2
      have nx := xo j h3 h2
      rw [ou j h3, pk_un nx]
      have fx : (fi (o j)).toNatClampNeg ≠ x := by
        rcases HS_fc hS hF h3 h2 with q | q
        · rw [q.2]; omega
        · rw [q.2.2]; exact xo _ (by omega) q.2.1
      have sx : (se (o j)).toNatClampNeg ≠ x := by
        rcases HS_sc hS hF h3 h2 with q | q
        · rw [q.2]; omega
        · rw [q.2.2.2]; exact xo _ (by omega) q.2.2.1
      exact ⟨n1, n2, WO_cg n3 (pk_un nx) (pk_un nx) (pk_un nx) (hz _ nx) (hz _ fx) (hz _ sx) (ht _ nx) (fun _ => ht _ fx) (fun _ => ht _ sx)⟩
  · intro z hzz
    have zx : z ≠ x := by have := hzz i (Nat.le_refl _) hi; rw [up_at] at this; exact this
    have zo : ∀ j, i + 1 ≤ j → j < L → z ≠ o j := fun j h1 h2 => by have := hzz j (by omega) h2; rw [ou j h1] at this; exact this
    obtain ⟨r1, r2, r3, r4, r5, r6, r7⟩ := hR z zo
    refine ⟨by rw [pk_un zx]; exact r1, by rw [pk_un zx]; exact r2, by rw [pk_un zx]; exact r3, by rw [pk_un zx]; exact r4, by rw [hz z zx]; exact r5, by rw [ht z zx]; exact r6, fun z0 => ?_⟩
    have zf : z ≠ f := by
      rw [hf]
      by_cases a : 0 < bu_ar (s i)
      · rw [if_pos a]; exact zo _ (by omega) (FO_lt (by omega) hF)
      · rw [if_neg a]; exact z0
    have zg : z ≠ g := by
      rw [hg]
      by_cases a : 1 < bu_ar (s i)
      · rw [if_pos a]; exact zo _ (by omega) (e1lt a)
      · rw [if_neg a]; exact z0
    rw [pk_un zg, pk_un zf, pk_un zx]
    exact r7 z0
  · intro j h1 h2
    by_cases e : j = i
    · rw [e, up_at, ou _ (Nat.le_refl _), ou _ e1ge]
      constructor
      · intro a
        have ef : f = o (i + 1) := by rw [hf, if_pos a]
        rw [← ef]
        by_cases q : f = g
        · rw [q, pk_us]
        · rw [pk_un q, pk_us]
      · intro a
        have eg : g = o (bu_fe s L 1 (i + 1)) := by rw [hg, if_pos a]
        rw [← eg, pk_us]
    · have h3 : i + 1 ≤ j := by omega
      have h4 := fe_ge s L 1 (j + 1)
      obtain ⟨d, hd⟩ := FO_sx hF j h3 (by omega)
      have key : ∀ q, i + 1 < q → q < L → q ≠ bu_fe s L 1 (i + 1) → upd (upd (upd ab x 0) f (nI x)) g (nI x) (o q) = ab (o q) := by
        intro q q1 q2 q3
        have qf : o q ≠ f := by
          rw [hf]
          by_cases a : 0 < bu_ar (s i)
          · rw [if_pos a]
            intro z
            have := hI q (i + 1) (by omega) q2 (by omega) (by omega) z
            omega
          · rw [if_neg a]; have := (HS_o hS (by omega) q2).1; omega
        have qg : o q ≠ g := by
          rw [hg]
          by_cases a : 1 < bu_ar (s i)
          · rw [if_pos a]
            intro z
            exact q3 (hI q _ (by omega) q2 (by omega) (e1lt a) z)
          · rw [if_neg a]; have := (HS_o hS (by omega) q2).1; omega
        rw [pk_un qg, pk_un qf, pk_un (xo q (by omega) q2)]
      rw [ou j h3, ou (j + 1) (by omega), ou _ (by omega)]
      constructor
      · intro a
        rw [key (j + 1) (by omega) (FO_d1 hd h2 a) (fe_kid1 hF (by omega) h2 a)]
        exact (hA j h3 h2).1 a
      · intro a
        rw [key _ (by omega) (FO_d2 hd h2 a) (fe_kid2 hF (by omega) h2 a)]
        exact (hA j h3 h2).2 a
  · intro _
    rw [up_at, pk_un (Ne.symm hgx), pk_un (Ne.symm hfx), pk_us]
end GI
end
section
/-! X: grow -/
section XG
variable {f_written f_height f_rules f_patterns f_root f_lined : Int32} {a_post a_begin a_leftSize a_left a_rightSize a_right a_patternSymbol a_patternFirst a_patternSecond a_top a_used a_symbol a_first a_second a_above a_size a_line a_order a_pile a_bound : Nat → Int32} {a_fitting : Nat → Int64}
theorem xq_gr89 {post : Int32 → SX → Prop} {J : Int32 → Int32 → Int32 → Int32 → Int32 → Int32 → Int32 → Int32 → (Nat → Int32) → (Nat → Int32) → (Nat → Int32) → (Nat → Int32) → (Nat → Int32) → (Nat → Int32) → (Nat → Int32) → (Nat → Int32) → (Nat → Int32) → (Nat → Int32) → (Nat → Int32) → (Nat → Int32) → (Nat → Int32) → (Nat → Int32) → (Nat → Int32) → (Nat → Int32) → (Nat → Int64) → (Nat → Int32) → (Nat → Int32) → (Nat → Int32) → (Nat → Int32) → Prop} {x f g c a i P : Nat} (hx : x < 64) (hP : P ≤ 48) (h1 : 0 < P) (eP : f_patterns = nI P)
    (hf : ∀ p, 0 < p → p < P → ∃ d, d < 64 ∧ a_patternFirst p = nI d) (hg : ∀ p, 0 < p → p < P → ∃ d, d < 64 ∧ a_patternSecond p = nI d)
    (f64 : f < 64) (ef : a_first x = nI f) (fx : f ≠ x) (g64 : g < 64) (gx : g ≠ x) (hc : c < 64) (ha : a ≤ c)
    (K : ∀ sz' ft', (∀ z, z ≠ x → sz' z = a_size z) → (∀ z, z ≠ x → ft' z = a_fitting z) → bu_WO P a_patternSymbol a_patternFirst a_patternSecond a_symbol a_first (upd a_second x (nI g)) sz' ft' x → J (nI (c - a + 1)) (nI i + (-1)) f_written f_height f_rules f_patterns f_root f_lined a_post a_begin a_leftSize a_left a_rightSize a_right a_patternSymbol a_patternFirst a_patternSecond a_top a_used a_symbol a_first (upd a_second x (nI g)) (upd (upd (upd a_above x 0) f (nI x)) g (nI x)) sz' ft' a_line a_order (upd a_pile (c - a) (nI x)) a_bound) :
    wX_grow_89 post J (nI c) (nI i) (nI a) (nI x) (nI g) (nI x) f_written f_height f_rules f_patterns f_root f_lined a_post a_begin a_leftSize a_left a_rightSize a_right a_patternSymbol a_patternFirst a_patternSecond a_top a_used a_symbol a_first a_second a_above a_size a_fitting a_line a_order a_pile a_bound := by
  have ex : (nI x).toNatClampNeg = x := bu_cl hx
  have ix : vp_in (nI x) 64 := pk_in x 64 hx
  refine And.intro ix (nm_r (e' := upd a_second x (nI g)) (by rw [ex]) ?_)
  refine And.intro ix (nm_r (e' := upd a_above x 0) (by rw [ex]) ?_)
  refine And.intro ix (And.intro (by rw [ex, ef]; exact pk_in f 64 f64) (nm_r (e' := upd (upd a_above x 0) f (nI x)) (by rw [ex, ef, bu_cl f64]) ?_))
  refine And.intro ix (And.intro (by rw [ex, pk_us]; exact pk_in g 64 g64) (nm_r (e' := upd (upd (upd a_above x 0) f (nI x)) g (nI x)) (by rw [ex, pk_us, bu_cl g64]) ?_))
  refine xq_wo (a := f) (b := g) hx hP h1 eP f64 ef fx g64 pk_us gx hf hg ?_
  intro sz' ft' z1 z2 z3
  refine nm_r (pk_sub ha) ⟨pk_in (c - a) 64 (by omega), nm_r (e' := upd a_pile (c - a) (nI x)) (by rw [bu_cl (by omega)]) (nm_r (nI_1 (c - a)) (nm_e ?_))⟩
  exact K sz' ft' z1 z2 z3
theorem xq_gr65 {post : Int32 → SX → Prop} {J : Int32 → Int32 → Int32 → Int32 → Int32 → Int32 → Int32 → Int32 → (Nat → Int32) → (Nat → Int32) → (Nat → Int32) → (Nat → Int32) → (Nat → Int32) → (Nat → Int32) → (Nat → Int32) → (Nat → Int32) → (Nat → Int32) → (Nat → Int32) → (Nat → Int32) → (Nat → Int32) → (Nat → Int32) → (Nat → Int32) → (Nat → Int32) → (Nat → Int32) → (Nat → Int64) → (Nat → Int32) → (Nat → Int32) → (Nat → Int32) → (Nat → Int32) → Prop} {x f g c a i P : Nat} (hx : x < 64) (hP : P ≤ 48) (h1 : 0 < P) (eP : f_patterns = nI P)
    (hf : ∀ p, 0 < p → p < P → ∃ d, d < 64 ∧ a_patternFirst p = nI d) (hg : ∀ p, 0 < p → p < P → ∃ d, d < 64 ∧ a_patternSecond p = nI d)
    (f64 : f < 64) (fx : f ≠ x) (g64 : g < 64) (gx : g ≠ x) (hc : c < 64) (ha : a ≤ c) (eg0 : a ≤ 1 → g = 0) (eg1 : 1 < a → a_pile (c - 2) = nI g)
    (K : ∀ sz' ft', (∀ z, z ≠ x → sz' z = a_size z) → (∀ z, z ≠ x → ft' z = a_fitting z) → bu_WO P a_patternSymbol a_patternFirst a_patternSecond a_symbol (upd a_first x (nI f)) (upd a_second x (nI g)) sz' ft' x → J (nI (c - a + 1)) (nI i + (-1)) f_written f_height f_rules f_patterns f_root f_lined a_post a_begin a_leftSize a_left a_rightSize a_right a_patternSymbol a_patternFirst a_patternSecond a_top a_used a_symbol (upd a_first x (nI f)) (upd a_second x (nI g)) (upd (upd (upd a_above x 0) f (nI x)) g (nI x)) sz' ft' a_line a_order (upd a_pile (c - a) (nI x)) a_bound) :
    wX_grow_65 post J (nI c) (nI i) (nI a) (nI x) (nI f) (nI x) f_written f_height f_rules f_patterns f_root f_lined a_post a_begin a_leftSize a_left a_rightSize a_right a_patternSymbol a_patternFirst a_patternSecond a_top a_used a_symbol a_first a_second a_above a_size a_fitting a_line a_order a_pile a_bound := by
  have ex : (nI x).toNatClampNeg = x := bu_cl hx
  have ix : vp_in (nI x) 64 := pk_in x 64 hx
  refine And.intro ix (nm_r (e' := upd a_first x (nI f)) (by rw [ex]) ?_)
  by_cases a1 : a ≤ 1
  · have e0 := eg0 a1
    subst e0
    exact br_t (nI_le (b := 1) a1 (by decide)) (xq_gr89 hx hP h1 eP hf hg f64 pk_us fx g64 gx hc ha K)
  · refine br_f (nI_ge (a := 1) (by omega) (by omega)) ?_
    rw [show (nI c - 2 : Int32) = nI (c - 2) from pk_sub (b := 2) (by omega), bu_cl (n := c - 2) (by omega), eg1 (by omega)]
    exact ⟨pk_in (c - 2) 64 (by omega), xq_gr89 hx hP h1 eP hf hg f64 pk_us fx g64 gx hc ha K⟩
theorem xq_gr9 {post : Int32 → SX → Prop} {L P : Nat} (hL : L ≤ 31) (hF : bu_FO a_line L 1 0) (hP : P ≤ 48) (h1 : 0 < P) (eP : f_patterns = nI P)
    (hf : ∀ p, 0 < p → p < P → ∃ d, d < 64 ∧ a_patternFirst p = nI d) (hg : ∀ p, 0 < p → p < P → ∃ d, d < 64 ∧ a_patternSecond p = nI d)
    (UL : List Nat) (hUL : UL.length ≤ 31) (hU : ∀ x, 0 < x → x < 64 → a_used x ≠ 0 → x ∈ UL)
    (K : ∀ o us sy fi se ab sz ft pl, bu_GI P a_patternSymbol a_patternFirst a_patternSecond a_used a_symbol a_first a_second a_above a_size a_fitting a_line L 0 o us sy fi se ab sz ft → post (nI (o 0)) (f_written, f_height, f_rules, f_patterns, f_root, f_lined, a_post, a_begin, a_leftSize, a_left, a_rightSize, a_right, a_patternSymbol, a_patternFirst, a_patternSecond, a_top, us, sy, fi, se, upd ab 0 0, sz, ft, a_line, a_order, pl, a_bound)) :
    ∀ (i c nn : Nat) (o : Nat → Nat) (us sy fi se ab sz : Nat → Int32) (ft : Nat → Int64) (pl : Nat → Int32), i ≤ L → bu_FO a_line L c i → bu_GI P a_patternSymbol a_patternFirst a_patternSecond a_used a_symbol a_first a_second a_above a_size a_fitting a_line L i o us sy fi se ab sz ft → (∀ k, k < c → pl (c - 1 - k) = nI (o (bu_fe a_line L k i))) → i < nn →
    wX_grow_9 post nn (nI c) (nI i + (-1)) f_written f_height f_rules f_patterns f_root f_lined a_post a_begin a_leftSize a_left a_rightSize a_right a_patternSymbol a_patternFirst a_patternSecond a_top us sy fi se ab sz ft a_line a_order pl a_bound := by
  intro i
  induction i with
  | zero =>
    intro c nn o us sy fi se ab sz ft pl hi hc H hp hnn
    obtain ⟨m, rfl⟩ : ∃ m, nn = m + 1 := ⟨nn - 1, by omega⟩
    have e : c = 1 := FO_uq hc hF
    have hp0 : pl 0 = nI (o 0) := by
      have := hp 0 (by omega)
      rw [fe_0, e] at this
      exact this
    refine br_t (show nI 0 + (-1) < 0 by decide) (nm_e ?_)
    rw [hp0]
    exact K o us sy fi se ab sz ft pl H
  | succ i ih =>
    intro c nn o us sy fi se ab sz ft pl hi hc H hp hnn
    obtain ⟨m, rfl⟩ : ∃ m, nn = m + 1 := ⟨nn - 1, by omega⟩
    have hiL : i < L := by omega
    obtain ⟨c', hc'⟩ := FO_ex hF i (by omega)
    have hs' := FO_s hiL hc'
    have ec : c' - 1 + bu_ar (a_line i) = c := FO_uq hs'.2 hc
    have hlen := FO_len hc
    have hA2 := bu_ar_le (a_line i)
    have ei : (nI i).toNatClampNeg = i := bu_cl (by omega)
    have hgo : ∀ x, 0 < x → x < 64 → us x = 0 → ∀ sz' ft', (∀ z, z ≠ x → sz' z = sz z) → (∀ z, z ≠ x → ft' z = ft z) → bu_WO P a_patternSymbol a_patternFirst a_patternSecond (upd sy x (a_line i)) (upd fi x (nI (if 0 < bu_ar (a_line i) then o (i + 1) else 0))) (upd se x (nI (if 1 < bu_ar (a_line i) then o (bu_fe a_line L 1 (i + 1)) else 0))) sz' ft' x → wX_grow_9 post m (nI (c - bu_ar (a_line i) + 1)) (nI i + (-1)) f_written f_height f_rules f_patterns f_root f_lined a_post a_begin a_leftSize a_left a_rightSize a_right a_patternSymbol a_patternFirst a_patternSecond a_top (upd us x 1) (upd sy x (a_line i)) (upd fi x (nI (if 0 < bu_ar (a_line i) then o (i + 1) else 0))) (upd se x (nI (if 1 < bu_ar (a_line i) then o (bu_fe a_line L 1 (i + 1)) else 0))) (upd (upd (upd ab x 0) (if 0 < bu_ar (a_line i) then o (i + 1) else 0) (nI x)) (if 1 < bu_ar (a_line i) then o (bu_fe a_line L 1 (i + 1)) else 0) (nI x)) sz' ft' a_line a_order (upd pl (c - bu_ar (a_line i)) (nI x)) a_bound := by
      intro x x0 x64 xu sz' ft' z1 z2 z3
      refine ih (c - bu_ar (a_line i) + 1) m (bu_up o i x) _ _ _ _ _ _ _ _ (by omega) (by rw [show c - bu_ar (a_line i) + 1 = c' from by omega]; exact hc') (GI_s H hc hiL (by omega) x0 x64 xu rfl rfl z1 z2 z3) ?_ (by omega)
      intro k hk
      cases k with
      | zero => rw [fe_0, up_at]; exact pk_us
      | succ k =>
        have h3 := fe_ge a_line L (k + bu_ar (a_line i)) (i + 1)
        have := hp (k + bu_ar (a_line i)) (by omega)
        rw [fe_s k hiL, up_ne (by omega), pk_un (by omega), show c - bu_ar (a_line i) + 1 - 1 - (k + 1) = c - 1 - (k + bu_ar (a_line i)) from by omega]
        exact this
    have hS := H.1
    have hN := H.2.2.1
    have hlt : ∀ j, i + 1 ≤ j → j < L → o j < 64 := fun j j1 j2 => (HS_o hS j1 j2).2
    have hfree : ∃ y, 0 < y ∧ y < 64 ∧ us y = 0 := by
      refine bu_free (UL ++ (List.range L).map (fun j => o j)) ?_ ?_
      · rw [List.length_append, List.length_map, List.length_range]; omega
      · intro y y0 y64 yu
        by_cases q : ∃ j, i + 1 ≤ j ∧ j < L ∧ y = o j
        · obtain ⟨j, j1, j2, j3⟩ := q
          exact List.mem_append.mpr (Or.inr (List.mem_map.mpr ⟨j, List.mem_range.mpr j2, j3.symm⟩))
        · have hr := (H.2.2.2.1 y (fun j j1 j2 e => q ⟨j, j1, j2, e⟩)).1
          exact List.mem_append.mpr (Or.inl (hU y y0 y64 (by rw [← hr]; exact yu)))
    refine br_f (show ¬ nI (i + 1) + (-1) < 0 by rw [pk_m1]; exact nI_pos (by omega)) ?_
    rw [pk_m1, ei]
    refine ⟨pk_in i 32 (by omega), xq_parts (xq_fresh hfree ?_)⟩
    intro x x0 x64 xu
    have xo : ∀ j, i + 1 ≤ j → j < L → o j ≠ x := fun j j1 j2 e => (hN j j1 j2).2.1 (by rw [e]; exact xu)
    have e1ge := fe_ge a_line L 1 (i + 1)
    have hG : ∀ G : Nat, G = (if 1 < bu_ar (a_line i) then o (bu_fe a_line L 1 (i + 1)) else 0) → G < 64 ∧ G ≠ x ∧ (bu_ar (a_line i) ≤ 1 → G = 0) ∧ (1 < bu_ar (a_line i) → pl (c - 2) = nI G) := by
      intro G hG
      by_cases q : 1 < bu_ar (a_line i)
      · rw [if_pos q] at hG
        have h5 : bu_fe a_line L 1 (i + 1) < L := FO_lt (c := c - 1) (by omega) (FO_fe 1 (c - 1) (by rw [show 1 + (c - 1) = c from by omega]; exact hc))
        refine ⟨by rw [hG]; exact hlt _ (by omega) h5, by rw [hG]; exact xo _ (by omega) h5, fun z => absurd z (by omega), fun _ => ?_⟩
        have := hp 1 (by omega)
        rw [hG, ← this, show c - 1 - 1 = c - 2 from by omega]
      · rw [if_neg q] at hG
        exact ⟨by omega, by omega, fun _ => hG, fun z => absurd z q⟩
    obtain ⟨g64, gx, g0, g1⟩ := hG _ rfl
    refine ⟨pk_in i 32 (by omega), pk_in x 64 x64, nm_r (e' := upd sy x (a_line i)) (by rw [bu_cl x64]) ?_⟩
    by_cases q : 0 < bu_ar (a_line i)
    · have h5 : i + 1 < L := FO_lt (by omega) hc
      refine br_f (nI_nle q (by omega)) ?_
      have hpp : pl (c - 1) = nI (if 0 < bu_ar (a_line i) then o (i + 1) else 0) := by
        have := hp 0 (by omega)
        rw [if_pos q, ← fe_0 a_line L (i + 1)]
        exact this
      rw [show (nI c - 1 : Int32) = nI (c - 1) from pk_sub (b := 1) (by omega), bu_cl (n := c - 1) (by omega), hpp]
      refine ⟨pk_in (c - 1) 64 (by omega), xq_gr65 x64 hP h1 eP hf hg ?_ ?_ g64 gx (by omega) (by omega) g0 g1 (hgo x x0 x64 xu)⟩
      · rw [if_pos q]; exact hlt _ (by omega) h5
      · rw [if_pos q]; exact xo _ (by omega) h5
    · refine br_t (nI_le (b := 0) (by omega) (by decide)) ?_
      have hgo' := hgo x x0 x64 xu
      rw [if_neg q] at hgo'
      exact xq_gr65 (f := 0) x64 hP h1 eP hf hg (by decide) (by omega) g64 gx (by omega) (by omega) g0 g1 hgo'
/-- grow: the line, L symbols, becomes a tree of new nodes -/
theorem xq_grow {post : Int32 → SX → Prop} {L P : Nat} (hL : L ≤ 31) (hl : f_lined = nI L) (hF : bu_FO a_line L 1 0) (hP : P ≤ 48) (h1 : 0 < P) (eP : f_patterns = nI P)
    (hf : ∀ p, 0 < p → p < P → ∃ d, d < 64 ∧ a_patternFirst p = nI d) (hg : ∀ p, 0 < p → p < P → ∃ d, d < 64 ∧ a_patternSecond p = nI d)
    (UL : List Nat) (hUL : UL.length ≤ 31) (hU : ∀ x, 0 < x → x < 64 → a_used x ≠ 0 → x ∈ UL)
    (K : ∀ o us sy fi se ab sz ft pl, bu_GI P a_patternSymbol a_patternFirst a_patternSecond a_used a_symbol a_first a_second a_above a_size a_fitting a_line L 0 o us sy fi se ab sz ft → post (nI (o 0)) (f_written, f_height, f_rules, f_patterns, f_root, f_lined, a_post, a_begin, a_leftSize, a_left, a_rightSize, a_right, a_patternSymbol, a_patternFirst, a_patternSecond, a_top, us, sy, fi, se, upd ab 0 0, sz, ft, a_line, a_order, pl, a_bound)) :
    wpX_grow post (f_written, f_height, f_rules, f_patterns, f_root, f_lined, a_post, a_begin, a_leftSize, a_left, a_rightSize, a_right, a_patternSymbol, a_patternFirst, a_patternSecond, a_top, a_used, a_symbol, a_first, a_second, a_above, a_size, a_fitting, a_line, a_order, a_pile, a_bound) := by
  refine nm_r (e' := nI L + (-1)) (by rw [hl, Int32.sub_eq_add_neg]) (Exists.intro (L + 1) ?_)
  refine xq_gr9 hL hF hP h1 eP hf hg UL hUL hU K L 0 (L + 1) (fun _ => 0) _ _ _ _ _ _ _ _ (Nat.le_refl _) ?_ (GI_0 _) (fun k hk => absurd hk (by omega)) (by omega)
  unfold bu_FO
  rw [Nat.sub_self]
  exact bu_Fo_nil.mpr rfl
end XG
end
section
/-! X: lineUp -/
section XU
variable {f_written f_height f_rules f_patterns f_root f_lined : Int32} {a_post a_begin a_leftSize a_left a_rightSize a_right a_patternSymbol a_patternFirst a_patternSecond a_top a_used a_symbol a_first a_second a_above a_size a_line a_order a_pile a_bound : Nat → Int32} {a_fitting : Nat → Int64}
theorem xq_lu60 {post : SX → Prop} {J : Int32 → Int32 → Int32 → (Nat → Int32) → (Nat → Int32) → (Nat → Int32) → (Nat → Int32) → (Nat → Int32) → (Nat → Int32) → (Nat → Int32) → (Nat → Int32) → (Nat → Int32) → (Nat → Int32) → (Nat → Int32) → (Nat → Int32) → (Nat → Int32) → (Nat → Int32) → (Nat → Int32) → (Nat → Int32) → (Nat → Int64) → (Nat → Int32) → (Nat → Int32) → (Nat → Int32) → (Nat → Int32) → Prop} {x2 : Int32} {tm i st ld : Nat} (htm : tm < 64) (hi : i < 31) (el : f_lined = nI ld) :
    ∀ (d nn : Nat) (line : Nat → Int32), st + d ≤ 31 → d < nn → J (nI (tm + 1)) (nI (i + 1)) (nI (ld + 1)) a_post a_begin a_leftSize a_left a_rightSize a_right a_patternSymbol a_patternFirst a_patternSecond a_top a_used a_symbol a_first a_second a_above a_size a_fitting (bu_pu line st (st + d) (a_post i)) a_order (upd a_pile tm (nI st)) a_bound →
    wX_lineUp_60 post J x2 (nI tm) (nI i) (nI st) f_written f_height f_rules f_patterns f_root f_lined nn (nI (st + d)) a_post a_begin a_leftSize a_left a_rightSize a_right a_patternSymbol a_patternFirst a_patternSecond a_top a_used a_symbol a_first a_second a_above a_size a_fitting line a_order a_pile a_bound := by
  intro d
  induction d with
  | zero =>
    intro nn line hd hn K
    obtain ⟨m, rfl⟩ : ∃ m, nn = m + 1 := ⟨nn - 1, by omega⟩
    have e : upd line st (a_post i) = bu_pu line st (st + 0) (a_post i) := by
      unfold bu_pu
      rw [Nat.add_zero, sh_0]
    refine br_t (nI_le (by omega) (by omega)) ⟨pk_in i 31 hi, pk_in st 32 (by omega), nm_r (e' := bu_pu line st (st + 0) (a_post i)) (by rw [nI_clamp (by omega), nI_clamp (by omega), e]) (nm_r (e' := nI (ld + 1)) (by rw [el, nI_1]) ⟨pk_in tm 64 htm, nm_r (e' := upd a_pile tm (nI st)) (by rw [bu_cl htm]) (nm_r (nI_1 tm) (nm_r (nI_1 i) K))⟩)⟩
  | succ d ih =>
    intro nn line hd hn K
    obtain ⟨m, rfl⟩ : ∃ m, nn = m + 1 := ⟨nn - 1, by omega⟩
    have e1 : nI (st + (d + 1)) - 1 = nI (st + d) := nI_pred (st + d)
    refine br_f (nI_ge (by omega) (by omega)) ⟨by rw [e1]; exact pk_in (st + d) 32 (by omega), pk_in (st + (d + 1)) 32 (by omega), nm_r (e' := upd line (st + d + 1) (line (st + d))) (by rw [e1, nI_clamp (by omega), nI_clamp (by omega)]; rfl) (nm_r (e' := nI (st + d)) (pk_m1 (st + d)) (ih m _ (by omega) (by omega) ?_))⟩
    have e2 : bu_pu (upd line (st + d + 1) (line (st + d))) st (st + d) (a_post i) = bu_pu line st (st + (d + 1)) (a_post i) := by
      unfold bu_pu
      rw [sh_s line (by omega)]
      rfl
    rw [e2]
    exact K
theorem xq_lu10 {post : SX → Prop} {to : Nat} {L : List Int32} (ht : to ≤ 31) (K : ∀ line pile, bu_sg line 0 L.length = L → post (f_written, f_height, f_rules, f_patterns, f_root, nI L.length, a_post, a_begin, a_leftSize, a_left, a_rightSize, a_right, a_patternSymbol, a_patternFirst, a_patternSecond, a_top, a_used, a_symbol, a_first, a_second, a_above, a_size, a_fitting, line, a_order, pile, a_bound)) :
    ∀ (d i nn : Nat) (R : List (List Int32)) (line pile : Nat → Int32), i + d = to → d < nn → bu_LI line pile R → R.flatten.length + d ≤ 31 → R.length + d ≤ 31 → bu_RP (bu_sg a_post i d) R [L] →
    wX_lineUp_10 post (nI to) f_written f_height f_rules f_patterns f_root nn (nI R.length) (nI i) (nI R.flatten.length) a_post a_begin a_leftSize a_left a_rightSize a_right a_patternSymbol a_patternFirst a_patternSecond a_top a_used a_symbol a_first a_second a_above a_size a_fitting line a_order pile a_bound := by
  intro d
  induction d with
  | zero =>
    intro i nn R line pile hd hn hL h1 h2 hR
    obtain ⟨m, rfl⟩ : ∃ m, nn = m + 1 := ⟨nn - 1, by omega⟩
    have e := RP_nil.mp hR
    subst e
    have e2 : [L].flatten.length = L.length := by rw [List.flatten_cons, List.flatten_nil, List.append_nil]
    rw [e2]
    exact br_t (nI_le (by omega) (by omega)) (K line pile (LI_cons.mp hL).2.1)
  | succ d ih =>
    intro i nn R line pile hd hn hL h1 h2 hR
    obtain ⟨m, rfl⟩ : ∃ m, nn = m + 1 := ⟨nn - 1, by omega⟩
    have ei : (nI i).toNatClampNeg = i := bu_cl (by omega)
    refine br_f (nI_ge (by omega) (by omega)) ⟨pk_in i 31 (by omega), ?_⟩
    rw [ei]
    refine xq_parts ?_
    rw [bu_sg_s] at hR
    rcases RP_cons.mp hR with ⟨a, h⟩ | ⟨a, M, R0, e, h⟩ | ⟨a, M2, M1, R0, e, h⟩
    · rw [a]
      refine nm_r (e' := nI R.length) (pk_sub (b := 0) (Nat.zero_le _)) (br_t (by decide) (Exists.intro 1 ?_))
      refine xq_lu60 (st := R.flatten.length) (by omega) (by omega) rfl 0 1 line (by omega) (by omega) ?_
      have := ih (i + 1) m ([a_post i] :: R) _ _ (by omega) (by omega) (LI_put (M := []) hL rfl) (by rw [List.flatten_cons, List.length_append, List.length_cons, List.length_nil]; omega) (by rw [List.length_cons]; omega) h
      rw [show ([a_post i] :: R).flatten.length = R.flatten.length + 1 from by rw [List.flatten_cons, List.length_append, List.length_cons, List.length_nil]; omega] at this
      exact this
    · rw [a]
      subst e
      obtain ⟨p1, p2, p3⟩ := LI_cons.mp hL
      have e2 : (M :: R0).flatten.length = R0.flatten.length + M.length := by rw [List.flatten_cons, List.length_append]; omega
      rw [List.length_cons] at h2
      rw [e2] at h1 ⊢
      refine nm_r (e' := nI R0.length) (nI_pred R0.length) (br_f (by decide) ⟨pk_in R0.length 64 (by omega), nm_r (e' := nI R0.flatten.length) (by rw [bu_cl (by omega)]; exact p1) (Exists.intro (M.length + 1) ?_)⟩)
      refine xq_lu60 (st := R0.flatten.length) (by omega) (by omega) rfl M.length (M.length + 1) line (by omega) (by omega) ?_
      have := ih (i + 1) m ((a_post i :: M) :: R0) _ _ (by omega) (by omega) (LI_put (M := M) p3 p2) (by rw [List.flatten_cons, List.length_append, List.length_cons]; omega) (by rw [List.length_cons]; omega) h
      rw [show ((a_post i :: M) :: R0).flatten.length = R0.flatten.length + M.length + 1 from by rw [List.flatten_cons, List.length_append, List.length_cons]; omega] at this
      exact this
    · rw [a]
      subst e
      have p2 := LI_two hL
      obtain ⟨_, _, p3⟩ := LI_cons.mp hL
      obtain ⟨p1, _, p4⟩ := LI_cons.mp p3
      have e2 : (M2 :: M1 :: R0).flatten.length = R0.flatten.length + (M1 ++ M2).length := by rw [List.flatten_cons, List.flatten_cons, List.length_append, List.length_append, List.length_append]; omega
      rw [List.length_cons, List.length_cons] at h2
      rw [e2] at h1 ⊢
      refine nm_r (e' := nI R0.length) (pk_sub (a := R0.length + 2) (b := 2) (by omega)) (br_f (by decide) ⟨pk_in R0.length 64 (by omega), nm_r (e' := nI R0.flatten.length) (by rw [bu_cl (by omega)]; exact p1) (Exists.intro ((M1 ++ M2).length + 1) ?_)⟩)
      refine xq_lu60 (st := R0.flatten.length) (by omega) (by omega) rfl (M1 ++ M2).length ((M1 ++ M2).length + 1) line (by omega) (by omega) ?_
      have := ih (i + 1) m ((a_post i :: (M1 ++ M2)) :: R0) _ _ (by omega) (by omega) (LI_put (M := M1 ++ M2) p4 p2) (by rw [List.flatten_cons, List.length_append, List.length_cons]; omega) (by rw [List.length_cons]; omega) h
      rw [show ((a_post i :: (M1 ++ M2)) :: R0).flatten.length = R0.flatten.length + (M1 ++ M2).length + 1 from by rw [List.flatten_cons, List.length_append, List.length_cons]; omega] at this
      exact this
/-- lineUp of a row of the stack that is the term L -/
theorem xq_lu {post : SX → Prop} {from_ k : Nat} {L : List Int32} (hk : from_ + k ≤ 31) (hR : bu_PT (bu_sg a_post from_ k) L) (K : ∀ line pile, bu_sg line 0 L.length = L → post (f_written, f_height, f_rules, f_patterns, f_root, nI L.length, a_post, a_begin, a_leftSize, a_left, a_rightSize, a_right, a_patternSymbol, a_patternFirst, a_patternSecond, a_top, a_used, a_symbol, a_first, a_second, a_above, a_size, a_fitting, line, a_order, pile, a_bound)) : wpX_lineUp post (f_written, f_height, f_rules, f_patterns, f_root, f_lined, a_post, a_begin, a_leftSize, a_left, a_rightSize, a_right, a_patternSymbol, a_patternFirst, a_patternSecond, a_top, a_used, a_symbol, a_first, a_second, a_above, a_size, a_fitting, a_line, a_order, a_pile, a_bound) (nI from_) (nI (from_ + k)) := by
  refine Exists.intro (k + 1) ?_
  exact xq_lu10 hk K k from_ (k + 1) [] _ _ rfl (by omega) trivial (by rw [List.flatten_nil, List.length_nil]; omega) (by rw [List.length_nil]; omega) hR
end XU
end
section
/-! variables of a row of symbols, as a set of bits -/
/-- all symbols are 0 .. 9 -/
def bu_rg (L : List Int32) : Prop := ∀ s, s ∈ L → ∃ k : Nat, k ≤ 9 ∧ s = nI k
theorem rg_cons {s : Int32} {L : List Int32} (h : bu_rg (s :: L)) : (s < 7 ∨ ∃ v, v < 3 ∧ s = nI (7 + v)) ∧ bu_rg L := by
  refine ⟨?_, fun t ht => h t (List.mem_cons_of_mem _ ht)⟩
  obtain ⟨k, hk, e⟩ := h s List.mem_cons_self
  by_cases g : k < 7
  · exact Or.inl (by rw [e]; exact nI_lt (b := 7) g (by decide))
  · exact Or.inr ⟨k - 7, by omega, by rw [e, show 7 + (k - 7) = k from by omega]⟩
theorem bu_v7 {v : Nat} (h : v < 3) : ¬ nI (7 + v) < 7 := nI_nlt (b := 7) (by omega) (by omega)
theorem bu_vi {v : Nat} (h : v < 3) : nI (7 + v) - 7 = nI v := by
  have := pk_sub (a := 7 + v) (b := 7) (by omega)
  rw [Nat.add_sub_cancel_left] at this
  exact this
theorem bu_m_or : ∀ m, m < 8 → ∀ v, v < 3 → nI m ||| ((1 : Int32) <<< (nI v &&& 31)) = nI (m ||| 2 ^ v) ∧ m ||| 2 ^ v < 8 := by decide +kernel
theorem bu_m_and : ∀ m, m < 8 → ∀ v, v < 3 → (nI m &&& ((1 : Int32) <<< (nI v &&& 31)) = 0 ↔ m.testBit v = false) := by decide +kernel
theorem bu_m_sub : ∀ a, a < 8 → ∀ b, b < 8 → (nI a &&& (nI b ^^^ (-1)) = 0 ↔ ∀ v, v < 3 → a.testBit v = true → b.testBit v = true) := by decide +kernel
theorem bu_m_0 : ∀ a, a < 8 → (nI a = 0 ↔ ∀ v, v < 3 → a.testBit v = false) := by decide +kernel
theorem bu_m_bit (m v w : Nat) : (m ||| 2 ^ v).testBit w = (m.testBit w || decide (v = w)) := by
  rw [Nat.testBit_or, Nat.testBit_two_pow]
theorem bu_7inj {v w : Nat} (hv : v < 3) (hw : w < 3) (h : nI (7 + v) = nI (7 + w)) : v = w := by
  have := (nI_eq (by omega) (by omega)).mp h
  omega
def bu_vo : Nat → List Int32 → Nat
  | m, [] => m
  | m, s :: L => if s < 7 then bu_vo m L else bu_vo (m ||| 2 ^ (s - 7).toNatClampNeg) L
theorem vo_nil (m : Nat) : bu_vo m [] = m := rfl
theorem vo_lo {m : Nat} {s : Int32} {L : List Int32} (h : s < 7) : bu_vo m (s :: L) = bu_vo m L := if_pos h
theorem vo_hi {m v : Nat} {L : List Int32} (h : v < 3) : bu_vo m (nI (7 + v) :: L) = bu_vo (m ||| 2 ^ v) L := by
  show (if nI (7 + v) < 7 then bu_vo m L else bu_vo (m ||| 2 ^ (nI (7 + v) - 7).toNatClampNeg) L) = _
  rw [if_neg (bu_v7 h), bu_vi h, bu_cl (by omega)]
theorem vo_bit : ∀ (L : List Int32) (m : Nat), bu_rg L → ∀ w, w < 3 → ((bu_vo m L).testBit w = true ↔ m.testBit w = true ∨ nI (7 + w) ∈ L) := by
  intro L
  induction L with
  | nil =>
    intro m _ w _
    rw [vo_nil]
    exact ⟨Or.inl, fun h => h.elim id (fun z => by simp at z)⟩
  | cons s L ih =>
    intro m hr w hw
    obtain ⟨hs, hr'⟩ := rg_cons hr
    rw [List.mem_cons]
    rcases hs with hs | ⟨v, hv, rfl⟩
    · rw [vo_lo hs, ih m hr' w hw]
      have : nI (7 + w) ≠ s := fun e => bu_v7 hw (by rw [e]; exact hs)
      constructor
      · intro h
        rcases h with h | h
        · exact Or.inl h
        · exact Or.inr (Or.inr h)
      · intro h
        rcases h with h | h | h
        · exact Or.inl h
        · exact absurd h this
        · exact Or.inr h
    · rw [vo_hi hv, ih _ hr' w hw, bu_m_bit, Bool.or_eq_true, decide_eq_true_eq]
      constructor
      · intro h
        rcases h with (h | h) | h
        · exact Or.inl h
        · exact Or.inr (Or.inl (by rw [h]))
        · exact Or.inr (Or.inr h)
      · intro h
        rcases h with h | h | h
        · exact Or.inl (Or.inl h)
        · exact Or.inl (Or.inr (bu_7inj hv hw h.symm))
        · exact Or.inr h
theorem vo_lt : ∀ (L : List Int32) (m : Nat), bu_rg L → m < 8 → bu_vo m L < 8 := by
  intro L
  induction L with
  | nil => intro m _ hm; exact hm
  | cons s L ih =>
    intro m hr hm
    obtain ⟨hs, hr'⟩ := rg_cons hr
    rcases hs with hs | ⟨v, hv, rfl⟩
    · rw [vo_lo hs]; exact ih m hr' hm
    · rw [vo_hi hv]; exact ih _ hr' (bu_m_or m hm v hv).2
def bu_rt : Nat → List Int32 → Bool
  | _, [] => false
  | m, s :: L => if s < 7 then bu_rt m L else if m.testBit (s - 7).toNatClampNeg = true then true else bu_rt (m ||| 2 ^ (s - 7).toNatClampNeg) L
theorem rt_lo {m : Nat} {s : Int32} {L : List Int32} (h : s < 7) : bu_rt m (s :: L) = bu_rt m L := if_pos h
theorem rt_hi {m v : Nat} {L : List Int32} (h : v < 3) : bu_rt m (nI (7 + v) :: L) = if m.testBit v = true then true else bu_rt (m ||| 2 ^ v) L := by
  show (if nI (7 + v) < 7 then bu_rt m L else if m.testBit (nI (7 + v) - 7).toNatClampNeg = true then true else bu_rt (m ||| 2 ^ (nI (7 + v) - 7).toNatClampNeg) L) = _
  rw [if_neg (bu_v7 h), bu_vi h, bu_cl (by omega)]
theorem rt_cnt : ∀ (L : List Int32) (m : Nat), bu_rg L → (bu_rt m L = true ↔ ∃ v, v < 3 ∧ 1 < (if m.testBit v = true then 1 else 0) + L.count (nI (7 + v))) := by
  intro L
  induction L with
  | nil =>
    intro m _
    refine ⟨fun h => absurd (show false = true from h) (by decide), fun ⟨v, hv, h⟩ => ?_⟩
    rw [List.count_nil] at h
    split at h <;> omega
  | cons s L ih =>
    intro m hr
    obtain ⟨hs, hr'⟩ := rg_cons hr
    rcases hs with hs | ⟨v, hv, rfl⟩
    · rw [rt_lo hs, ih m hr']
      constructor
      · intro ⟨v, hv, h⟩
        exact ⟨v, hv, by rw [List.count_cons]; omega⟩
      · intro ⟨v, hv, h⟩
        refine ⟨v, hv, ?_⟩
        rw [List.count_cons_of_ne (fun e => bu_v7 hv (by rw [← e]; exact hs))] at h
        exact h
    · rw [rt_hi hv]
      by_cases g : m.testBit v = true
      · rw [if_pos g]
        refine ⟨fun _ => ⟨v, hv, ?_⟩, fun _ => rfl⟩
        rw [if_pos g, List.count_cons_self]
        omega
      · rw [if_neg g, ih _ hr']
        constructor
        · intro ⟨w, hw, h⟩
          refine ⟨w, hw, ?_⟩
          rw [bu_m_bit] at h
          by_cases e : v = w
          · subst e
            rw [decide_eq_true rfl, Bool.or_true, if_pos rfl] at h
            rw [List.count_cons_self]
            omega
          · rw [decide_eq_false e, Bool.or_false] at h
            rw [List.count_cons]
            omega
        · intro ⟨w, hw, h⟩
          refine ⟨w, hw, ?_⟩
          rw [bu_m_bit]
          by_cases e : v = w
          · subst e
            rw [decide_eq_true rfl, Bool.or_true, if_pos rfl]
            rw [List.count_cons_self, if_neg g] at h
            omega
          · rw [decide_eq_false e, Bool.or_false]
            rw [List.count_cons_of_ne (fun z => e (bu_7inj hv hw z))] at h
            exact h
section XV
variable {f_written f_height f_rules f_patterns f_root f_lined : Int32} {a_post a_begin a_leftSize a_left a_rightSize a_right a_patternSymbol a_patternFirst a_patternSecond a_top a_used a_symbol a_first a_second a_above a_size a_line a_order a_pile a_bound : Nat → Int32} {a_fitting : Nat → Int64}
theorem xq_vo5 {post : Int32 → Prop} {to : Nat} (ht : to ≤ 31) : ∀ (d i nn m : Nat), i + d = to → d < nn → m < 8 → bu_rg (bu_sg a_post i d) → post (nI (bu_vo m (bu_sg a_post i d))) → wX_variablesOf_5 post (nI to) f_written f_height f_rules f_patterns f_root f_lined a_post a_begin a_leftSize a_left a_rightSize a_right a_patternSymbol a_patternFirst a_patternSecond a_top a_used a_symbol a_first a_second a_above a_size a_fitting a_line a_order a_pile a_bound nn (nI m) (nI i) := by
  intro d
  induction d with
  | zero =>
    intro i nn m hd hn hm hr K
    obtain ⟨q, rfl⟩ : ∃ q, nn = q + 1 := ⟨nn - 1, by omega⟩
    exact br_t (nI_le (by omega) (by omega)) K
  | succ d ih =>
    intro i nn m hd hn hm hr K
    obtain ⟨q, rfl⟩ : ∃ q, nn = q + 1 := ⟨nn - 1, by omega⟩
    have ei : (nI i).toNatClampNeg = i := bu_cl (by omega)
    rw [bu_sg_s] at hr K
    obtain ⟨hs, hr'⟩ := rg_cons hr
    refine br_f (nI_ge (by omega) (by omega)) ⟨pk_in i 31 (by omega), ?_⟩
    rw [ei]
    rcases hs with hs | ⟨v, hv, e⟩
    · rw [vo_lo hs] at K
      exact br_t hs (nm_r (nI_1 i) (ih (i + 1) q m (by omega) (by omega) hm hr' K))
    · rw [e, vo_hi hv] at K
      rw [e]
      refine br_f (bu_v7 hv) ⟨pk_in i 31 (by omega), nm_r (e' := nI (m ||| 2 ^ v)) (by rw [bu_vi hv]; exact (bu_m_or m hm v hv).1) (nm_r (nI_1 i) (ih (i + 1) q _ (by omega) (by omega) (bu_m_or m hm v hv).2 hr' K))⟩
theorem xq_vo {post : Int32 → Prop} {from_ k : Nat} (hk : from_ + k ≤ 31) (hr : bu_rg (bu_sg a_post from_ k)) (K : post (nI (bu_vo 0 (bu_sg a_post from_ k)))) : wpX_variablesOf post (f_written, f_height, f_rules, f_patterns, f_root, f_lined, a_post, a_begin, a_leftSize, a_left, a_rightSize, a_right, a_patternSymbol, a_patternFirst, a_patternSecond, a_top, a_used, a_symbol, a_first, a_second, a_above, a_size, a_fitting, a_line, a_order, a_pile, a_bound) (nI from_) (nI (from_ + k)) :=
  Exists.intro (k + 1) (xq_vo5 hk k from_ (k + 1) 0 rfl (by omega) (by decide) hr K)
theorem xq_rt5 {post : Int32 → Prop} {to : Nat} (ht : to ≤ 31) : ∀ (d i nn m : Nat), i + d = to → d < nn → m < 8 → bu_rg (bu_sg a_post i d) → post (if bu_rt m (bu_sg a_post i d) = true then 1 else 0) → wX_repeated_5 post (nI to) f_written f_height f_rules f_patterns f_root f_lined a_post a_begin a_leftSize a_left a_rightSize a_right a_patternSymbol a_patternFirst a_patternSecond a_top a_used a_symbol a_first a_second a_above a_size a_fitting a_line a_order a_pile a_bound nn (nI m) (nI i) := by
  intro d
  induction d with
  | zero =>
    intro i nn m hd hn hm hr K
    obtain ⟨q, rfl⟩ : ∃ q, nn = q + 1 := ⟨nn - 1, by omega⟩
    exact br_t (nI_le (by omega) (by omega)) K
  | succ d ih =>
    intro i nn m hd hn hm hr K
    obtain ⟨q, rfl⟩ : ∃ q, nn = q + 1 := ⟨nn - 1, by omega⟩
    have ei : (nI i).toNatClampNeg = i := bu_cl (by omega)
    rw [bu_sg_s] at hr K
    obtain ⟨hs, hr'⟩ := rg_cons hr
    refine br_f (nI_ge (by omega) (by omega)) ⟨pk_in i 31 (by omega), ?_⟩
    rw [ei]
    rcases hs with hs | ⟨v, hv, e⟩
    · rw [rt_lo hs] at K
      refine br_t hs (br_t (Int32.and_zero ..) (nm_r (e' := nI m) (Int32.or_zero ..) (nm_r (nI_1 i) (ih (i + 1) q m (by omega) (by omega) hm hr' K))))
    · rw [e, rt_hi hv] at K
      rw [e]
      refine br_f (bu_v7 hv) ⟨pk_in i 31 (by omega), ?_⟩
      rw [bu_vi hv]
      by_cases g : m.testBit v = true
      · rw [if_pos g] at K
        refine br_f (fun z => ?_) K
        have := (bu_m_and m hm v hv).mp z
        rw [this] at g
        exact absurd g (by decide)
      · rw [if_neg g] at K
        refine br_t ((bu_m_and m hm v hv).mpr (ts_nt g)) (nm_r (e' := nI (m ||| 2 ^ v)) (bu_m_or m hm v hv).1 (nm_r (nI_1 i) (ih (i + 1) q _ (by omega) (by omega) (bu_m_or m hm v hv).2 hr' K)))
theorem xq_rt {post : Int32 → Prop} {from_ k : Nat} (hk : from_ + k ≤ 31) (hr : bu_rg (bu_sg a_post from_ k)) (K : post (if bu_rt 0 (bu_sg a_post from_ k) = true then 1 else 0)) : wpX_repeated post (f_written, f_height, f_rules, f_patterns, f_root, f_lined, a_post, a_begin, a_leftSize, a_left, a_rightSize, a_right, a_patternSymbol, a_patternFirst, a_patternSecond, a_top, a_used, a_symbol, a_first, a_second, a_above, a_size, a_fitting, a_line, a_order, a_pile, a_bound) (nI from_) (nI (from_ + k)) :=
  Exists.intro (k + 1) (xq_rt5 hk k from_ (k + 1) 0 rfl (by omega) (by decide) hr K)
end XV
end
section
/-! X: the patterns of the left terms -/
def bu_PV (P : Nat) (pf pg : Nat → Int32) : Prop := ∀ p, 0 < p → p < P → (∃ d, d < 64 ∧ pf p = nI d) ∧ (∃ d, d < 64 ∧ pg p = nI d)
/-- some patterns more -/
def bu_PX (P : Nat) (ps pf pg : Nat → Int32) (P' : Nat) (ps' pf' pg' : Nat → Int32) : Prop := P ≤ P' ∧ ∀ p, p < P → ps' p = ps p ∧ pf' p = pf p ∧ pg' p = pg p
theorem PX_rf (P : Nat) (ps pf pg : Nat → Int32) : bu_PX P ps pf pg P ps pf pg := ⟨Nat.le_refl _, fun _ _ => ⟨rfl, rfl, rfl⟩⟩
theorem PX_tr {P P' P'' : Nat} {ps pf pg ps' pf' pg' ps'' pf'' pg'' : Nat → Int32} (h : bu_PX P ps pf pg P' ps' pf' pg') (g : bu_PX P' ps' pf' pg' P'' ps'' pf'' pg'') : bu_PX P ps pf pg P'' ps'' pf'' pg'' := by
  refine ⟨Nat.le_trans h.1 g.1, fun p hp => ?_⟩
  obtain ⟨a, b, c⟩ := h.2 p hp
  obtain ⟨a', b', c'⟩ := g.2 p (Nat.lt_of_lt_of_le hp h.1)
  exact ⟨a'.trans a, b'.trans b, c'.trans c⟩
/-- the patterns of the parts of a left term, from part lo on -/
def bu_PL (P : Nat) (ps pf pg : Nat → Int32) (l : Nat → Int32) (lz : Nat) (pt : Nat → Nat) (lo : Nat) : Prop :=
  ∀ j, lo ≤ j → j < lz → pt j < P ∧ (7 ≤ l j → pt j = 0) ∧ (l j < 7 → 0 < pt j ∧ ps (pt j) = l j ∧ (0 < bu_ar (l j) → pf (pt j) = nI (pt (j + 1))) ∧ (1 < bu_ar (l j) → pg (pt j) = nI (pt (bu_fe l lz 1 (j + 1)))))
theorem PL_px {P P' : Nat} {ps pf pg ps' pf' pg' l : Nat → Int32} {lz lo : Nat} {pt : Nat → Nat} (h : bu_PX P ps pf pg P' ps' pf' pg') (g : bu_PL P ps pf pg l lz pt lo) : bu_PL P' ps' pf' pg' l lz pt lo := by
  intro j h1 h2
  obtain ⟨a, b, c⟩ := g j h1 h2
  obtain ⟨x, y, z⟩ := h.2 _ a
  refine ⟨Nat.lt_of_lt_of_le a h.1, b, fun q => ?_⟩
  rw [x, y, z]
  exact c q
/-- pattern q was found or made for the symbol s over the patterns A and B; a variable has pattern 0 -/
def bu_PN (P : Nat) (ps pf pg : Nat → Int32) (P' : Nat) (ps' pf' pg' : Nat → Int32) (s : Int32) (A B q : Nat) : Prop :=
  bu_PX P ps pf pg P' ps' pf' pg' ∧ bu_PV P' pf' pg' ∧ P' ≤ P + 1 ∧ q < P' ∧ (7 ≤ s → q = 0) ∧ (s < 7 → 0 < q ∧ ps' q = s ∧ pf' q = nI A ∧ pg' q = nI B)
section XP
variable {f_written f_height f_rules f_patterns f_root f_lined : Int32} {a_post a_begin a_leftSize a_left a_rightSize a_right a_patternSymbol a_patternFirst a_patternSecond a_top a_used a_symbol a_first a_second a_above a_size a_line a_order a_pile a_bound : Nat → Int32} {a_fitting : Nat → Int64}
theorem xq_pf3 {post : Int32 → SX → Prop} {P : Nat} {s : Int32} {A B : Nat} (hP : P < 48) (h0 : 0 < P) (eP : f_patterns = nI P) (hV : bu_PV P a_patternFirst a_patternSecond) (hA : A < 64) (hB : B < 64) (hs : s < 7)
    (K : ∀ q P' ps' pf' pg', bu_PN P a_patternSymbol a_patternFirst a_patternSecond P' ps' pf' pg' s A B q → post (nI q) (f_written, f_height, f_rules, nI P', f_root, f_lined, a_post, a_begin, a_leftSize, a_left, a_rightSize, a_right, ps', pf', pg', a_top, a_used, a_symbol, a_first, a_second, a_above, a_size, a_fitting, a_line, a_order, a_pile, a_bound)) :
    ∀ (d p nn : Nat), p + d = P → 0 < p → d < nn → wX_patternFor_3 post s (nI A) (nI B) f_written f_height f_rules f_patterns f_root f_lined a_post a_begin a_leftSize a_left a_rightSize a_right a_patternSymbol a_patternFirst a_patternSecond a_top a_used a_symbol a_first a_second a_above a_size a_fitting a_line a_order a_pile a_bound nn (nI p) := by
  have hs7 : ¬ 7 ≤ s := Int32.not_le.mpr hs
  intro d
  induction d with
  | zero =>
    intro p nn hd hp hn
    obtain ⟨m, rfl⟩ : ∃ m, nn = m + 1 := ⟨nn - 1, by omega⟩
    have eC : f_patterns.toNatClampNeg = P := by rw [eP]; exact bu_cl (by omega)
    have iP : vp_in f_patterns 48 := pk_in P 48 hP eP
    refine br_t (by rw [eP]; exact nI_le (by omega) (by omega)) ⟨iP, nm_r (e' := upd a_patternSymbol P s) (by rw [eC]) ⟨iP, nm_r (e' := upd a_patternFirst P (nI A)) (by rw [eC]) ⟨iP, nm_r (e' := upd a_patternSecond P (nI B)) (by rw [eC]) (nm_r (e' := nI (P + 1)) (by rw [eP, nI_1]) ?_)⟩⟩⟩
    rw [nI_pred]
    refine K P (P + 1) _ _ _ ⟨⟨by omega, fun q hq => ⟨pk_un (by omega), pk_un (by omega), pk_un (by omega)⟩⟩, ?_, by omega, by omega, fun z => absurd z hs7, fun _ => ⟨h0, pk_us, pk_us, pk_us⟩⟩
    intro q q0 q1
    by_cases e : q = P
    · rw [e, pk_us, pk_us]
      exact ⟨⟨A, hA, rfl⟩, ⟨B, hB, rfl⟩⟩
    · rw [pk_un e, pk_un e]
      exact hV q q0 (by omega)
  | succ d ih =>
    intro p nn hd hp hn
    obtain ⟨m, rfl⟩ : ∃ m, nn = m + 1 := ⟨nn - 1, by omega⟩
    have ep : (nI p).toNatClampNeg = p := bu_cl (by omega)
    have ip : vp_in (nI p) 48 := pk_in p 48 (by omega)
    have go := ih (p + 1) m (by omega) (by omega) (by omega)
    refine br_f (by rw [eP]; exact nI_ge (by omega) (by omega)) ⟨ip, ?_⟩
    rw [ep]
    by_cases e1 : a_patternSymbol p = s
    · refine br_t e1 ⟨ip, ?_⟩
      by_cases e2 : a_patternFirst p = nI A
      · refine br_t e2 ⟨ip, ?_⟩
        by_cases e3 : a_patternSecond p = nI B
        · refine br_t e3 ?_
          have := K p P _ _ _ ⟨PX_rf _ _ _ _, hV, by omega, by omega, fun z => absurd z hs7, fun _ => ⟨hp, e1, e2, e3⟩⟩
          rw [← eP] at this
          exact this
        · exact br_f e3 (nm_r (nI_1 p) go)
      · exact br_f e2 (nm_r (nI_1 p) go)
    · exact br_f e1 (nm_r (nI_1 p) go)
theorem xq_pf {post : Int32 → SX → Prop} {P : Nat} {s : Int32} {A B : Nat} (hP : P < 48) (h0 : 0 < P) (eP : f_patterns = nI P) (hV : bu_PV P a_patternFirst a_patternSecond) (hA : A < 64) (hB : B < 64) (hs : s < 7)
    (K : ∀ q P' ps' pf' pg', bu_PN P a_patternSymbol a_patternFirst a_patternSecond P' ps' pf' pg' s A B q → post (nI q) (f_written, f_height, f_rules, nI P', f_root, f_lined, a_post, a_begin, a_leftSize, a_left, a_rightSize, a_right, ps', pf', pg', a_top, a_used, a_symbol, a_first, a_second, a_above, a_size, a_fitting, a_line, a_order, a_pile, a_bound)) : wpX_patternFor post (f_written, f_height, f_rules, f_patterns, f_root, f_lined, a_post, a_begin, a_leftSize, a_left, a_rightSize, a_right, a_patternSymbol, a_patternFirst, a_patternSecond, a_top, a_used, a_symbol, a_first, a_second, a_above, a_size, a_fitting, a_line, a_order, a_pile, a_bound) s (nI A) (nI B) :=
  Exists.intro (P + 1) (xq_pf3 hP h0 eP hV hA hB hs K (P - 1) 1 (P + 1) (by omega) (by decide) (by omega))
theorem xq_po73 {post : Int32 → SX → Prop} {J : Int32 → Int32 → Int32 → Int32 → Int32 → Int32 → Int32 → Int32 → (Nat → Int32) → (Nat → Int32) → (Nat → Int32) → (Nat → Int32) → (Nat → Int32) → (Nat → Int32) → (Nat → Int32) → (Nat → Int32) → (Nat → Int32) → (Nat → Int32) → (Nat → Int32) → (Nat → Int32) → (Nat → Int32) → (Nat → Int32) → (Nat → Int32) → (Nat → Int32) → (Nat → Int64) → (Nat → Int32) → (Nat → Int32) → (Nat → Int32) → (Nat → Int32) → Prop} {x1 : Int32} {P : Nat} {s : Int32} {A B c a i : Nat} (hP : P < 48) (h0 : 0 < P) (eP : f_patterns = nI P) (hV : bu_PV P a_patternFirst a_patternSecond) (hA : A < 64) (hB : B < 64) (hc : c < 64) (ha : a ≤ c)
    (K : ∀ q P' ps' pf' pg', bu_PN P a_patternSymbol a_patternFirst a_patternSecond P' ps' pf' pg' s A B q → J (nI (c - a + 1)) (nI i + (-1)) f_written f_height f_rules (nI P') f_root f_lined a_post a_begin a_leftSize a_left a_rightSize a_right ps' pf' pg' a_top a_used a_symbol a_first a_second a_above a_size a_fitting a_line a_order (upd a_pile (c - a) (nI q)) a_bound) :
    wX_patternOf_73 post J x1 (nI c) (nI i) s (nI a) (nI A) (nI B) f_written f_height f_rules f_patterns f_root f_lined a_post a_begin a_leftSize a_left a_rightSize a_right a_patternSymbol a_patternFirst a_patternSecond a_top a_used a_symbol a_first a_second a_above a_size a_fitting a_line a_order a_pile a_bound := by
  refine nm_r (pk_sub ha) ?_
  have ic : vp_in (nI (c - a)) 64 := pk_in (c - a) 64 (by omega)
  have ec : (nI (c - a)).toNatClampNeg = c - a := bu_cl (by omega)
  by_cases h : s < 7
  · refine br_t h (xq_pf hP h0 eP hV hA hB h ?_)
    intro q P' ps' pf' pg' hN
    exact ⟨ic, nm_r (e' := upd a_pile (c - a) (nI q)) (by rw [ec]) (nm_r (nI_1 (c - a)) (nm_e (K q P' ps' pf' pg' hN)))⟩
  · refine br_f h ⟨ic, nm_r (e' := upd a_pile (c - a) (nI 0)) (by rw [ec]; rfl) (nm_r (nI_1 (c - a)) (nm_e ?_))⟩
    have := K 0 P _ _ _ ⟨PX_rf _ _ _ _, hV, by omega, h0, fun _ => rfl, fun z => absurd z h⟩
    rw [← eP] at this
    exact this
theorem xq_po53 {post : Int32 → SX → Prop} {J : Int32 → Int32 → Int32 → Int32 → Int32 → Int32 → Int32 → Int32 → (Nat → Int32) → (Nat → Int32) → (Nat → Int32) → (Nat → Int32) → (Nat → Int32) → (Nat → Int32) → (Nat → Int32) → (Nat → Int32) → (Nat → Int32) → (Nat → Int32) → (Nat → Int32) → (Nat → Int32) → (Nat → Int32) → (Nat → Int32) → (Nat → Int32) → (Nat → Int32) → (Nat → Int64) → (Nat → Int32) → (Nat → Int32) → (Nat → Int32) → (Nat → Int32) → Prop} {x1 : Int32} {P : Nat} {s : Int32} {A B c a i : Nat} (hP : P < 48) (h0 : 0 < P) (eP : f_patterns = nI P) (hV : bu_PV P a_patternFirst a_patternSecond) (hA : A < 64) (hB : B < 64) (hc : c < 64) (ha : a ≤ c) (b0 : a ≤ 1 → B = 0) (b1 : 1 < a → a_pile (c - 2) = nI B)
    (K : ∀ q P' ps' pf' pg', bu_PN P a_patternSymbol a_patternFirst a_patternSecond P' ps' pf' pg' s A B q → J (nI (c - a + 1)) (nI i + (-1)) f_written f_height f_rules (nI P') f_root f_lined a_post a_begin a_leftSize a_left a_rightSize a_right ps' pf' pg' a_top a_used a_symbol a_first a_second a_above a_size a_fitting a_line a_order (upd a_pile (c - a) (nI q)) a_bound) :
    wX_patternOf_53 post J x1 (nI c) (nI i) s (nI a) (nI A) f_written f_height f_rules f_patterns f_root f_lined a_post a_begin a_leftSize a_left a_rightSize a_right a_patternSymbol a_patternFirst a_patternSecond a_top a_used a_symbol a_first a_second a_above a_size a_fitting a_line a_order a_pile a_bound := by
  by_cases a1 : a ≤ 1
  · have e0 := b0 a1
    subst e0
    exact br_t (nI_le (b := 1) a1 (by decide)) (xq_po73 hP h0 eP hV hA hB hc ha K)
  · refine br_f (nI_ge (a := 1) (by omega) (by omega)) ?_
    rw [show (nI c - 2 : Int32) = nI (c - 2) from pk_sub (b := 2) (by omega), bu_cl (n := c - 2) (by omega), b1 (by omega)]
    exact ⟨pk_in (c - 2) 64 (by omega), xq_po73 hP h0 eP hV hA hB hc ha K⟩
theorem xq_po11 {post : Int32 → SX → Prop} {k lz P0 : Nat} (hk : k < 6) (hz : lz ≤ 7) (hF : bu_FO (fun j => a_left (7 * k + j)) lz 1 0) (hP0 : P0 + lz ≤ 48) (h00 : 0 < P0)
    (K : ∀ P ps pf pg pl pt, bu_PX P0 a_patternSymbol a_patternFirst a_patternSecond P ps pf pg → bu_PV P pf pg → P ≤ P0 + lz → bu_PL P ps pf pg (fun j => a_left (7 * k + j)) lz pt 0 → post (nI (pt 0)) (f_written, f_height, f_rules, nI P, f_root, f_lined, a_post, a_begin, a_leftSize, a_left, a_rightSize, a_right, ps, pf, pg, a_top, a_used, a_symbol, a_first, a_second, a_above, a_size, a_fitting, a_line, a_order, pl, a_bound)) :
    ∀ (i c nn P : Nat) (ps pf pg pl : Nat → Int32) (pt : Nat → Nat), i ≤ lz → bu_FO (fun j => a_left (7 * k + j)) lz c i → bu_PX P0 a_patternSymbol a_patternFirst a_patternSecond P ps pf pg → bu_PV P pf pg → P + i ≤ P0 + lz → bu_PL P ps pf pg (fun j => a_left (7 * k + j)) lz pt i → (∀ q, q < c → pl (c - 1 - q) = nI (pt (bu_fe (fun j => a_left (7 * k + j)) lz q i))) → i < nn →
    wX_patternOf_11 post (nI k) nn (nI c) (nI i + (-1)) f_written f_height f_rules (nI P) f_root f_lined a_post a_begin a_leftSize a_left a_rightSize a_right ps pf pg a_top a_used a_symbol a_first a_second a_above a_size a_fitting a_line a_order pl a_bound := by
  intro i
  induction i with
  | zero =>
    intro c nn P ps pf pg pl pt hi hc hX hV hP hL hp hn
    obtain ⟨m, rfl⟩ : ∃ m, nn = m + 1 := ⟨nn - 1, by omega⟩
    have e : c = 1 := FO_uq hc hF
    have hp0 : pl 0 = nI (pt 0) := by
      have := hp 0 (by omega)
      rw [fe_0, e] at this
      exact this
    refine br_t (show nI 0 + (-1) < 0 by decide) ?_
    rw [hp0]
    exact K P ps pf pg pl pt hX hV (by omega) hL
  | succ i ih =>
    intro c nn P ps pf pg pl pt hi hc hX hV hP hL hp hn
    obtain ⟨m, rfl⟩ : ∃ m, nn = m + 1 := ⟨nn - 1, by omega⟩
    have hiL : i < lz := by omega
    obtain ⟨c', hc'⟩ := FO_ex hF i (by omega)
    have hs' := FO_s hiL hc'
    have ec : c' - 1 + bu_ar (a_left (7 * k + i)) = c := FO_uq hs'.2 hc
    have hlen := FO_len hc
    have hA2 := bu_ar_le (a_left (7 * k + i))
    have hP1 := hX.1
    refine br_f (show ¬ nI (i + 1) + (-1) < 0 by rw [pk_m1]; exact nI_pos (by omega)) ?_
    rw [pk_m1, show nI k * 7 + nI i = nI (7 * k + i) from by rw [show (7 : Int32) = nI 7 from rfl, pk_mul, nI_add, Nat.mul_comm], bu_cl (n := 7 * k + i) (by omega)]
    refine ⟨pk_in (7 * k + i) 42 (by omega), nm_e (xq_parts ?_)⟩
    -- what follows a pattern for part i
    have hgo : ∀ A B : Nat, (0 < bu_ar (a_left (7 * k + i)) → A = pt (i + 1)) → (1 < bu_ar (a_left (7 * k + i)) → B = pt (bu_fe (fun j => a_left (7 * k + j)) lz 1 (i + 1))) → ∀ q P' ps' pf' pg', bu_PN P ps pf pg P' ps' pf' pg' (a_left (7 * k + i)) A B q → wX_patternOf_11 post (nI k) m (nI (c - bu_ar (a_left (7 * k + i)) + 1)) (nI i + (-1)) f_written f_height f_rules (nI P') f_root f_lined a_post a_begin a_leftSize a_left a_rightSize a_right ps' pf' pg' a_top a_used a_symbol a_first a_second a_above a_size a_fitting a_line a_order (upd pl (c - bu_ar (a_left (7 * k + i))) (nI q)) a_bound := by
      intro A B eA eB q P' ps' pf' pg' hN
      obtain ⟨n1, n2, n3, n4, n5, n6⟩ := hN
      have e1ge := fe_ge (fun j => a_left (7 * k + j)) lz 1 (i + 1)
      refine ih (c - bu_ar (a_left (7 * k + i)) + 1) m P' ps' pf' pg' _ (bu_up pt i q) (by omega) (by rw [show c - bu_ar (a_left (7 * k + i)) + 1 = c' from by omega]; exact hc') (PX_tr hX n1) n2 (by omega) ?_ ?_ (by omega)
      · intro j j1 j2
        by_cases e : j = i
        · subst e
          rw [up_at, up_ne (by omega), up_ne (by omega)]
          refine ⟨n4, n5, fun z => ?_⟩
          obtain ⟨m1, m2, m3, m4⟩ := n6 z
          exact ⟨m1, m2, fun y => by rw [m3, eA y], fun y => by rw [m4, eB y]⟩
        · have j3 := fe_ge (fun j => a_left (7 * k + j)) lz 1 (j + 1)
          rw [up_ne e, up_ne (by omega), up_ne (by omega)]
          exact PL_px n1 hL j (by omega) j2
      · intro y hy
        cases y with
        | zero => rw [fe_0, up_at]; exact pk_us
        | succ y =>
          have h3 := fe_ge (fun j => a_left (7 * k + j)) lz (y + bu_ar (a_left (7 * k + i))) (i + 1)
          have := hp (y + bu_ar (a_left (7 * k + i))) (by omega)
          rw [fe_s y hiL, up_ne (by omega), pk_un (by omega), show c - bu_ar (a_left (7 * k + i)) + 1 - 1 - (y + 1) = c - 1 - (y + bu_ar (a_left (7 * k + i))) from by omega]
          exact this
    have hB : ∃ B : Nat, B < 64 ∧ (bu_ar (a_left (7 * k + i)) ≤ 1 → B = 0) ∧ (1 < bu_ar (a_left (7 * k + i)) → pl (c - 2) = nI B) ∧ (1 < bu_ar (a_left (7 * k + i)) → B = pt (bu_fe (fun j => a_left (7 * k + j)) lz 1 (i + 1))) := by
      by_cases q : 1 < bu_ar (a_left (7 * k + i))
      · have h5 : bu_fe (fun j => a_left (7 * k + j)) lz 1 (i + 1) < lz := FO_lt (c := c - 1) (by omega) (FO_fe 1 (c - 1) (by rw [show 1 + (c - 1) = c from by omega]; exact hc))
        have h6 := (hL _ (fe_ge _ _ _ _) h5).1
        refine ⟨pt (bu_fe (fun j => a_left (7 * k + j)) lz 1 (i + 1)), by omega, fun z => absurd z (by omega), fun _ => ?_, fun _ => rfl⟩
        have := hp 1 (by omega)
        rw [← this, show c - 1 - 1 = c - 2 from by omega]
      · exact ⟨0, by omega, fun _ => rfl, fun z => absurd z q, fun z => absurd z q⟩
    obtain ⟨B, B64, b0, b1, b2⟩ := hB
    by_cases q : 0 < bu_ar (a_left (7 * k + i))
    · have h5 : i + 1 < lz := FO_lt (by omega) hc
      have h6 := (hL (i + 1) (Nat.le_refl _) h5).1
      refine br_f (nI_nle q (by omega)) ?_
      have hpp : pl (c - 1) = nI (pt (i + 1)) := by
        have := hp 0 (by omega)
        rw [← fe_0 (fun j => a_left (7 * k + j)) lz (i + 1)]
        exact this
      rw [show (nI c - 1 : Int32) = nI (c - 1) from pk_sub (b := 1) (by omega), bu_cl (n := c - 1) (by omega), hpp]
      exact ⟨pk_in (c - 1) 64 (by omega), xq_po53 (P := P) (A := pt (i + 1)) (B := B) (by omega) (by omega) rfl hV (by omega) B64 (by omega) (by omega) b0 b1 (hgo _ _ (fun _ => rfl) b2)⟩
    · refine br_t (nI_le (b := 0) (by omega) (by decide)) ?_
      exact xq_po53 (P := P) (A := 0) (B := B) (by omega) (by omega) rfl hV (by omega) B64 (by omega) (by omega) b0 b1 (hgo _ _ (fun z => absurd z q) b2)
theorem xq_po {post : Int32 → SX → Prop} {k lz P0 : Nat} (hk : k < 6) (hz : lz ≤ 7) (ez : a_leftSize k = nI lz) (hF : bu_FO (fun j => a_left (7 * k + j)) lz 1 0) (hP0 : P0 + lz ≤ 48) (h00 : 0 < P0) (eP : f_patterns = nI P0) (hV : bu_PV P0 a_patternFirst a_patternSecond)
    (K : ∀ P ps pf pg pl pt, bu_PX P0 a_patternSymbol a_patternFirst a_patternSecond P ps pf pg → bu_PV P pf pg → P ≤ P0 + lz → bu_PL P ps pf pg (fun j => a_left (7 * k + j)) lz pt 0 → post (nI (pt 0)) (f_written, f_height, f_rules, nI P, f_root, f_lined, a_post, a_begin, a_leftSize, a_left, a_rightSize, a_right, ps, pf, pg, a_top, a_used, a_symbol, a_first, a_second, a_above, a_size, a_fitting, a_line, a_order, pl, a_bound)) :
    wpX_patternOf post (f_written, f_height, f_rules, f_patterns, f_root, f_lined, a_post, a_begin, a_leftSize, a_left, a_rightSize, a_right, a_patternSymbol, a_patternFirst, a_patternSecond, a_top, a_used, a_symbol, a_first, a_second, a_above, a_size, a_fitting, a_line, a_order, a_pile, a_bound) (nI k) := by
  refine And.intro (pk_in k 6 hk) (nm_r (e' := nI lz + (-1)) (by rw [bu_cl (by omega), ez, Int32.sub_eq_add_neg]) (Exists.intro (lz + 1) ?_))
  rw [eP]
  refine xq_po11 hk hz hF hP0 h00 K lz 0 (lz + 1) P0 _ _ _ _ (fun _ => 0) (Nat.le_refl _) ?_ (PX_rf _ _ _ _) hV (Nat.le_refl _) (fun j h1 h2 => absurd h2 (by omega)) (fun q hq => absurd hq (by omega)) (by omega)
  unfold bu_FO
  rw [Nat.sub_self]
  exact bu_Fo_nil.mpr rfl
end XP
end
section
/-! X: prepare -/
/-- the rules: sizes, terms, ranges, variables -/
def bu_RR (r : Nat) (lsz lf rsz rg : Nat → Int32) (lz rz : Nat → Nat) : Prop :=
  r ≤ 6 ∧ ∀ k, k < r → lsz k = nI (lz k) ∧ 0 < lz k ∧ lz k ≤ 7 ∧ rsz k = nI (rz k) ∧ 0 < rz k ∧ rz k ≤ 31 ∧
    bu_FO (fun j => lf (7 * k + j)) (lz k) 1 0 ∧ bu_FO (fun j => rg (31 * k + j)) (rz k) 1 0 ∧
    (∀ j, j < lz k → ∃ m : Nat, m ≤ 9 ∧ lf (7 * k + j) = nI m) ∧ (∀ j, j < rz k → ∃ m : Nat, m ≤ 9 ∧ rg (31 * k + j) = nI m) ∧
    (∀ j, j < rz k → 7 ≤ rg (31 * k + j) → ∃ i, i < lz k ∧ lf (7 * k + i) = rg (31 * k + j))
/-- the patterns of the rules -/
def bu_PR (r P : Nat) (ps pf pg top lf : Nat → Int32) (lz : Nat → Nat) : Prop :=
  0 < P ∧ P ≤ 1 + 7 * r ∧ bu_PV P pf pg ∧ ∀ k, k < r → ∃ pt : Nat → Nat, bu_PL P ps pf pg (fun j => lf (7 * k + j)) (lz k) pt 0 ∧ top k = nI (pt 0)
theorem PV_f {P : Nat} {pf pg : Nat → Int32} (h : bu_PV P pf pg) : ∀ p, 0 < p → p < P → ∃ d, d < 64 ∧ pf p = nI d := fun p h0 h1 => (h p h0 h1).1
theorem PV_g {P : Nat} {pf pg : Nat → Int32} (h : bu_PV P pf pg) : ∀ p, 0 < p → p < P → ∃ d, d < 64 ∧ pg p = nI d := fun p h0 h1 => (h p h0 h1).2
section XQ
variable {f_written f_height f_rules f_patterns f_root f_lined : Int32} {a_post a_begin a_leftSize a_left a_rightSize a_right a_patternSymbol a_patternFirst a_patternSecond a_top a_used a_symbol a_first a_second a_above a_size a_line a_order a_pile a_bound : Nat → Int32} {a_fitting : Nat → Int64}
/-- the work-out of the node of a place, in a tree -/
theorem xq_won {post : SX → Prop} {s : Nat → Int32} {n i P : Nat} {o : Nat → Nat} (hS : bu_HS a_symbol a_first a_second s n o 0) (hF : bu_FO s n 1 0) (hI : ∀ j k, j < n → k < n → o j = o k → j = k) (hi : i < n) (hP : P ≤ 48) (h1 : 0 < P) (eP : f_patterns = nI P) (hV : bu_PV P a_patternFirst a_patternSecond)
    (K : ∀ sz' ft', (∀ z, z ≠ o i → sz' z = a_size z) → (∀ z, z ≠ o i → ft' z = a_fitting z) → bu_WO P a_patternSymbol a_patternFirst a_patternSecond a_symbol a_first a_second sz' ft' (o i) → post (f_written, f_height, f_rules, f_patterns, f_root, f_lined, a_post, a_begin, a_leftSize, a_left, a_rightSize, a_right, a_patternSymbol, a_patternFirst, a_patternSecond, a_top, a_used, a_symbol, a_first, a_second, a_above, sz', ft', a_line, a_order, a_pile, a_bound)) :
    wpX_workOut post (f_written, f_height, f_rules, f_patterns, f_root, f_lined, a_post, a_begin, a_leftSize, a_left, a_rightSize, a_right, a_patternSymbol, a_patternFirst, a_patternSecond, a_top, a_used, a_symbol, a_first, a_second, a_above, a_size, a_fitting, a_line, a_order, a_pile, a_bound) (nI (o i)) := by
  have ho := HS_o hS (Nat.zero_le _) hi
  obtain ⟨a, a64, ea⟩ := HS_fn hS hF (Nat.zero_le _) hi
  obtain ⟨b, b64, eb⟩ := HS_sn hS hF (Nat.zero_le _) hi
  have ax : a ≠ o i := by
    intro e
    rcases HS_fc hS hF (Nat.zero_le _) hi with q | q
    · have := q.2; rw [ea, bu_cl a64] at this; omega
    · have h2 := q.2.2; rw [ea, bu_cl a64, e] at h2
      have := hI i (i + 1) hi q.2.1 h2
      omega
  have bx : b ≠ o i := by
    intro e
    rcases HS_sc hS hF (Nat.zero_le _) hi with q | q
    · have := q.2; rw [eb, bu_cl b64] at this; omega
    · have h2 := q.2.2.2; rw [eb, bu_cl b64, e] at h2
      have := hI i _ hi q.2.2.1 h2
      omega
  exact xq_wo ho.2 hP h1 eP a64 ea ax b64 eb bx (PV_f hV) (PV_g hV) K
theorem xq_pr45 {post : SX → Prop} {s : Nat → Int32} {n P : Nat} {o : Nat → Nat} (hS : bu_HS a_symbol a_first a_second s n o 0) (hF : bu_FO s n 1 0) (hI : ∀ j k, j < n → k < n → o j = o k → j = k) (hn : n ≤ 31) (hP : P ≤ 48) (h1 : 0 < P) (eP : f_patterns = nI P) (hV : bu_PV P a_patternFirst a_patternSecond) (hod : ∀ j, j < n → a_order j = nI (o j))
    (K : ∀ sz ft, (∀ j, j < n → bu_WO P a_patternSymbol a_patternFirst a_patternSecond a_symbol a_first a_second sz ft (o j)) → sz 0 = 0 → post (f_written, f_height, f_rules, f_patterns, f_root, f_lined, a_post, a_begin, a_leftSize, a_left, a_rightSize, a_right, a_patternSymbol, a_patternFirst, a_patternSecond, a_top, a_used, a_symbol, a_first, a_second, a_above, sz, ft, a_line, a_order, a_pile, a_bound)) :
    ∀ (i nn : Nat) (sz : Nat → Int32) (ft : Nat → Int64), i ≤ n → (∀ j, i ≤ j → j < n → bu_WO P a_patternSymbol a_patternFirst a_patternSecond a_symbol a_first a_second sz ft (o j)) → sz 0 = 0 → i < nn →
    wX_prepare_45 post nn (nI i + (-1)) f_written f_height f_rules f_patterns f_root f_lined a_post a_begin a_leftSize a_left a_rightSize a_right a_patternSymbol a_patternFirst a_patternSecond a_top a_used a_symbol a_first a_second a_above sz ft a_line a_order a_pile a_bound := by
  intro i
  induction i with
  | zero =>
    intro nn sz ft hi hW hz hnn
    obtain ⟨m, rfl⟩ : ∃ m, nn = m + 1 := ⟨nn - 1, by omega⟩
    exact br_t (show nI 0 + (-1) < 0 by decide) (K sz ft (fun j hj => hW j (Nat.zero_le _) hj) hz)
  | succ i ih =>
    intro nn sz ft hi hW hz hnn
    obtain ⟨m, rfl⟩ : ∃ m, nn = m + 1 := ⟨nn - 1, by omega⟩
    refine br_f (show ¬ nI (i + 1) + (-1) < 0 by rw [pk_m1]; exact nI_pos (by omega)) ?_
    rw [pk_m1, bu_cl (n := i) (by omega), hod i (by omega)]
    refine ⟨pk_in i 32 (by omega), xq_won hS hF hI (by omega) hP h1 eP hV ?_⟩
    intro sz' ft' z1 z2 z3
    refine nm_e (ih m sz' ft' (by omega) ?_ ?_ (by omega))
    · intro j j1 j2
      by_cases e : j = i
      · rw [e]; exact z3
      · have ne : ∀ q, i < q → q < n → o q ≠ o i := fun q q1 q2 h => by have := hI q i q2 (by omega) h; omega
        refine WO_fr (hW j (by omega) j2) (ne j (by omega) j2) ?_ ?_ z1 z2
        · have h0 := (HS_o hS (Nat.zero_le i) (by omega)).1
          rcases HS_fc hS hF (Nat.zero_le _) j2 with q | q
          · rw [q.2]; omega
          · rw [q.2.2]; exact ne _ (by omega) q.2.1
        · have h0 := (HS_o hS (Nat.zero_le i) (by omega)).1
          rcases HS_sc hS hF (Nat.zero_le _) j2 with q | q
          · rw [q.2]; omega
          · rw [q.2.2.2]; exact ne _ (by omega) q.2.2.1
    · have h0 := (HS_o hS (Nat.zero_le i) (by omega)).1
      rw [z1 0 (by omega)]
      exact hz
theorem xq_pr7 {post : SX → Prop} {s : Nat → Int32} {n r : Nat} {o lz rz : Nat → Nat} (hS : bu_HS a_symbol a_first a_second s n o 0) (hF : bu_FO s n 1 0) (hI : ∀ j k, j < n → k < n → o j = o k → j = k) (hn : n ≤ 31) (h0 : 0 < n) (hz : a_size 0 = 0) (hR : bu_RR r a_leftSize a_left a_rightSize a_right lz rz) (er : f_rules = nI r) (eo : f_root = nI (o 0))
    (K : ∀ P ps pf pg top sz ft od pl, bu_PR r P ps pf pg top a_left lz → (∀ j, j < n → bu_WO P ps pf pg a_symbol a_first a_second sz ft (o j)) → sz 0 = 0 → post (f_written, f_height, f_rules, nI P, f_root, f_lined, a_post, a_begin, a_leftSize, a_left, a_rightSize, a_right, ps, pf, pg, top, a_used, a_symbol, a_first, a_second, a_above, sz, ft, a_line, od, pl, a_bound)) :
    ∀ (d k nn P : Nat) (ps pf pg top pl : Nat → Int32), k + d = r → d < nn → bu_PR k P ps pf pg top a_left lz →
    wX_prepare_7 post nn (nI k) f_written f_height f_rules (nI P) f_root f_lined a_post a_begin a_leftSize a_left a_rightSize a_right ps pf pg top a_used a_symbol a_first a_second a_above a_size a_fitting a_line a_order pl a_bound := by
  have hr6 := hR.1
  intro d
  induction d with
  | zero =>
    intro k nn P ps pf pg top pl hd hnn hP
    obtain ⟨m, rfl⟩ : ∃ m, nn = m + 1 := ⟨nn - 1, by omega⟩
    have ek : k = r := by omega
    subst ek
    refine br_t (by rw [er]; exact nI_le (by omega) (by omega)) ?_
    rw [eo]
    refine xq_lpr hS hF hn h0 (fun od pl' hod => nm_r (e' := nI n + (-1)) (by rw [Int32.sub_eq_add_neg]) (Exists.intro (n + 1) ?_))
    have hP2 := hP.2.1
    refine xq_pr45 (P := P) hS hF hI hn (by omega) hP.1 rfl hP.2.2.1 hod (fun sz ft hW hz' => ?_) n (n + 1) _ _ (Nat.le_refl _) (fun j j1 j2 => absurd j2 (by omega)) hz (by omega)
    rw [← eo]
    exact K P ps pf pg top sz ft od pl' hP hW hz'
  | succ d ih =>
    intro k nn P ps pf pg top pl hd hnn hP
    obtain ⟨m, rfl⟩ : ∃ m, nn = m + 1 := ⟨nn - 1, by omega⟩
    obtain ⟨l1, l2, l3, _, _, _, l7, _⟩ := hR.2 k (by omega)
    have hP2 := hP.2.1
    refine br_f (by rw [er]; exact nI_ge (by omega) (by omega)) ?_
    refine xq_po (P0 := P) (by omega) l3 l1 l7 (by omega) hP.1 rfl hP.2.2.1 ?_
    intro P' ps' pf' pg' pl' pt q1 q2 q3 q4
    refine ⟨pk_in k 6 (by omega), nm_r (e' := upd top k (nI (pt 0))) (by rw [bu_cl (by omega)]) (nm_r (nI_1 k) (ih (k + 1) m P' ps' pf' pg' _ pl' (by omega) (by omega) ?_))⟩
    have := q1.1
    have := hP.1
    refine ⟨by omega, by omega, q2, fun j hj => ?_⟩
    by_cases e : j = k
    · rw [e]
      exact ⟨pt, q4, pk_us⟩
    · obtain ⟨pt', g1, g2⟩ := hP.2.2.2 j (by omega)
      exact ⟨pt', PL_px q1 g1, by rw [pk_un e]; exact g2⟩
theorem xq_pr {post : SX → Prop} {s : Nat → Int32} {n r : Nat} {o lz rz : Nat → Nat} (hS : bu_HS a_symbol a_first a_second s n o 0) (hF : bu_FO s n 1 0) (hI : ∀ j k, j < n → k < n → o j = o k → j = k) (hn : n ≤ 31) (h0 : 0 < n) (hz : a_size 0 = 0) (hR : bu_RR r a_leftSize a_left a_rightSize a_right lz rz) (er : f_rules = nI r) (eo : f_root = nI (o 0))
    (K : ∀ P ps pf pg top sz ft od pl, bu_PR r P ps pf pg top a_left lz → (∀ j, j < n → bu_WO P ps pf pg a_symbol a_first a_second sz ft (o j)) → sz 0 = 0 → post (f_written, f_height, f_rules, nI P, f_root, f_lined, a_post, a_begin, a_leftSize, a_left, a_rightSize, a_right, ps, pf, pg, top, a_used, a_symbol, a_first, a_second, a_above, sz, ft, a_line, od, pl, a_bound)) :
    wpX_prepare post (f_written, f_height, f_rules, f_patterns, f_root, f_lined, a_post, a_begin, a_leftSize, a_left, a_rightSize, a_right, a_patternSymbol, a_patternFirst, a_patternSecond, a_top, a_used, a_symbol, a_first, a_second, a_above, a_size, a_fitting, a_line, a_order, a_pile, a_bound) := by
  refine Exists.intro (r + 1) ?_
  exact xq_pr7 hS hF hI hn h0 hz hR er eo K r 0 (r + 1) 1 _ _ _ _ _ (by omega) (by omega) ⟨by decide, by decide, fun p p0 p1 => absurd p1 (by omega), fun k hk => absurd hk (by omega)⟩
end XQ
end
section
/-! a left term fits at a place: the walk over its symbols, and the bits of the nodes -/
def bu_mw (s : Nat → Int32) (n : Nat) (l : Nat → Int32) : Nat → Nat → Nat → Bool
  | 0, _, _ => true
  | f + 1, j, p => if 7 ≤ l j then bu_mw s n l f (j + 1) (bu_fe s n 1 p) else if s p = l j then bu_mw s n l f (j + 1) (p + 1) else false
theorem mw_v {s : Nat → Int32} {n : Nat} {l : Nat → Int32} {f j p : Nat} (h : 7 ≤ l j) : bu_mw s n l (f + 1) j p = bu_mw s n l f (j + 1) (bu_fe s n 1 p) := if_pos h
theorem mw_e {s : Nat → Int32} {n : Nat} {l : Nat → Int32} {f j p : Nat} (h : ¬ 7 ≤ l j) (e : s p = l j) : bu_mw s n l (f + 1) j p = bu_mw s n l f (j + 1) (p + 1) := by
  show (if 7 ≤ l j then bu_mw s n l f (j + 1) (bu_fe s n 1 p) else if s p = l j then bu_mw s n l f (j + 1) (p + 1) else false) = _
  rw [if_neg h, if_pos e]
theorem mw_n {s : Nat → Int32} {n : Nat} {l : Nat → Int32} {f j p : Nat} (h : ¬ 7 ≤ l j) (e : ¬ s p = l j) : bu_mw s n l (f + 1) j p = false := by
  show (if 7 ≤ l j then bu_mw s n l f (j + 1) (bu_fe s n 1 p) else if s p = l j then bu_mw s n l f (j + 1) (p + 1) else false) = _
  rw [if_neg h, if_neg e]
/-- all below m + 1: the first, and the others one further -/
theorem bu_all_s {Q : Nat → Prop} {m : Nat} : (∀ t, t < m + 1 → Q t) ↔ Q 0 ∧ ∀ t, t < m → Q (t + 1) := by
  constructor
  · intro h
    exact ⟨h 0 (by omega), fun t ht => h (t + 1) (by omega)⟩
  · intro h t ht
    cases t with
    | zero => exact h.1
    | succ t => exact h.2 t (by omega)
theorem bu_all_a {Q : Nat → Prop} {m : Nat} (a : Nat) : (∀ t, t < m + a → Q t) ↔ (∀ t, t < a → Q t) ∧ ∀ t, t < m → Q (t + a) := by
  constructor
  · intro h
    exact ⟨fun t ht => h t (by omega), fun t ht => h (t + a) (by omega)⟩
  · intro h t ht
    by_cases g : t < a
    · exact h.1 t g
    · have := h.2 (t - a) (by omega)
      rw [show t - a + a = t from by omega] at this
      exact this
theorem mw_bit {P : Nat} {ps pf pg sy fi se sz : Nat → Int32} {ft : Nat → Int64} {s : Nat → Int32} {n : Nat} {o : Nat → Nat} {l : Nat → Int32} {lz : Nat} {pt : Nat → Nat} (hP : P ≤ 48) (hS : bu_HS sy fi se s n o 0) (hW : ∀ i, i < n → bu_WO P ps pf pg sy fi se sz ft (o i)) (hL : bu_PL P ps pf pg l lz pt 0) :
    ∀ (f j p m c : Nat), j + f = lz → bu_FO l lz m j → bu_FO s n (m + c) p → ((∀ t, t < m → bu_bt (ft (o (bu_fe s n t p))) (pt (bu_fe l lz t j)) = true) ↔ bu_mw s n l f j p = true) := by
  intro f
  induction f with
  | zero =>
    intro j p m c hj hFl hFs
    have : m = 0 := FO_n (by omega) hFl
    exact ⟨fun _ => rfl, fun _ t ht => absurd ht (by omega)⟩
  | succ f ih =>
    intro j p m c hj hFl hFs
    have hjl : j < lz := by omega
    have hl := FO_s hjl hFl
    obtain ⟨m', rfl⟩ : ∃ m', m = m' + 1 := ⟨m - 1, by omega⟩
    have hl2 := hl.2
    rw [show m' + 1 - 1 + bu_ar (l j) = m' + bu_ar (l j) from by omega] at hl2
    have hpn : p < n := FO_lt (by omega) hFs
    obtain ⟨pP, pv, pn⟩ := hL j (Nat.zero_le _) hjl
    have hw := (hW p hpn).2 (pt j) pP
    rw [bu_all_s, fe_0, fe_0]
    by_cases hv : 7 ≤ l j
    · have a0 := bu_ar_var hv
      rw [mw_v hv]
      rw [a0, Nat.add_zero] at hl2
      have hF2 := FO_fe 1 (m' + c) (by rw [show 1 + (m' + c) = m' + 1 + c from by omega]; exact hFs)
      rw [← ih (j + 1) (bu_fe s n 1 p) m' c (by omega) hl2 hF2]
      constructor
      · intro h t ht
        have := h.2 t ht
        rw [fe_s t hjl, a0, Nat.add_zero, Nat.add_comm t 1, fe_add] at this
        exact this
      · intro h
        refine ⟨hw.mpr (Or.inl (pv hv)), fun t ht => ?_⟩
        rw [fe_s t hjl, a0, Nat.add_zero, Nat.add_comm t 1, fe_add]
        exact h t ht
    · obtain ⟨q0, q1, q2, q3⟩ := pn (Int32.not_le.mp hv)
      have hsy := HS_sy hS (Nat.zero_le _) hpn
      by_cases e : s p = l j
      · rw [mw_e hv e]
        have hF2 := (FO_s hpn hFs).2
        rw [e, show m' + 1 + c - 1 + bu_ar (l j) = m' + bu_ar (l j) + c from by omega] at hF2
        rw [← ih (j + 1) (p + 1) (m' + bu_ar (l j)) c (by omega) hl2 hF2, bu_all_a (bu_ar (l j))]
        have hrest : (∀ t, t < m' → bu_bt (ft (o (bu_fe s n (t + 1) p))) (pt (bu_fe l lz (t + 1) j)) = true) ↔ (∀ t, t < m' → bu_bt (ft (o (bu_fe s n (t + bu_ar (l j)) (p + 1)))) (pt (bu_fe l lz (t + bu_ar (l j)) (j + 1))) = true) := by
          constructor
          · intro h t ht
            have := h t ht
            rw [fe_s t hjl, fe_s t hpn, e] at this
            exact this
          · intro h t ht
            rw [fe_s t hjl, fe_s t hpn, e]
            exact h t ht
        rw [hrest]
        refine and_congr ?_ Iff.rfl
        rw [hw]
        unfold bu_cd
        have hps : ps (pt j) = sy (o p) := by rw [q1, hsy, e]
        rcases bu_ar_cases (l j) with a | a | a
        · have f0 := HS_f0 hS (Nat.zero_le _) hpn (by rw [e]; omega)
          have s0 := HS_s0 hS (Nat.zero_le _) hpn (by rw [e]; omega)
          rw [a]
          exact ⟨fun _ t ht => absurd ht (by omega), fun _ => Or.inr ⟨hps, fun z => absurd f0 z, fun z => absurd s0 z⟩⟩
        · have f1 := HS_f1 hS (Nat.zero_le _) hpn (by rw [e]; omega)
          have s0 := HS_s0 hS (Nat.zero_le _) hpn (by rw [e]; omega)
          have hp1 := FO_d1 hFs hpn (by rw [e]; omega)
          have hj1 := FO_d1 hFl hjl (by omega)
          have o1 := HS_o hS (Nat.zero_le _) hp1
          have b1 := (hL (j + 1) (Nat.zero_le _) hj1).1
          rw [a, f1, q2 (by omega), bu_cl o1.2, bu_cl (n := pt (j + 1)) (by omega)]
          constructor
          · intro h t ht
            have e0 : t = 0 := by omega
            rw [e0, fe_0, fe_0]
            rcases h with h | h
            · omega
            · exact h.2.1 (bu_ne0 o1.1 o1.2)
          · intro h
            have := h 0 (by omega)
            rw [fe_0, fe_0] at this
            exact Or.inr ⟨hps, fun _ => this, fun z => absurd s0 z⟩
        · have f1 := HS_f1 hS (Nat.zero_le _) hpn (by rw [e]; omega)
          have s1 := HS_s1 hS (Nat.zero_le _) hpn (by rw [e]; omega)
          have hp1 := FO_d1 hFs hpn (by rw [e]; omega)
          have hj1 := FO_d1 hFl hjl (by omega)
          have hp2 := FO_d2 hFs hpn (by rw [e]; omega)
          have hj2 := FO_d2 hFl hjl (by omega)
          have o1 := HS_o hS (Nat.zero_le _) hp1
          have o2 := HS_o hS (Nat.zero_le _) hp2
          have b1 := (hL (j + 1) (Nat.zero_le _) hj1).1
          have b2 := (hL _ (Nat.zero_le _) hj2).1
          rw [a, f1, s1, q2 (by omega), q3 (by omega), bu_cl o1.2, bu_cl o2.2, bu_cl (n := pt (j + 1)) (by omega), bu_cl (n := pt (bu_fe l lz 1 (j + 1))) (by omega)]
          constructor
          · intro h t ht
            rcases h with h | h
            · omega
            · cases t with
              | zero => rw [fe_0, fe_0]; exact h.2.1 (bu_ne0 o1.1 o1.2)
              | succ t =>
                have e0 : t = 0 := by omega
                rw [e0]
                exact h.2.2 (bu_ne0 o2.1 o2.2)
          · intro h
            have h0 := h 0 (by omega)
            have h1 := h 1 (by omega)
            rw [fe_0, fe_0] at h0
            exact Or.inr ⟨hps, fun _ => h0, fun _ => h1⟩
      · rw [mw_n hv e]
        constructor
        · intro h
          rcases hw.mp h.1 with z | z
          · omega
          · exact absurd (by rw [← hsy, ← z.1, q1]) e
        · intro h
          exact absurd h (by decide)
/-! the least rule; how many places; the first place -/
def bu_fr (M : Nat → Bool) : Nat → Nat → Int32
  | 0, _ => -4
  | f + 1, k => if M k = true then nI k else bu_fr M f (k + 1)
theorem fr_t {M : Nat → Bool} {f k : Nat} (h : M k = true) : bu_fr M (f + 1) k = nI k := if_pos h
theorem fr_f {M : Nat → Bool} {f k : Nat} (h : ¬ M k = true) : bu_fr M (f + 1) k = bu_fr M f (k + 1) := if_neg h
theorem fr_sp {M : Nat → Bool} : ∀ (f k : Nat), (bu_fr M f k = -4) ∨ ∃ j, k ≤ j ∧ j < k + f ∧ M j = true ∧ bu_fr M f k = nI j := by
  intro f
  induction f with
  | zero => intro k; exact Or.inl rfl
  | succ f ih =>
    intro k
    by_cases h : M k = true
    · exact Or.inr ⟨k, Nat.le_refl _, by omega, h, fr_t h⟩
    · rw [fr_f h]
      rcases ih (k + 1) with e | ⟨j, a, b, c, d⟩
      · exact Or.inl e
      · exact Or.inr ⟨j, by omega, by omega, c, d⟩
theorem bu_n4 {j : Nat} (h : j < 64) : ¬ nI j = -4 := by
  intro e
  have h1 : nI j < 0 := by rw [e]; decide
  exact nI_pos (by omega) h1
theorem fr_neg {M : Nat → Bool} {f k : Nat} (h : k + f ≤ 64) : bu_fr M f k < 0 ↔ bu_fr M f k = -4 := by
  rcases fr_sp (M := M) f k with e | ⟨j, a, b, c, d⟩
  · rw [e]; decide
  · rw [d]
    exact ⟨fun z => absurd z (nI_pos (by omega)), fun z => absurd z (bu_n4 (by omega))⟩
def bu_rc (F : Nat → Int32) : Nat → Nat → Nat → Nat
  | 0, _, a => a
  | f + 1, i, a => if F i = -4 then bu_rc F f (i + 1) a else bu_rc F f (i + 1) (a + 1)
theorem rc_t {F : Nat → Int32} {f i a : Nat} (h : F i = -4) : bu_rc F (f + 1) i a = bu_rc F f (i + 1) a := if_pos h
theorem rc_f {F : Nat → Int32} {f i a : Nat} (h : ¬ F i = -4) : bu_rc F (f + 1) i a = bu_rc F f (i + 1) (a + 1) := if_neg h
def bu_np (F : Nat → Int32) : Nat → Nat → Int32
  | 0, _ => -4
  | f + 1, i => if F i = -4 then bu_np F f (i + 1) else nI i
theorem np_t {F : Nat → Int32} {f i : Nat} (h : F i = -4) : bu_np F (f + 1) i = bu_np F f (i + 1) := if_pos h
theorem np_f {F : Nat → Int32} {f i : Nat} (h : ¬ F i = -4) : bu_np F (f + 1) i = nI i := if_neg h
theorem np_sp {F : Nat → Int32} : ∀ (f k : Nat), (bu_np F f k = -4) ∨ ∃ j, k ≤ j ∧ j < k + f ∧ ¬ F j = -4 ∧ bu_np F f k = nI j := by
  intro f
  induction f with
  | zero => intro k; exact Or.inl rfl
  | succ f ih =>
    intro k
    by_cases h : F k = -4
    · rw [np_t h]
      rcases ih (k + 1) with e | ⟨j, a, b, c, d⟩
      · exact Or.inl e
      · exact Or.inr ⟨j, by omega, by omega, c, d⟩
    · exact Or.inr ⟨k, Nat.le_refl _, by omega, h, np_f h⟩
/-! what the variables stand for -/
def bu_bw (g : Nat → Int32) (s : Nat → Int32) (n : Nat) (l : Nat → Int32) : Nat → Nat → Nat → (Nat → Int32) → (Nat → Int32)
  | 0, _, _, b => b
  | f + 1, j, p, b => if 7 ≤ l j then bu_bw g s n l f (j + 1) (bu_fe s n 1 p) (upd b (l j - 7).toNatClampNeg (g p)) else bu_bw g s n l f (j + 1) (p + 1) b
theorem bw_v {g s : Nat → Int32} {n : Nat} {l : Nat → Int32} {f j p v : Nat} {b : Nat → Int32} (hv : v < 3) (h : l j = nI (7 + v)) : bu_bw g s n l (f + 1) j p b = bu_bw g s n l f (j + 1) (bu_fe s n 1 p) (upd b v (g p)) := by
  show (if 7 ≤ l j then bu_bw g s n l f (j + 1) (bu_fe s n 1 p) (upd b (l j - 7).toNatClampNeg (g p)) else bu_bw g s n l f (j + 1) (p + 1) b) = _
  rw [h, if_pos (Int32.not_lt.mp (bu_v7 hv)), bu_vi hv, bu_cl (by omega)]
theorem bw_n {g s : Nat → Int32} {n : Nat} {l : Nat → Int32} {f j p : Nat} {b : Nat → Int32} (h : ¬ 7 ≤ l j) : bu_bw g s n l (f + 1) j p b = bu_bw g s n l f (j + 1) (p + 1) b := if_neg h
/-- a symbol within the range that is no less than 7 is a variable -/
theorem bu_isv {s : Int32} (h : ∃ m : Nat, m ≤ 9 ∧ s = nI m) (h7 : 7 ≤ s) : ∃ v, v < 3 ∧ s = nI (7 + v) := by
  obtain ⟨m, hm, e⟩ := h
  by_cases g : m < 7
  · exact absurd h7 (Int32.not_le.mpr (by rw [e]; exact nI_lt (b := 7) g (by decide)))
  · exact ⟨m - 7, by omega, by rw [e, show 7 + (m - 7) = m from by omega]⟩
theorem bw_none {g s : Nat → Int32} {n : Nat} {l : Nat → Int32} {v : Nat} (hv : v < 3) : ∀ (f j p : Nat) (b : Nat → Int32), (∀ i, j ≤ i → i < j + f → ∃ m : Nat, m ≤ 9 ∧ l i = nI m) → (∀ i, j ≤ i → i < j + f → l i ≠ nI (7 + v)) → bu_bw g s n l f j p b v = b v := by
  intro f
  induction f with
  | zero => intro j p b _ _; rfl
  | succ f ih =>
    intro j p b hr h
    by_cases h7 : 7 ≤ l j
    · obtain ⟨u, hu, e⟩ := bu_isv (hr j (Nat.le_refl _) (by omega)) h7
      rw [bw_v hu e, ih _ _ _ (fun i i1 i2 => hr i (by omega) (by omega)) (fun i i1 i2 => h i (by omega) (by omega)), pk_un]
      intro z
      exact h j (Nat.le_refl _) (by omega) (by rw [e, z])
    · rw [bw_n h7, ih _ _ _ (fun i i1 i2 => hr i (by omega) (by omega)) (fun i i1 i2 => h i (by omega) (by omega))]
theorem bw_val {s : Nat → Int32} {n : Nat} {l : Nat → Int32} {lz v : Nat} (hv : v < 3) : ∀ (f j p m c : Nat), j + f = lz → (∀ i, j ≤ i → i < j + f → ∃ m : Nat, m ≤ 9 ∧ l i = nI m) → bu_FO l lz m j → bu_FO s n (m + c) p → bu_mw s n l f j p = true → (∃ i, j ≤ i ∧ i < j + f ∧ l i = nI (7 + v)) → ∃ q, q < n ∧ ∀ (g b : Nat → Int32), bu_bw g s n l f j p b v = g q := by
  intro f
  induction f with
  | zero => intro j p m c _ _ _ _ _ h; obtain ⟨i, i1, i2, _⟩ := h; omega
  | succ f ih =>
    intro j p m c hj hr hFl hFs hm h
    have hjl : j < lz := by omega
    have hl := FO_s hjl hFl
    obtain ⟨m', rfl⟩ : ∃ m', m = m' + 1 := ⟨m - 1, by omega⟩
    have hl2 := hl.2
    rw [show m' + 1 - 1 + bu_ar (l j) = m' + bu_ar (l j) from by omega] at hl2
    have hpn : p < n := FO_lt (by omega) hFs
    have hr2 : ∀ i, j + 1 ≤ i → i < j + 1 + f → ∃ m : Nat, m ≤ 9 ∧ l i = nI m := fun i i1 i2 => hr i (by omega) (by omega)
    by_cases h7 : 7 ≤ l j
    · obtain ⟨u, hu, e⟩ := bu_isv (hr j (Nat.le_refl _) (by omega)) h7
      rw [mw_v h7] at hm
      rw [bu_ar_var h7, Nat.add_zero] at hl2
      have hF2 := FO_fe 1 (m' + c) (by rw [show 1 + (m' + c) = m' + 1 + c from by omega]; exact hFs)
      by_cases hx : ∃ i, j + 1 ≤ i ∧ i < j + 1 + f ∧ l i = nI (7 + v)
      · obtain ⟨q, hq, hg⟩ := ih (j + 1) (bu_fe s n 1 p) m' c (by omega) hr2 hl2 hF2 hm hx
        exact ⟨q, hq, fun g b => by rw [bw_v hu e]; exact hg g _⟩
      · obtain ⟨i, i1, i2, i3⟩ := h
        have ij : i = j := by
          apply Classical.byContradiction
          intro z
          exact hx ⟨i, by omega, by omega, i3⟩
        rw [ij, e] at i3
        have uv : u = v := bu_7inj hu hv i3
        refine ⟨p, hpn, fun g b => ?_⟩
        rw [bw_v hu e, bw_none hv _ _ _ _ hr2 (fun i i1 i2 z => hx ⟨i, i1, i2, z⟩), uv, pk_us]
    · have e : s p = l j := by
        apply Classical.byContradiction
        intro z
        rw [mw_n h7 z] at hm
        exact absurd hm (by decide)
      rw [mw_e h7 e] at hm
      have hF2 := (FO_s hpn hFs).2
      rw [e, show m' + 1 + c - 1 + bu_ar (l j) = m' + bu_ar (l j) + c from by omega] at hF2
      have hx : ∃ i, j + 1 ≤ i ∧ i < j + 1 + f ∧ l i = nI (7 + v) := by
        obtain ⟨i, i1, i2, i3⟩ := h
        refine ⟨i, ?_, by omega, i3⟩
        have : i ≠ j := fun z => h7 (by rw [← z, i3]; exact Int32.not_lt.mp (bu_v7 hv))
        omega
      obtain ⟨q, hq, hg⟩ := ih (j + 1) (p + 1) (m' + bu_ar (l j)) c (by omega) hr2 hl2 hF2 hm hx
      exact ⟨q, hq, fun g b => by rw [bw_n h7]; exact hg g _⟩
end
section
/-! X: the methods that read -/
def bu_MM (s : Nat → Int32) (n : Nat) (lf : Nat → Int32) (lz : Nat → Nat) (i k : Nat) : Bool := bu_mw s n (fun j => lf (7 * k + j)) (lz k) 0 i
def bu_FF (s : Nat → Int32) (n : Nat) (lf : Nat → Int32) (lz : Nat → Nat) (r i : Nat) : Int32 := bu_fr (bu_MM s n lf lz i) r 0
theorem FF_neg {s : Nat → Int32} {n : Nat} {lf : Nat → Int32} {lz : Nat → Nat} {r i : Nat} (hr : r ≤ 6) : bu_FF s n lf lz r i < 0 ↔ bu_FF s n lf lz r i = -4 := fr_neg (by omega)
/-- the bits of a node tell which rules fit -/
theorem bu_MK {P : Nat} {ps pf pg sy fi se sz top lf lsz rsz rg : Nat → Int32} {ft : Nat → Int64} {s : Nat → Int32} {n r : Nat} {o lz rz : Nat → Nat} (hS : bu_HS sy fi se s n o 0) (hF : bu_FO s n 1 0) (hW : ∀ i, i < n → bu_WO P ps pf pg sy fi se sz ft (o i)) (hR : bu_RR r lsz lf rsz rg lz rz) (hP : bu_PR r P ps pf pg top lf lz) {i : Nat} (hi : i < n) :
    ∀ k, k < r → ∃ t, t < 64 ∧ top k = nI t ∧ (bu_bt (ft (o i)) t = true ↔ bu_MM s n lf lz i k = true) := by
  intro k hk
  have hr6 := hR.1
  have hP2 := hP.2.1
  obtain ⟨l1, l2, l3, _, _, _, l7, _⟩ := hR.2 k hk
  obtain ⟨pt, g1, g2⟩ := hP.2.2.2 k hk
  have g3 := (g1 0 (Nat.le_refl _) l2).1
  obtain ⟨c, hc⟩ := FO_at hF hi
  refine ⟨pt 0, by omega, g2, ?_⟩
  have := mw_bit (P := P) (by omega) hS hW g1 (lz k) 0 i 1 c (by omega) l7 (by rw [Nat.add_comm 1 c]; exact hc)
  unfold bu_MM
  rw [← this]
  constructor
  · intro h t ht
    have e : t = 0 := by omega
    rw [e, fe_0, fe_0]
    exact h
  · intro h
    have := h 0 (by omega)
    rw [fe_0, fe_0] at this
    exact this
section XR
variable {f_written f_height f_rules f_patterns f_root f_lined : Int32} {a_post a_begin a_leftSize a_left a_rightSize a_right a_patternSymbol a_patternFirst a_patternSecond a_top a_used a_symbol a_first a_second a_above a_size a_line a_order a_pile a_bound : Nat → Int32} {a_fitting : Nat → Int64}
theorem xq_ra2 {post : Int32 → Prop} {x r : Nat} {M : Nat → Bool} (hx : x < 64) (hr : r ≤ 6) (er : f_rules = nI r) (hM : ∀ k, k < r → ∃ t, t < 64 ∧ a_top k = nI t ∧ (bu_bt (a_fitting x) t = true ↔ M k = true)) :
    ∀ (d k nn : Nat), k + d = r → d < nn → post (bu_fr M d k) → wX_ruleAt_2 post (nI x) f_written f_height f_rules f_patterns f_root f_lined a_post a_begin a_leftSize a_left a_rightSize a_right a_patternSymbol a_patternFirst a_patternSecond a_top a_used a_symbol a_first a_second a_above a_size a_fitting a_line a_order a_pile a_bound nn (nI k) := by
  intro d
  induction d with
  | zero =>
    intro k nn hd hn K
    obtain ⟨m, rfl⟩ : ∃ m, nn = m + 1 := ⟨nn - 1, by omega⟩
    exact br_t (by rw [er]; exact nI_le (by omega) (by omega)) K
  | succ d ih =>
    intro k nn hd hn K
    obtain ⟨m, rfl⟩ : ∃ m, nn = m + 1 := ⟨nn - 1, by omega⟩
    obtain ⟨t, t64, et, hb⟩ := hM k (by omega)
    refine br_f (by rw [er]; exact nI_ge (by omega) (by omega)) ⟨pk_in x 64 hx, pk_in k 6 (by omega), ?_⟩
    rw [bu_cl hx, bu_cl (n := k) (by omega), et]
    by_cases h : M k = true
    · rw [fr_t h] at K
      exact br_t ((bu_bit t64).mpr (hb.mpr h)) K
    · rw [fr_f h] at K
      exact br_f (fun z => h (hb.mp ((bu_bit t64).mp z))) (nm_r (nI_1 k) (ih (k + 1) m (by omega) (by omega) K))
theorem xq_ra {post : Int32 → Prop} {x r : Nat} {M : Nat → Bool} (hx : x < 64) (hr : r ≤ 6) (er : f_rules = nI r) (hM : ∀ k, k < r → ∃ t, t < 64 ∧ a_top k = nI t ∧ (bu_bt (a_fitting x) t = true ↔ M k = true)) (K : post (bu_fr M r 0)) : wpX_ruleAt post (f_written, f_height, f_rules, f_patterns, f_root, f_lined, a_post, a_begin, a_leftSize, a_left, a_rightSize, a_right, a_patternSymbol, a_patternFirst, a_patternSecond, a_top, a_used, a_symbol, a_first, a_second, a_above, a_size, a_fitting, a_line, a_order, a_pile, a_bound) (nI x) :=
  Exists.intro (r + 1) (xq_ra2 hx hr er hM r 0 (r + 1) (by omega) (by omega) K)
theorem xq_na {post : Int32 → SX → Prop} {s : Nat → Int32} {n : Nat} {o : Nat → Nat} (hS : bu_HS a_symbol a_first a_second s n o 0) (hF : bu_FO s n 1 0) (hn : n ≤ 31) (h0 : 0 < n) (eo : f_root = nI (o 0)) (hz : a_size (o 0) = nI n) {p : Int32} (K0 : (p < 0 ∨ nI n ≤ p) → post 0 (f_written, f_height, f_rules, f_patterns, f_root, f_lined, a_post, a_begin, a_leftSize, a_left, a_rightSize, a_right, a_patternSymbol, a_patternFirst, a_patternSecond, a_top, a_used, a_symbol, a_first, a_second, a_above, a_size, a_fitting, a_line, a_order, a_pile, a_bound)) (K1 : ∀ i od pl, i < n → p = nI i → post (nI (o i)) (f_written, f_height, f_rules, f_patterns, f_root, f_lined, a_post, a_begin, a_leftSize, a_left, a_rightSize, a_right, a_patternSymbol, a_patternFirst, a_patternSecond, a_top, a_used, a_symbol, a_first, a_second, a_above, a_size, a_fitting, a_line, od, pl, a_bound)) : wpX_nodeAt post (f_written, f_height, f_rules, f_patterns, f_root, f_lined, a_post, a_begin, a_leftSize, a_left, a_rightSize, a_right, a_patternSymbol, a_patternFirst, a_patternSecond, a_top, a_used, a_symbol, a_first, a_second, a_above, a_size, a_fitting, a_line, a_order, a_pile, a_bound) p := by
  have ho := HS_o hS (Nat.le_refl 0) h0
  have er : f_root.toNatClampNeg = o 0 := by rw [eo]; exact bu_cl ho.2
  by_cases hp : p < 0
  · exact br_t hp (K0 (Or.inl hp))
  · refine br_f hp ⟨by rw [eo]; exact pk_in _ 64 ho.2, ?_⟩
    rw [er, hz]
    rcases pk_ix p (n := n) (by omega) with h | h | ⟨i, hi, e⟩
    · exact absurd h hp
    · exact br_f (Int32.not_lt.mpr h) (K0 (Or.inr h))
    · refine br_t (by rw [e]; exact nI_lt hi (by omega)) ?_
      rw [eo]
      refine xq_lpr hS hF hn h0 (fun od pl hod => ?_)
      dsimp only
      rw [e, bu_cl (n := i) (by omega), hod i hi, ← eo]
      exact ⟨pk_in i 32 (by omega), K1 i od pl hi e⟩
theorem xq_rx13 {post : Int32 → SX → Prop} {n r : Nat} {o : Nat → Nat} {F : Nat → Int32} (hn : n ≤ 31) (hod : ∀ j, j < n → a_order j = nI (o j)) (hF4 : ∀ i, F i < 0 ↔ F i = -4) (hA : ∀ (po : Int32 → Prop) i, i < n → po (F i) → wpX_ruleAt po (f_written, f_height, f_rules, f_patterns, f_root, f_lined, a_post, a_begin, a_leftSize, a_left, a_rightSize, a_right, a_patternSymbol, a_patternFirst, a_patternSecond, a_top, a_used, a_symbol, a_first, a_second, a_above, a_size, a_fitting, a_line, a_order, a_pile, a_bound) (nI (o i))) :
    ∀ (d i a nn : Nat), i + d = n → d < nn → a ≤ i → post (nI (bu_rc F d i a)) (f_written, f_height, f_rules, f_patterns, f_root, f_lined, a_post, a_begin, a_leftSize, a_left, a_rightSize, a_right, a_patternSymbol, a_patternFirst, a_patternSecond, a_top, a_used, a_symbol, a_first, a_second, a_above, a_size, a_fitting, a_line, a_order, a_pile, a_bound) → wX_redexes_13 post (nI n) f_written f_height f_rules f_patterns f_root f_lined a_post a_begin a_leftSize a_left a_rightSize a_right a_patternSymbol a_patternFirst a_patternSecond a_top a_used a_symbol a_first a_second a_above a_size a_fitting a_line a_order a_pile a_bound nn (nI a) (nI i) := by
  intro d
  induction d with
  | zero =>
    intro i a nn hd hnn ha K
    obtain ⟨m, rfl⟩ : ∃ m, nn = m + 1 := ⟨nn - 1, by omega⟩
    exact br_t (nI_le (by omega) (by omega)) K
  | succ d ih =>
    intro i a nn hd hnn ha K
    obtain ⟨m, rfl⟩ : ∃ m, nn = m + 1 := ⟨nn - 1, by omega⟩
    refine br_f (nI_ge (by omega) (by omega)) ⟨pk_in i 32 (by omega), ?_⟩
    rw [bu_cl (n := i) (by omega), hod i (by omega)]
    refine hA _ i (by omega) ?_
    by_cases h : F i = -4
    · rw [rc_t h] at K
      exact br_t ((hF4 i).mpr h) (nm_r (nI_1 i) (ih (i + 1) a m (by omega) (by omega) (by omega) K))
    · rw [rc_f h] at K
      exact br_f (fun z => h ((hF4 i).mp z)) (nm_r (nI_1 a) (nm_r (nI_1 i) (ih (i + 1) (a + 1) m (by omega) (by omega) (by omega) K)))
theorem xq_np11 {post : Int32 → SX → Prop} {n r : Nat} {o : Nat → Nat} {F : Nat → Int32} (hn : n ≤ 31) (hod : ∀ j, j < n → a_order j = nI (o j)) (hF4 : ∀ i, F i < 0 ↔ F i = -4) (hA : ∀ (po : Int32 → Prop) i, i < n → po (F i) → wpX_ruleAt po (f_written, f_height, f_rules, f_patterns, f_root, f_lined, a_post, a_begin, a_leftSize, a_left, a_rightSize, a_right, a_patternSymbol, a_patternFirst, a_patternSecond, a_top, a_used, a_symbol, a_first, a_second, a_above, a_size, a_fitting, a_line, a_order, a_pile, a_bound) (nI (o i))) :
    ∀ (d i nn : Nat), i + d = n → d < nn → post (bu_np F d i) (f_written, f_height, f_rules, f_patterns, f_root, f_lined, a_post, a_begin, a_leftSize, a_left, a_rightSize, a_right, a_patternSymbol, a_patternFirst, a_patternSecond, a_top, a_used, a_symbol, a_first, a_second, a_above, a_size, a_fitting, a_line, a_order, a_pile, a_bound) → wX_nextPlace_11 post (nI n) f_written f_height f_rules f_patterns f_root f_lined a_post a_begin a_leftSize a_left a_rightSize a_right a_patternSymbol a_patternFirst a_patternSecond a_top a_used a_symbol a_first a_second a_above a_size a_fitting a_line a_order a_pile a_bound nn (nI i) := by
  intro d
  induction d with
  | zero =>
    intro i nn hd hnn K
    obtain ⟨m, rfl⟩ : ∃ m, nn = m + 1 := ⟨nn - 1, by omega⟩
    exact br_t (nI_le (by omega) (by omega)) K
  | succ d ih =>
    intro i nn hd hnn K
    obtain ⟨m, rfl⟩ : ∃ m, nn = m + 1 := ⟨nn - 1, by omega⟩
    refine br_f (nI_ge (by omega) (by omega)) ⟨pk_in i 32 (by omega), ?_⟩
    rw [bu_cl (n := i) (by omega), hod i (by omega)]
    refine hA _ i (by omega) ?_
    by_cases h : F i = -4
    · rw [np_t h] at K
      exact br_t ((hF4 i).mpr h) (nm_r (nI_1 i) (ih (i + 1) m (by omega) (by omega) K))
    · rw [np_f h] at K
      exact br_f (fun z => h ((hF4 i).mp z)) K
theorem xq_dg13 {post : Int32 → SX → Prop} {s : Nat → Int32} {n : Nat} {o : Nat → Nat} (hS : bu_HS a_symbol a_first a_second s n o 0) (hn : n ≤ 31) (hod : ∀ j, j < n → a_order j = nI (o j)) (D : Nat → Nat → Int32 → Int32) (D0 : ∀ i a, D 0 i a = a) (D1 : ∀ d i a, D (d + 1) i a = D d (i + 1) (a + ((nI i + 1) * (s i + 1)))) :
    ∀ (d i nn : Nat) (a : Int32), i + d = n → d < nn → post (D d i a) (f_written, f_height, f_rules, f_patterns, f_root, f_lined, a_post, a_begin, a_leftSize, a_left, a_rightSize, a_right, a_patternSymbol, a_patternFirst, a_patternSecond, a_top, a_used, a_symbol, a_first, a_second, a_above, a_size, a_fitting, a_line, a_order, a_pile, a_bound) → wX_digest_13 post (nI n) f_written f_height f_rules f_patterns f_root f_lined a_post a_begin a_leftSize a_left a_rightSize a_right a_patternSymbol a_patternFirst a_patternSecond a_top a_used a_symbol a_first a_second a_above a_size a_fitting a_line a_order a_pile a_bound nn a (nI i) := by
  intro d
  induction d with
  | zero =>
    intro i nn a hd hnn K
    obtain ⟨m, rfl⟩ : ∃ m, nn = m + 1 := ⟨nn - 1, by omega⟩
    rw [D0] at K
    exact br_t (nI_le (by omega) (by omega)) K
  | succ d ih =>
    intro i nn a hd hnn K
    obtain ⟨m, rfl⟩ : ∃ m, nn = m + 1 := ⟨nn - 1, by omega⟩
    have ho := HS_o hS (Nat.zero_le i) (by omega)
    rw [D1] at K
    refine br_f (nI_ge (by omega) (by omega)) ⟨pk_in i 32 (by omega), ?_⟩
    rw [bu_cl (n := i) (by omega), hod i (by omega), bu_cl ho.2, HS_sy hS (Nat.zero_le i) (by omega)]
    exact ⟨pk_in _ 64 ho.2, nm_e (nm_r (nI_1 i) (ih (i + 1) m _ (by omega) (by omega) K))⟩
/-! same -/
def bu_al (f g : Nat → Int32) : Nat → Nat → Int32 → Int32
  | 0, _, a => a
  | d + 1, k, a => bu_al f g d (k + 1) (if a = 0 then 0 else if f k = g k then 1 else 0)
theorem al_01 {f g : Nat → Int32} : ∀ (d k : Nat) (a : Int32), (a = 0 ∨ a = 1) → (bu_al f g d k a = 0 ∨ bu_al f g d k a = 1) := by
  intro d
  induction d with
  | zero => intro k a h; exact h
  | succ d ih =>
    intro k a h
    refine ih (k + 1) _ ?_
    split
    · exact Or.inl rfl
    · split
      · exact Or.inr rfl
      · exact Or.inl rfl
theorem xq_sm95 {post : Int32 → SX → Prop} {m : Nat} {g : Nat → Int32} (hm : m ≤ 31) (hg : ∀ k, k < m → ∃ x, x < 64 ∧ a_order k = nI x ∧ a_symbol x = g k) :
    ∀ (d k nn : Nat) (a : Int32), k + d = m → d < nn → (a = 0 ∨ a = 1) → post (bu_al a_line g d k a) (f_written, f_height, f_rules, f_patterns, f_root, f_lined, a_post, a_begin, a_leftSize, a_left, a_rightSize, a_right, a_patternSymbol, a_patternFirst, a_patternSecond, a_top, a_used, a_symbol, a_first, a_second, a_above, a_size, a_fitting, a_line, a_order, a_pile, a_bound) → wX_same_95 post (nI m) f_written f_height f_rules f_patterns f_root f_lined a_post a_begin a_leftSize a_left a_rightSize a_right a_patternSymbol a_patternFirst a_patternSecond a_top a_used a_symbol a_first a_second a_above a_size a_fitting a_line a_order a_pile a_bound nn a (nI k) := by
  intro d
  induction d with
  | zero =>
    intro k nn a hd hnn ha K
    obtain ⟨q, rfl⟩ : ∃ q, nn = q + 1 := ⟨nn - 1, by omega⟩
    refine br_t (nI_le (by omega) (by omega)) ⟨?_, K⟩
    rcases ha with e | e
    · rw [e]; rfl
    · rw [e]; rfl
  | succ d ih =>
    intro k nn a hd hnn ha K
    obtain ⟨q, rfl⟩ : ∃ q, nn = q + 1 := ⟨nn - 1, by omega⟩
    obtain ⟨x, x64, ex, es⟩ := hg k (by omega)
    have K2 : post (bu_al a_line g d (k + 1) (if a = 0 then 0 else if a_line k = g k then 1 else 0)) (f_written, f_height, f_rules, f_patterns, f_root, f_lined, a_post, a_begin, a_leftSize, a_left, a_rightSize, a_right, a_patternSymbol, a_patternFirst, a_patternSecond, a_top, a_used, a_symbol, a_first, a_second, a_above, a_size, a_fitting, a_line, a_order, a_pile, a_bound) := K
    refine br_f (nI_ge (by omega) (by omega)) ?_
    by_cases h : a = 0
    · rw [if_pos h] at K2
      exact br_t h (nm_r (nI_1 k) (ih (k + 1) q 0 (by omega) (by omega) (Or.inl rfl) K2))
    · rw [if_neg h] at K2
      rw [bu_cl (n := k) (by omega), ex, bu_cl x64, es]
      refine br_f h ⟨pk_in k 32 (by omega), pk_in k 32 (by omega), pk_in x 64 x64, ?_⟩
      by_cases h2 : a_line k = g k
      · rw [if_pos h2] at K2
        exact br_t h2 (nm_r (nI_1 k) (ih (k + 1) q 1 (by omega) (by omega) (Or.inr rfl) K2))
      · rw [if_neg h2] at K2
        exact br_f h2 (nm_r (nI_1 k) (ih (k + 1) q 0 (by omega) (by omega) (Or.inl rfl) K2))
theorem al_cg {f f' g g' : Nat → Int32} : ∀ (d k : Nat) (a : Int32), (∀ j, k ≤ j → j < k + d → f j = f' j) → (∀ j, k ≤ j → j < k + d → g j = g' j) → bu_al f g d k a = bu_al f' g' d k a := by
  intro d
  induction d with
  | zero => intro k a _ _; rfl
  | succ d ih =>
    intro k a h1 h2
    show bu_al f g d (k + 1) (if a = 0 then 0 else if f k = g k then 1 else 0) = bu_al f' g' d (k + 1) (if a = 0 then 0 else if f' k = g' k then 1 else 0)
    rw [h1 k (by omega) (by omega), h2 k (by omega) (by omega)]
    exact ih (k + 1) _ (fun j j1 j2 => h1 j (by omega) (by omega)) (fun j j1 j2 => h2 j (by omega) (by omega))
theorem xq_sm50 {post : Int32 → SX → Prop} {s : Nat → Int32} {n i j : Nat} {o : Nat → Nat} (hS : bu_HS a_symbol a_first a_second s n o 0) (hF : bu_FO s n 1 0) (hn : n ≤ 31) (hi : i < n) (hj : j < n) (he : bu_fe s n 1 i - i = bu_fe s n 1 j - j) (hod : ∀ k, i + k < bu_fe s n 1 i → a_order k = nI (o (i + k)))
    (K : ∀ ln od pl, post (bu_al (fun k => s (i + k)) (fun k => s (j + k)) (bu_fe s n 1 i - i) 0 1) (f_written, f_height, f_rules, f_patterns, f_root, f_lined, a_post, a_begin, a_leftSize, a_left, a_rightSize, a_right, a_patternSymbol, a_patternFirst, a_patternSecond, a_top, a_used, a_symbol, a_first, a_second, a_above, a_size, a_fitting, ln, od, pl, a_bound)) :
    ∀ (d k nn : Nat) (ln : Nat → Int32), k + d = bu_fe s n 1 i - i → d < nn → (∀ q, q < k → ln q = s (i + q)) → wX_same_50 post (nI (o j)) (nI (bu_fe s n 1 i - i)) f_written f_height f_rules f_patterns f_root f_lined nn (nI k) a_post a_begin a_leftSize a_left a_rightSize a_right a_patternSymbol a_patternFirst a_patternSecond a_top a_used a_symbol a_first a_second a_above a_size a_fitting ln a_order a_pile a_bound := by
  have gi := fe_ge s n 1 i
  have li := fe_le (s := s) 1 (Nat.le_of_lt hi)
  have gj := fe_ge s n 1 j
  have lj := fe_le (s := s) 1 (Nat.le_of_lt hj)
  intro d
  induction d with
  | zero =>
    intro k nn ln hd hnn hl
    obtain ⟨q, rfl⟩ : ∃ q, nn = q + 1 := ⟨nn - 1, by omega⟩
    refine br_t (nI_le (by omega) (by omega)) (xq_lp hS hF hn hj (fun od pl ho => Exists.intro (bu_fe s n 1 i - i + 1) ?_))
    refine xq_sm95 (m := bu_fe s n 1 i - i) (g := fun k => s (j + k)) (by omega) ?_ (bu_fe s n 1 i - i) 0 _ 1 (by omega) (by omega) (Or.inr rfl) ?_
    · intro q hq
      have o1 := HS_o hS (Nat.zero_le (j + q)) (by omega)
      exact ⟨o (j + q), o1.2, ho q (by omega), HS_sy hS (Nat.zero_le _) (by omega)⟩
    · rw [al_cg (f := ln) (f' := fun k => s (i + k)) (g := fun k => s (j + k)) (g' := fun k => s (j + k)) _ _ _ (fun q q1 q2 => hl q (by omega)) (fun _ _ _ => rfl)]
      exact K ln od pl
  | succ d ih =>
    intro k nn ln hd hnn hl
    obtain ⟨q, rfl⟩ : ∃ q, nn = q + 1 := ⟨nn - 1, by omega⟩
    have o1 := HS_o hS (Nat.zero_le (i + k)) (by omega)
    refine br_f (nI_ge (by omega) (by omega)) ⟨pk_in k 32 (by omega), ?_⟩
    rw [bu_cl (n := k) (by omega), hod k (by omega), bu_cl o1.2, HS_sy hS (Nat.zero_le _) (by omega)]
    refine ⟨pk_in _ 64 o1.2, pk_in k 32 (by omega), nm_e (nm_r (nI_1 k) (ih (k + 1) q _ (by omega) (by omega) ?_))⟩
    intro z hz
    by_cases e : z = k
    · rw [e, pk_us]
    · rw [pk_un e]; exact hl z (by omega)
end XR
end
section
/-! X: what the variables stand for; the right term lined up -/
theorem bu_7k {k i : Nat} : nI k * 7 + nI i = nI (7 * k + i) := by
  rw [show (7 : Int32) = nI 7 from rfl, pk_mul, nI_add, Nat.mul_comm]
theorem bu_31k {k i : Nat} : nI k * 31 + nI i = nI (31 * k + i) := by
  rw [show (31 : Int32) = nI 31 from rfl, pk_mul, nI_add, Nat.mul_comm]
theorem bu_cl2 {n : Nat} (h : n < 1000) : (nI n).toNatClampNeg = n := nI_clamp (by omega)
/-- the right term with the parts of s at the places q for its variables -/
def bu_ex (s : Nat → Int32) (n : Nat) (rt : Nat → Int32) (q : Nat → Nat) : Nat → Nat → List Int32
  | 0, _ => []
  | f + 1, j => (if 7 ≤ rt j then bu_sg s (q (rt j - 7).toNatClampNeg) (bu_fe s n 1 (q (rt j - 7).toNatClampNeg) - q (rt j - 7).toNatClampNeg) else [rt j]) ++ bu_ex s n rt q f (j + 1)
theorem ex_0 {s : Nat → Int32} {n : Nat} {rt : Nat → Int32} {q : Nat → Nat} {j : Nat} : bu_ex s n rt q 0 j = [] := rfl
theorem ex_v {s : Nat → Int32} {n : Nat} {rt : Nat → Int32} {q : Nat → Nat} {f j v : Nat} (hv : v < 3) (h : rt j = nI (7 + v)) : bu_ex s n rt q (f + 1) j = bu_sg s (q v) (bu_fe s n 1 (q v) - q v) ++ bu_ex s n rt q f (j + 1) := by
  show (if 7 ≤ rt j then bu_sg s (q (rt j - 7).toNatClampNeg) (bu_fe s n 1 (q (rt j - 7).toNatClampNeg) - q (rt j - 7).toNatClampNeg) else [rt j]) ++ bu_ex s n rt q f (j + 1) = _
  rw [h, if_pos (Int32.not_lt.mp (bu_v7 hv)), bu_vi hv, bu_cl (by omega)]
theorem ex_n {s : Nat → Int32} {n : Nat} {rt : Nat → Int32} {q : Nat → Nat} {f j : Nat} (h : ¬ 7 ≤ rt j) : bu_ex s n rt q (f + 1) j = [rt j] ++ bu_ex s n rt q f (j + 1) := by
  show (if 7 ≤ rt j then bu_sg s (q (rt j - 7).toNatClampNeg) (bu_fe s n 1 (q (rt j - 7).toNatClampNeg) - q (rt j - 7).toNatClampNeg) else [rt j]) ++ bu_ex s n rt q f (j + 1) = _
  rw [if_neg h]
theorem bu_sg_sn (f : Nat → Int32) (a k : Nat) : bu_sg f a (k + 1) = bu_sg f a k ++ [f (a + k)] := by
  rw [bu_sg_app, bu_sg_s, bu_sg_0]
theorem bu_sg_up (f : Nat → Int32) (x : Nat) (v : Int32) : bu_sg (upd f x v) 0 (x + 1) = bu_sg f 0 x ++ [v] := by
  rw [bu_sg_sn, Nat.zero_add, pk_us, bu_sg_cg (f := upd f x v) (g := f) x 0 0 (fun j hj => pk_un (by omega))]
section XS
variable {f_written f_height f_rules f_patterns f_root f_lined : Int32} {a_post a_begin a_leftSize a_left a_rightSize a_right a_patternSymbol a_patternFirst a_patternSecond a_top a_used a_symbol a_first a_second a_above a_size a_line a_order a_pile a_bound : Nat → Int32} {a_fitting : Nat → Int64}
theorem xq_bi12 {post : SX → Prop} {s : Nat → Int32} {n k lz : Nat} {o : Nat → Nat} (hk : k < 6) (hz : lz ≤ 7) (ez : a_leftSize k = nI lz) (hS : bu_HS a_symbol a_first a_second s n o 0) (hr : ∀ j, j < lz → ∃ m : Nat, m ≤ 9 ∧ a_left (7 * k + j) = nI m) :
    ∀ (f j p w c nn : Nat) (pl bd : Nat → Int32), j + f = lz → f < nn → bu_FO (fun i => a_left (7 * k + i)) lz w j → bu_FO s n (w + c) p → bu_mw s n (fun i => a_left (7 * k + i)) f j p = true → (∀ t, t < w → pl (w - 1 - t) = nI (o (bu_fe s n t p))) → (∀ pl', post (f_written, f_height, f_rules, f_patterns, f_root, f_lined, a_post, a_begin, a_leftSize, a_left, a_rightSize, a_right, a_patternSymbol, a_patternFirst, a_patternSecond, a_top, a_used, a_symbol, a_first, a_second, a_above, a_size, a_fitting, a_line, a_order, pl', bu_bw (fun q => nI (o q)) s n (fun i => a_left (7 * k + i)) f j p bd)) →
    wX_bind_12 post (nI k) f_written f_height f_rules f_patterns f_root f_lined nn (nI w) (nI j) a_post a_begin a_leftSize a_left a_rightSize a_right a_patternSymbol a_patternFirst a_patternSecond a_top a_used a_symbol a_first a_second a_above a_size a_fitting a_line a_order pl bd := by
  have ek : (nI k).toNatClampNeg = k := bu_cl (by omega)
  intro f
  induction f with
  | zero =>
    intro j p w c nn pl bd hj hnn hFl hFs hm hp K
    obtain ⟨m, rfl⟩ : ∃ m, nn = m + 1 := ⟨nn - 1, by omega⟩
    refine And.intro (pk_in k 6 hk) (br_t (by rw [ek, ez]; exact nI_le (by omega) (by omega)) (K pl))
  | succ f ih =>
    intro j p w c nn pl bd hj hnn hFl hFs hm hp K
    obtain ⟨m, rfl⟩ : ∃ m, nn = m + 1 := ⟨nn - 1, by omega⟩
    have hjl : j < lz := by omega
    have hl := FO_s hjl hFl
    have hl2 := hl.2
    obtain ⟨v, rfl⟩ : ∃ v, w = v + 1 := ⟨w - 1, by omega⟩
    rw [show v + 1 - 1 + bu_ar (a_left (7 * k + j)) = v + bu_ar (a_left (7 * k + j)) from by omega] at hl2
    have hlen := FO_len hl2
    have hpn : p < n := FO_lt (by omega) hFs
    obtain ⟨o0, o64⟩ := HS_o hS (Nat.zero_le _) hpn
    have io : vp_in (nI (o p)) 64 := pk_in _ 64 o64
    have hcl : (nI (o p)).toNatClampNeg = o p := bu_cl o64
    have hp0 : pl v = nI (o p) := by
      have := hp 0 (by omega)
      rw [fe_0] at this
      exact this
    refine And.intro (pk_in k 6 hk) (br_f (by rw [ek, ez]; exact nI_ge (by omega) (by omega)) ?_)
    rw [bu_7k, bu_cl2 (n := 7 * k + j) (by omega)]
    refine ⟨pk_in (7 * k + j) 42 (by omega), nm_e (nm_r (pk_m1 v) ⟨pk_in v 64 (by omega), nm_r (e' := nI (o p)) (by rw [bu_cl (n := v) (by omega), hp0]) ?_⟩)⟩
    by_cases h7 : 7 ≤ a_left (7 * k + j)
    · obtain ⟨u, hu, e⟩ := bu_isv (hr j hjl) h7
      rw [mw_v (l := fun i => a_left (7 * k + i)) (j := j) h7] at hm
      rw [bu_ar_var h7, Nat.add_zero] at hl2
      have hF2 := FO_fe 1 (v + c) (by rw [show 1 + (v + c) = v + 1 + c from by omega]; exact hFs)
      refine br_f (Int32.not_lt.mpr h7) ?_
      rw [e, bu_vi hu, bu_cl (n := u) (by omega)]
      refine ⟨pk_in u 3 hu, nm_e (nm_r (nI_1 j) (ih (j + 1) (bu_fe s n 1 p) v c m pl _ (by omega) (by omega) hl2 hF2 hm ?_ ?_))⟩
      · intro t ht
        have := hp (t + 1) (by omega)
        rw [show v + 1 - 1 - (t + 1) = v - 1 - t from by omega, Nat.add_comm t 1, fe_add] at this
        exact this
      · intro pl'
        have := K pl'
        rw [bw_v (v := u) (l := fun i => a_left (7 * k + i)) (j := j) hu e] at this
        exact this
    · have e : s p = a_left (7 * k + j) := by
        apply Classical.byContradiction
        intro z
        rw [mw_n (l := fun i => a_left (7 * k + i)) (j := j) h7 z] at hm
        exact absurd hm (by decide)
      rw [mw_e (l := fun i => a_left (7 * k + i)) (j := j) h7 e] at hm
      have hF2 := (FO_s hpn hFs).2
      rw [e, show v + 1 + c - 1 + bu_ar (a_left (7 * k + j)) = v + bu_ar (a_left (7 * k + j)) + c from by omega] at hF2
      have K2 : ∀ pl', post (f_written, f_height, f_rules, f_patterns, f_root, f_lined, a_post, a_begin, a_leftSize, a_left, a_rightSize, a_right, a_patternSymbol, a_patternFirst, a_patternSecond, a_top, a_used, a_symbol, a_first, a_second, a_above, a_size, a_fitting, a_line, a_order, pl', bu_bw (fun q => nI (o q)) s n (fun i => a_left (7 * k + i)) f (j + 1) (p + 1) bd) := by
        intro pl'
        have := K pl'
        rw [bw_n (l := fun i => a_left (7 * k + i)) (j := j) h7] at this
        exact this
      have hrest : ∀ t, t < v → pl (v - 1 - t) = nI (o (bu_fe s n (t + bu_ar (a_left (7 * k + j))) (p + 1))) := by
        intro t ht
        have := hp (t + 1) (by omega)
        rw [show v + 1 - 1 - (t + 1) = v - 1 - t from by omega, fe_s t hpn, e] at this
        exact this
      refine br_t (Int32.not_le.mp h7) (xq_parts ?_)
      have go := fun (W : Nat) (PL : Nat → Int32) (eW : W = v + bu_ar (a_left (7 * k + j))) (hPL : ∀ t, t < W → PL (W - 1 - t) = nI (o (bu_fe s n t (p + 1)))) =>
        ih (j + 1) (p + 1) W c m PL bd (by omega) (by omega) (by rw [eW]; exact hl2) (by rw [eW]; exact hF2) hm hPL K2
      rcases bu_ar_cases (a_left (7 * k + j)) with a | a | a
      · rw [a] at go hrest ⊢
        refine br_t (by decide) (br_t (by decide) (nm_r (nI_1 j) (go v pl rfl ?_)))
        intro t ht
        exact hrest t ht
      · rw [a] at go hrest ⊢
        have f1 := HS_f1 hS (Nat.zero_le _) hpn (by rw [e]; omega)
        refine br_t (by decide) (br_f (by decide) ⟨io, pk_in v 64 (by omega), nm_r (e' := upd pl v (nI (o (p + 1)))) (by rw [hcl, f1, bu_cl (n := v) (by omega)]) (nm_r (nI_1 v) (nm_r (nI_1 j) (go (v + 1) _ rfl ?_)))⟩)
        intro t ht
        cases t with
        | zero => rw [fe_0]; exact pk_us
        | succ t =>
          rw [pk_un (by omega), show v + 1 - 1 - (t + 1) = v - 1 - t from by omega]
          exact hrest t (by omega)
      · rw [a] at go hrest hlen ⊢
        have f1 := HS_f1 hS (Nat.zero_le _) hpn (by rw [e]; omega)
        have s1 := HS_s1 hS (Nat.zero_le _) hpn (by rw [e]; omega)
        refine br_f (by decide) ⟨io, pk_in v 64 (by omega), nm_r (e' := upd pl v (nI (o (bu_fe s n 1 (p + 1))))) (by rw [hcl, s1, bu_cl (n := v) (by omega)]) (nm_r (nI_1 v) (br_f (by decide) ⟨io, pk_in (v + 1) 64 (by omega), nm_r (e' := upd (upd pl v (nI (o (bu_fe s n 1 (p + 1))))) (v + 1) (nI (o (p + 1)))) (by rw [hcl, f1, bu_cl (n := v + 1) (by omega)]) (nm_r (nI_1 (v + 1)) (nm_r (nI_1 j) (go (v + 2) _ rfl ?_)))⟩))⟩
        intro t ht
        cases t with
        | zero => rw [fe_0]; exact pk_us
        | succ t =>
          cases t with
          | zero =>
            rw [pk_un (by omega), show v + 2 - 1 - (0 + 1) = v from by omega, pk_us]
          | succ t =>
            rw [pk_un (by omega), pk_un (by omega), show v + 2 - 1 - (t + 1 + 1) = v - 1 - t from by omega]
            exact hrest t (by omega)
theorem xq_bi {post : SX → Prop} {s : Nat → Int32} {n k lz i : Nat} {o : Nat → Nat} (hk : k < 6) (hz : lz ≤ 7) (ez : a_leftSize k = nI lz) (hS : bu_HS a_symbol a_first a_second s n o 0) (hF : bu_FO s n 1 0) (hi : i < n) (hFl : bu_FO (fun i => a_left (7 * k + i)) lz 1 0) (hr : ∀ j, j < lz → ∃ m : Nat, m ≤ 9 ∧ a_left (7 * k + j) = nI m) (hm : bu_mw s n (fun i => a_left (7 * k + i)) lz 0 i = true)
    (K : ∀ pl, post (f_written, f_height, f_rules, f_patterns, f_root, f_lined, a_post, a_begin, a_leftSize, a_left, a_rightSize, a_right, a_patternSymbol, a_patternFirst, a_patternSecond, a_top, a_used, a_symbol, a_first, a_second, a_above, a_size, a_fitting, a_line, a_order, pl, bu_bw (fun q => nI (o q)) s n (fun i => a_left (7 * k + i)) lz 0 i a_bound)) : wpX_bind post (f_written, f_height, f_rules, f_patterns, f_root, f_lined, a_post, a_begin, a_leftSize, a_left, a_rightSize, a_right, a_patternSymbol, a_patternFirst, a_patternSecond, a_top, a_used, a_symbol, a_first, a_second, a_above, a_size, a_fitting, a_line, a_order, a_pile, a_bound) (nI k) (nI (o i)) := by
  obtain ⟨c, hc⟩ := FO_at hF hi
  refine nm_e (Exists.intro (lz + 1) ?_)
  refine xq_bi12 hk hz ez hS hr lz 0 i 1 c (lz + 1) _ _ (by omega) (by omega) hFl (by rw [Nat.add_comm 1 c]; exact hc) hm ?_ K
  intro t ht
  have e : t = 0 := by omega
  rw [e, fe_0]
  exact pk_us
theorem xq_sr4 {post : Int32 → Prop} {s : Nat → Int32} {n k rz : Nat} {o q : Nat → Nat} (hk : k < 6) (hz : rz ≤ 31) (ez : a_rightSize k = nI rz) (hr : ∀ j, j < rz → ∃ m : Nat, m ≤ 9 ∧ a_right (31 * k + j) = nI m)
    (hq : ∀ v, v < 3 → (∃ j, j < rz ∧ a_right (31 * k + j) = nI (7 + v)) → o (q v) < 64 ∧ a_bound v = nI (o (q v)) ∧ a_size (o (q v)) = nI (bu_fe s n 1 (q v) - q v)) :
    ∀ (f j a nn : Nat), j + f = rz → f < nn → post (nI (a + (bu_ex s n (fun i => a_right (31 * k + i)) q f j).length)) → wX_sizeOfRight_4 post (nI k) f_written f_height f_rules f_patterns f_root f_lined a_post a_begin a_leftSize a_left a_rightSize a_right a_patternSymbol a_patternFirst a_patternSecond a_top a_used a_symbol a_first a_second a_above a_size a_fitting a_line a_order a_pile a_bound nn (nI a) (nI j) := by
  have ek : (nI k).toNatClampNeg = k := bu_cl (by omega)
  intro f
  induction f with
  | zero =>
    intro j a nn hj hnn K
    obtain ⟨m, rfl⟩ : ∃ m, nn = m + 1 := ⟨nn - 1, by omega⟩
    exact And.intro (pk_in k 6 hk) (br_t (by rw [ek, ez]; exact nI_le (by omega) (by omega)) K)
  | succ f ih =>
    intro j a nn hj hnn K
    obtain ⟨m, rfl⟩ : ∃ m, nn = m + 1 := ⟨nn - 1, by omega⟩
    refine And.intro (pk_in k 6 hk) (br_f (by rw [ek, ez]; exact nI_ge (by omega) (by omega)) ?_)
    rw [bu_31k, bu_cl2 (n := 31 * k + j) (by omega)]
    refine ⟨pk_in (31 * k + j) 186 (by omega), nm_e ?_⟩
    by_cases h7 : 7 ≤ a_right (31 * k + j)
    · obtain ⟨u, hu, e⟩ := bu_isv (hr j (by omega)) h7
      obtain ⟨q1, q2, q3⟩ := hq u hu ⟨j, by omega, e⟩
      rw [ex_v (rt := fun i => a_right (31 * k + i)) (j := j) hu e, List.length_append, bu_sg_len, ← Nat.add_assoc] at K
      refine br_f (Int32.not_lt.mpr h7) ?_
      rw [e, bu_vi hu, bu_cl (n := u) (by omega), q2, bu_cl q1, q3, nI_add]
      exact ⟨pk_in u 3 hu, pk_in _ 64 q1, nm_e (nm_r (nI_1 j) (ih (j + 1) _ m (by omega) (by omega) K))⟩
    · rw [ex_n (rt := fun i => a_right (31 * k + i)) (j := j) h7, List.length_append, List.length_cons, List.length_nil, ← Nat.add_assoc] at K
      exact br_t (Int32.not_le.mp h7) (nm_r (nI_1 a) (nm_r (nI_1 j) (ih (j + 1) (a + 1) m (by omega) (by omega) K)))
theorem xq_lr67 {post : SX → Prop} {J : Int32 → Int32 → Int32 → Int32 → Int32 → Int32 → Int32 → Int32 → (Nat → Int32) → (Nat → Int32) → (Nat → Int32) → (Nat → Int32) → (Nat → Int32) → (Nat → Int32) → (Nat → Int32) → (Nat → Int32) → (Nat → Int32) → (Nat → Int32) → (Nat → Int32) → (Nat → Int32) → (Nat → Int32) → (Nat → Int32) → (Nat → Int32) → (Nat → Int32) → (Nat → Int64) → (Nat → Int32) → (Nat → Int32) → (Nat → Int32) → (Nat → Int32) → Prop} {x1 : Int32} {s : Nat → Int32} {n j a i0 m : Nat} {o : Nat → Nat} (hS : bu_HS a_symbol a_first a_second s n o 0) (hm : i0 + m ≤ n) (hn : n ≤ 31) (ha : a + m ≤ 31) (hod : ∀ q, q < m → a_order q = nI (o (i0 + q))) {A : List Int32}
    (K : ∀ ln, bu_sg ln 0 (a + m) = A ++ bu_sg s i0 m → J (nI (a + m)) (nI (j + 1)) f_written f_height f_rules f_patterns f_root f_lined a_post a_begin a_leftSize a_left a_rightSize a_right a_patternSymbol a_patternFirst a_patternSecond a_top a_used a_symbol a_first a_second a_above a_size a_fitting ln a_order a_pile a_bound) :
    ∀ (d q nn : Nat) (ln : Nat → Int32), q + d = m → d < nn → bu_sg ln 0 (a + q) = A ++ bu_sg s i0 q → wX_lineUpRight_67 post J x1 (nI j) (nI m) f_written f_height f_rules f_patterns f_root f_lined nn (nI (a + q)) (nI q) a_post a_begin a_leftSize a_left a_rightSize a_right a_patternSymbol a_patternFirst a_patternSecond a_top a_used a_symbol a_first a_second a_above a_size a_fitting ln a_order a_pile a_bound := by
  intro d
  induction d with
  | zero =>
    intro q nn ln hd hnn hl
    obtain ⟨z, rfl⟩ : ∃ z, nn = z + 1 := ⟨nn - 1, by omega⟩
    have e : q = m := by omega
    subst e
    exact br_t (nI_le (by omega) (by omega)) (nm_r (nI_1 j) (K ln hl))
  | succ d ih =>
    intro q nn ln hd hnn hl
    obtain ⟨z, rfl⟩ : ∃ z, nn = z + 1 := ⟨nn - 1, by omega⟩
    have o1 := HS_o hS (Nat.zero_le (i0 + q)) (by omega)
    refine br_f (nI_ge (by omega) (by omega)) ⟨pk_in q 32 (by omega), ?_⟩
    rw [bu_cl (n := q) (by omega), hod q (by omega), bu_cl o1.2, bu_cl (n := a + q) (by omega), HS_sy hS (Nat.zero_le _) (by omega)]
    refine ⟨pk_in _ 64 o1.2, pk_in (a + q) 32 (by omega), nm_e (nm_r (e' := nI (a + (q + 1))) (nI_1 (a + q)) (nm_r (nI_1 q) (ih (q + 1) z _ (by omega) (by omega) ?_)))⟩
    rw [← Nat.add_assoc, bu_sg_up, hl, bu_sg_sn, List.append_assoc]
theorem xq_lr4 {post : SX → Prop} {s : Nat → Int32} {n k rz : Nat} {o q : Nat → Nat} (hk : k < 6) (hz : rz ≤ 31) (ez : a_rightSize k = nI rz) (hS : bu_HS a_symbol a_first a_second s n o 0) (hF : bu_FO s n 1 0) (hn : n ≤ 31) (hr : ∀ j, j < rz → ∃ m : Nat, m ≤ 9 ∧ a_right (31 * k + j) = nI m)
    (hq : ∀ v, v < 3 → (∃ j, j < rz ∧ a_right (31 * k + j) = nI (7 + v)) → q v < n ∧ a_bound v = nI (o (q v))) :
    ∀ (f j a nn : Nat) (ln od pl : Nat → Int32), j + f = rz → f < nn → a + (bu_ex s n (fun i => a_right (31 * k + i)) q f j).length ≤ 31 →
    (∀ ln' od' pl', bu_sg ln' 0 (a + (bu_ex s n (fun i => a_right (31 * k + i)) q f j).length) = bu_sg ln 0 a ++ bu_ex s n (fun i => a_right (31 * k + i)) q f j → post (f_written, f_height, f_rules, f_patterns, f_root, nI (a + (bu_ex s n (fun i => a_right (31 * k + i)) q f j).length), a_post, a_begin, a_leftSize, a_left, a_rightSize, a_right, a_patternSymbol, a_patternFirst, a_patternSecond, a_top, a_used, a_symbol, a_first, a_second, a_above, a_size, a_fitting, ln', od', pl', a_bound)) →
    wX_lineUpRight_4 post (nI k) nn (nI a) (nI j) f_written f_height f_rules f_patterns f_root f_lined a_post a_begin a_leftSize a_left a_rightSize a_right a_patternSymbol a_patternFirst a_patternSecond a_top a_used a_symbol a_first a_second a_above a_size a_fitting ln od pl a_bound := by
  have ek : (nI k).toNatClampNeg = k := bu_cl (by omega)
  intro f
  induction f with
  | zero =>
    intro j a nn ln od pl hj hnn hl K
    obtain ⟨m, rfl⟩ : ∃ m, nn = m + 1 := ⟨nn - 1, by omega⟩
    refine And.intro (pk_in k 6 hk) (br_t (by rw [ek, ez]; exact nI_le (by omega) (by omega)) ?_)
    exact K ln od pl (by rw [ex_0, List.append_nil]; rfl)
  | succ f ih =>
    intro j a nn ln od pl hj hnn hl K
    obtain ⟨m, rfl⟩ : ∃ m, nn = m + 1 := ⟨nn - 1, by omega⟩
    refine And.intro (pk_in k 6 hk) (br_f (by rw [ek, ez]; exact nI_ge (by omega) (by omega)) ?_)
    rw [bu_31k, bu_cl2 (n := 31 * k + j) (by omega)]
    refine ⟨pk_in (31 * k + j) 186 (by omega), nm_e ?_⟩
    by_cases h7 : 7 ≤ a_right (31 * k + j)
    · obtain ⟨u, hu, e⟩ := bu_isv (hr j (by omega)) h7
      obtain ⟨q1, q2⟩ := hq u hu ⟨j, by omega, e⟩
      have ge := fe_ge s n 1 (q u)
      have le := fe_le (s := s) 1 (Nat.le_of_lt q1)
      rw [ex_v (rt := fun i => a_right (31 * k + i)) (j := j) hu e] at K hl
      rw [List.length_append, bu_sg_len, ← Nat.add_assoc] at K hl
      refine br_t h7 ?_
      rw [e, bu_vi hu, bu_cl (n := u) (by omega), q2]
      refine ⟨pk_in u 3 hu, xq_lp hS hF hn q1 (fun od1 pl1 hod => Exists.intro (bu_fe s n 1 (q u) - q u + 1) ?_)⟩
      refine xq_lr67 (s := s) (i0 := q u) (m := bu_fe s n 1 (q u) - q u) (a := a) hS (by omega) hn (by omega) (fun z hz => hod z (by omega)) (A := bu_sg ln 0 a) (fun ln1 h1 => ?_) (bu_fe s n 1 (q u) - q u) 0 _ ln (by omega) (by omega) ?_
      · refine ih (j + 1) (a + (bu_fe s n 1 (q u) - q u)) m ln1 od1 pl1 (by omega) (by omega) hl (fun ln2 od2 pl2 h2 => ?_)
        rw [h1, List.append_assoc] at h2
        exact K ln2 od2 pl2 h2
      · rw [bu_sg_0, List.append_nil]; rfl
    · rw [ex_n (rt := fun i => a_right (31 * k + i)) (j := j) h7] at K hl
      rw [List.length_append, List.length_cons, List.length_nil, ← Nat.add_assoc] at K hl
      refine br_f h7 ?_
      rw [bu_cl (n := a) (by omega)]
      refine ⟨pk_in a 32 (by omega), nm_e (nm_r (nI_1 a) (nm_r (nI_1 j) (ih (j + 1) (a + 1) m _ od pl (by omega) (by omega) hl (fun ln2 od2 pl2 h2 => ?_))))⟩
      rw [bu_sg_up, List.append_assoc] at h2
      exact K ln2 od2 pl2 h2
end XS
end
section
/-! a tree takes the place of a part of another one: pure -/
def bu_inj (o : Nat → Nat) (n : Nat) : Prop := ∀ j k, j < n → k < n → o j = o k → j = k
def bu_AB (ab : Nat → Int32) (s : Nat → Int32) (n : Nat) (o : Nat → Nat) : Prop :=
  ∀ j, j < n → (0 < bu_ar (s j) → ab (o (j + 1)) = nI (o j)) ∧ (1 < bu_ar (s j) → ab (o (bu_fe s n 1 (j + 1))) = nI (o j))
/-- one tree -/
def bu_T1 (sy fi se ab : Nat → Int32) (s : Nat → Int32) (n : Nat) (o : Nat → Nat) : Prop :=
  0 < n ∧ n ≤ 31 ∧ bu_FO s n 1 0 ∧ bu_HS sy fi se s n o 0 ∧ bu_inj o n ∧ bu_AB ab s n o ∧ ab (o 0) = 0
/-- the place of the part above place q -/
theorem T1_par {sy fi se ab : Nat → Int32} {s : Nat → Int32} {n : Nat} {o : Nat → Nat} (h : bu_T1 sy fi se ab s n o) {q : Nat} (h0 : 0 < q) (hq : q < n) : ∃ j, j < q ∧ ((0 < bu_ar (s j) ∧ q = j + 1) ∨ (1 < bu_ar (s j) ∧ q = bu_fe s n 1 (j + 1))) ∧ ab (o q) = nI (o j) := by
  obtain ⟨_, _, hF, hS, hI, hA, _⟩ := h
  have e : bu_fe s n 1 0 = n := FO_end (Nat.zero_le _) hF
  obtain ⟨j, _, j2, j3⟩ := fe_par s n q n 0 (by omega) h0 (by omega)
  refine ⟨j, j2, j3, ?_⟩
  rcases j3 with ⟨a, b⟩ | ⟨a, b⟩
  · rw [b]; exact (hA j (by omega)).1 a
  · rw [b]; exact (hA j (by omega)).2 a
/-- a place has one part above it -/
theorem T1_uni {sy fi se ab : Nat → Int32} {s : Nat → Int32} {n : Nat} {o : Nat → Nat} (h : bu_T1 sy fi se ab s n o) {q i j : Nat} (hi : i < n) (hj : j < n) (ei : ab (o q) = nI (o i)) (ej : ab (o q) = nI (o j)) : i = j := by
  obtain ⟨_, _, hF, hS, hI, hA, _⟩ := h
  have a := HS_o hS (Nat.zero_le _) hi
  have b := HS_o hS (Nat.zero_le _) hj
  rw [ei] at ej
  exact hI i j hi hj ((nI_eq (by omega) (by omega)).mp ej)
def bu_so (o oR : Nat → Nat) (q t r : Nat) : Nat → Nat := fun j => if j < q then o j else if j < q + r then oR (j - q) else o (j - r + t)
theorem so_1 {o oR : Nat → Nat} {q t r j : Nat} (h : j < q) : bu_so o oR q t r j = o j := if_pos h
theorem so_2 {o oR : Nat → Nat} {q t r j : Nat} (h : j < r) : bu_so o oR q t r (q + j) = oR j := by
  unfold bu_so
  rw [if_neg (by omega), if_pos (by omega), Nat.add_sub_cancel_left]
theorem so_3 {o oR : Nat → Nat} {q t r j : Nat} : bu_so o oR q t r (q + r + j) = o (q + t + j) := by
  unfold bu_so
  rw [if_neg (by omega), if_neg (by omega)]
  exact congrArg o (by omega)
section SP
variable {P : Nat} {ps pf pg sy fi se ab sz fi' se' : Nat → Int32} {ft : Nat → Int64} {s s' w : Nat → Int32} {n n' q t r : Nat} {o oR : Nat → Nat}
theorem bu_SPF (hF : bu_FO s n 1 0) (hR : bu_FO w r 1 0) (hq : q < n) (ht : bu_fe s n 1 q = q + t) (hn : n' + t = n + r)
    (hA : ∀ j, j < q → s' j = s j) (hM : ∀ j, j < r → s' (q + j) = w j) (hB : ∀ j, q + t + j < n → s' (q + r + j) = s (q + t + j)) : bu_FO s' n' 1 0 := by
  have le := fe_le (s := s) 1 (Nat.le_of_lt hq)
  rw [ht] at le
  obtain ⟨c, hc⟩ := FO_at hF hq
  have hT := FO_part hc (Nat.le_of_lt hq) ht
  unfold bu_FO at hF hR ⊢
  rw [Nat.sub_zero] at hF hR ⊢
  have e1 : bu_sg s 0 n = bu_sg s 0 q ++ (bu_sg s q t ++ bu_sg s (q + t) (n - (q + t))) := by
    rw [show n = q + (t + (n - (q + t))) from by omega, bu_sg_app, bu_sg_app, Nat.zero_add, show q + (t + (n - (q + t))) - (q + t) = n - (q + t) from by omega]
  have e2 : bu_sg s' 0 n' = bu_sg s 0 q ++ (bu_sg w 0 r ++ bu_sg s (q + t) (n - (q + t))) := by
    rw [show n' = q + (r + (n - (q + t))) from by omega, bu_sg_app, bu_sg_app, Nat.zero_add]
    rw [bu_sg_cg (f := s') (g := s) q 0 0 (fun j hj => hA _ (by omega)), bu_sg_cg (f := s') (g := w) r q 0 (fun j hj => by rw [Nat.zero_add]; exact hM j hj), bu_sg_cg (f := s') (g := s) (n - (q + t)) (q + r) (q + t) (fun j hj => hB j (by omega))]
  rw [e1] at hF
  rw [e2]
  exact bu_Fo_rep hT hR _ _ hF
theorem bu_SPH (hS : bu_HS sy fi se s n o 0) (hH : bu_HS sy fi se w r oR 0) (hF : bu_FO s n 1 0) (hR : bu_FO w r 1 0) (hq : q < n) (ht : bu_fe s n 1 q = q + t) (hn : n' + t = n + r)
    (hA : ∀ j, j < q → s' j = s j) (hM : ∀ j, j < r → s' (q + j) = w j) (hB : ∀ j, q + t + j < n → s' (q + r + j) = s (q + t + j))
    (f1 : ∀ j, j < n → 0 < bu_ar (s j) → j + 1 = q → fi' (o j) = nI (oR 0)) (f2 : ∀ j, j < n → ¬ (0 < bu_ar (s j) ∧ j + 1 = q) → fi' (o j) = fi (o j))
    (s1 : ∀ j, j < n → 1 < bu_ar (s j) → bu_fe s n 1 (j + 1) = q → se' (o j) = nI (oR 0)) (s2 : ∀ j, j < n → ¬ (1 < bu_ar (s j) ∧ bu_fe s n 1 (j + 1) = q) → se' (o j) = se (o j))
    (f3 : ∀ j, j < r → fi' (oR j) = fi (oR j)) (s3 : ∀ j, j < r → se' (oR j) = se (oR j)) : bu_HS sy fi' se' s' n' (bu_so o oR q t r) 0 := by
  have le := fe_le (s := s) 1 (Nat.le_of_lt hq)
  rw [ht] at le
  obtain ⟨c, hc⟩ := FO_at hF hq
  have hT := FO_part hc (Nat.le_of_lt hq) ht
  have r0 : 0 < r := by
    have := FO_len hR
    omega
  have hR1 : bu_Fo 1 (bu_sg s' q r) := by
    unfold bu_FO at hR
    rw [Nat.sub_zero] at hR
    rw [bu_sg_cg (f := s') (g := w) r q 0 (fun j hj => by rw [Nat.zero_add]; exact hM j hj)]
    exact hR
  intro j _ hj
  by_cases c1 : j < q
  · -- ahead of the part
    have jn : j < n := by omega
    obtain ⟨h1, h2, h3, h4, h5⟩ := hS j (Nat.zero_le _) jn
    rw [so_1 c1, hA j c1]
    refine ⟨h1, h2, h3, ?_, ?_⟩
    · by_cases a : 0 < bu_ar (s j)
      · rw [if_pos a] at h4 ⊢
        by_cases e : j + 1 = q
        · rw [f1 j jn a e, e]
          have := so_2 (o := o) (oR := oR) (q := q) (t := t) (r := r) (j := 0) r0
          rw [Nat.add_zero] at this
          rw [this]
        · rw [f2 j jn (fun z => e z.2), so_1 (by omega)]
          exact h4
      · rw [if_neg a] at h4 ⊢
        rw [f2 j jn (fun z => a z.1)]
        exact h4
    · by_cases a : 1 < bu_ar (s j)
      · rw [if_pos a] at h5 ⊢
        rcases fe_cut1 hq ht hT hR1 hn hA hB 1 (i := j + 1) (by omega) with ⟨z1, z2⟩ | ⟨z1, z2⟩
        · rw [z2]
          by_cases e : bu_fe s n 1 (j + 1) = q
          · rw [s1 j jn a e, e]
            have := so_2 (o := o) (oR := oR) (q := q) (t := t) (r := r) (j := 0) r0
            rw [Nat.add_zero] at this
            rw [this]
          · rw [s2 j jn (fun z => e z.2), so_1 (by omega)]
            exact h5
        · have hk : bu_fe s n 1 (j + 1) ≠ q := by
            have := fe_gt (s := s) 0 hq
            rw [Nat.zero_add, ht] at this
            omega
          rw [s2 j jn (fun z => hk z.2), show bu_fe s' n' 1 (j + 1) = q + r + (bu_fe s n 1 (j + 1) - (q + t)) from by omega, so_3, show q + t + (bu_fe s n 1 (j + 1) - (q + t)) = bu_fe s n 1 (j + 1) from by omega]
          exact h5
      · rw [if_neg a] at h5 ⊢
        rw [s2 j jn (fun z => a z.1)]
        exact h5
  · by_cases c2 : j < q + r
    · -- in the new term
      obtain ⟨i, rfl⟩ : ∃ i, j = q + i := ⟨j - q, by omega⟩
      have hi : i < r := by omega
      obtain ⟨h1, h2, h3, h4, h5⟩ := hH i (Nat.zero_le _) hi
      rw [so_2 hi, hM i hi, f3 i hi, s3 i hi]
      refine ⟨h1, h2, h3, ?_, ?_⟩
      · by_cases a : 0 < bu_ar (w i)
        · rw [if_pos a] at h4 ⊢
          rw [Nat.add_assoc, so_2 (FO_c1 hR hi a)]
          exact h4
        · rw [if_neg a] at h4 ⊢
          exact h4
      · by_cases a : 1 < bu_ar (w i)
        · rw [if_pos a] at h5 ⊢
          have i1 := FO_c1 hR hi (by omega)
          obtain ⟨d, hd⟩ := FO_at hR i1
          rw [Nat.add_assoc, fe_cut2 (w := w) (r := r) (by omega) hM 1 (i := i + 1) (by omega) hd (by omega), so_2 (FO_c2 hR hi a)]
          exact h5
        · rw [if_neg a] at h5 ⊢
          exact h5
    · -- behind
      obtain ⟨i, rfl⟩ : ∃ i, j = q + r + i := ⟨j - (q + r), by omega⟩
      have hi : q + t + i < n := by omega
      obtain ⟨h1, h2, h3, h4, h5⟩ := hS (q + t + i) (Nat.zero_le _) hi
      have g2 := fe_ge s n 1 (q + t + i + 1)
      rw [so_3, hB i hi, f2 _ hi (fun z => by omega), s2 _ hi (fun z => by omega)]
      refine ⟨h1, h2, h3, ?_, ?_⟩
      · rw [Nat.add_assoc (q + r) i 1, so_3]
        exact h4
      · have z := fe_cut3 (s := s) (s' := s') (q := q) hn hB 1 (i + 1)
        rw [Nat.add_assoc (q + t) i 1] at g2 h5
        rw [Nat.add_assoc (q + r) i 1, show bu_fe s' n' 1 (q + r + (i + 1)) = q + r + (bu_fe s n 1 (q + t + (i + 1)) - (q + t)) from by omega, so_3, show q + t + (bu_fe s n 1 (q + t + (i + 1)) - (q + t)) = bu_fe s n 1 (q + t + (i + 1)) from by omega]
        exact h5
theorem bu_SPI (hI : bu_inj o n) (hJ : bu_inj oR r) (hd : ∀ j k, j < n → k < r → o j ≠ oR k) (hq : q + t ≤ n) (hn : n' + t = n + r) : bu_inj (bu_so o oR q t r) n' := by
  have key : ∀ j, j < n' → (∃ a, a < n ∧ bu_so o oR q t r j = o a ∧ ((a < q ∧ j = a) ∨ (q + t ≤ a ∧ j + t = a + r))) ∨ (∃ a, a < r ∧ bu_so o oR q t r j = oR a ∧ j = q + a) := by
    intro j hj
    by_cases c1 : j < q
    · exact Or.inl ⟨j, by omega, so_1 c1, Or.inl ⟨c1, rfl⟩⟩
    · by_cases c2 : j < q + r
      · obtain ⟨i, rfl⟩ : ∃ i, j = q + i := ⟨j - q, by omega⟩
        exact Or.inr ⟨i, by omega, so_2 (by omega), rfl⟩
      · obtain ⟨i, rfl⟩ : ∃ i, j = q + r + i := ⟨j - (q + r), by omega⟩
        exact Or.inl ⟨q + t + i, by omega, so_3, Or.inr ⟨by omega, by omega⟩⟩
  intro j k hj hk e
  rcases key j hj with ⟨a, a1, a2, a3⟩ | ⟨a, a1, a2, a3⟩
  · rcases key k hk with ⟨b, b1, b2, b3⟩ | ⟨b, b1, b2, b3⟩
    · rw [a2, b2] at e
      have := hI a b a1 b1 e
      omega
    · rw [a2, b2] at e
      exact absurd e (hd a b a1 b1)
  · rcases key k hk with ⟨b, b1, b2, b3⟩ | ⟨b, b1, b2, b3⟩
    · rw [a2, b2] at e
      exact absurd e.symm (hd b a b1 a1)
    · rw [a2, b2] at e
      have := hJ a b a1 b1 e
      omega
theorem bu_SPA (hS : bu_HS sy fi se s n o 0) (hI : bu_inj o n) (hJ : bu_inj oR r) (hd : ∀ j k, j < n → k < r → o j ≠ oR k) (hF : bu_FO s n 1 0) (hR : bu_FO w r 1 0) (hq : q < n) (ht : bu_fe s n 1 q = q + t) (hn : n' + t = n + r)
    (hA : ∀ j, j < q → s' j = s j) (hM : ∀ j, j < r → s' (q + j) = w j) (hB : ∀ j, q + t + j < n → s' (q + r + j) = s (q + t + j))
    (a1 : bu_AB ab s n o) (a2 : bu_AB ab w r oR) : bu_AB (upd ab (oR 0) (ab (o q))) s' n' (bu_so o oR q t r) := by
  have le := fe_le (s := s) 1 (Nat.le_of_lt hq)
  rw [ht] at le
  obtain ⟨c, hc⟩ := FO_at hF hq
  have hT := FO_part hc (Nat.le_of_lt hq) ht
  have r0 : 0 < r := by
    have := FO_len hR
    omega
  have hR1 : bu_Fo 1 (bu_sg s' q r) := by
    unfold bu_FO at hR
    rw [Nat.sub_zero] at hR
    rw [bu_sg_cg (f := s') (g := w) r q 0 (fun j hj => by rw [Nat.zero_add]; exact hM j hj)]
    exact hR
  have soq : bu_so o oR q t r q = oR 0 := by
    have := so_2 (o := o) (oR := oR) (q := q) (t := t) (r := r) (j := 0) r0
    rw [Nat.add_zero] at this
    exact this
  have old : ∀ j, j < n → upd ab (oR 0) (ab (o q)) (o j) = ab (o j) := fun j hj => pk_un (hd j 0 hj r0)
  intro j hj
  by_cases c1 : j < q
  · have jn : j < n := by omega
    rw [so_1 c1, hA j c1]
    constructor
    · intro a
      have h := (a1 j jn).1 a
      by_cases e : j + 1 = q
      · rw [e, soq, pk_us, ← e]
        exact h
      · rw [so_1 (by omega), old _ (by omega)]
        exact h
    · intro a
      have h := (a1 j jn).2 a
      rcases fe_cut1 hq ht hT hR1 hn hA hB 1 (i := j + 1) (by omega) with ⟨z1, z2⟩ | ⟨z1, z2⟩
      · rw [z2]
        by_cases e : bu_fe s n 1 (j + 1) = q
        · rw [e, soq, pk_us, ← e]
          exact h
        · rw [so_1 (by omega), old _ (by omega)]
          exact h
      · rw [show bu_fe s' n' 1 (j + 1) = q + r + (bu_fe s n 1 (j + 1) - (q + t)) from by omega, so_3, show q + t + (bu_fe s n 1 (j + 1) - (q + t)) = bu_fe s n 1 (j + 1) from by omega, old _ (FO_c2 hF jn a)]
        exact h
  · by_cases c2 : j < q + r
    · obtain ⟨i, rfl⟩ : ∃ i, j = q + i := ⟨j - q, by omega⟩
      have hi : i < r := by omega
      rw [so_2 hi, hM i hi]
      constructor
      · intro a
        have i1 := FO_c1 hR hi a
        rw [Nat.add_assoc, so_2 i1, pk_un (fun e => by have := hJ _ _ i1 r0 e; omega)]
        exact (a2 i hi).1 a
      · intro a
        have i1 := FO_c1 hR hi (by omega)
        have i2 := FO_c2 hR hi a
        have g := fe_ge w r 1 (i + 1)
        obtain ⟨d, hd⟩ := FO_at hR i1
        rw [Nat.add_assoc, fe_cut2 (w := w) (r := r) (by omega) hM 1 (i := i + 1) (by omega) hd (by omega), so_2 i2, pk_un (fun e => by have := hJ _ _ i2 r0 e; omega)]
        exact (a2 i hi).2 a
    · obtain ⟨i, rfl⟩ : ∃ i, j = q + r + i := ⟨j - (q + r), by omega⟩
      have hi : q + t + i < n := by omega
      have g2 := fe_ge s n 1 (q + t + i + 1)
      rw [so_3, hB i hi]
      constructor
      · intro a
        rw [Nat.add_assoc (q + r) i 1, so_3, old (q + t + (i + 1)) (FO_c1 hF hi a)]
        exact (a1 _ hi).1 a
      · intro a
        have h := (a1 _ hi).2 a
        have h2 := FO_c2 hF hi a
        have z := fe_cut3 (s := s) (s' := s') (q := q) hn hB 1 (i + 1)
        rw [Nat.add_assoc (q + t) i 1] at g2 h h2
        rw [Nat.add_assoc (q + r) i 1, show bu_fe s' n' 1 (q + r + (i + 1)) = q + r + (bu_fe s n 1 (q + t + (i + 1)) - (q + t)) from by omega, so_3, show q + t + (bu_fe s n 1 (q + t + (i + 1)) - (q + t)) = bu_fe s n 1 (q + t + (i + 1)) from by omega, old _ h2]
        exact h
end SP
end
section
/-! X: replace -/
theorem bu_SPW {P : Nat} {ps pf pg sy fi se sz fi' se' : Nat → Int32} {ft : Nat → Int64} {n n' q t r j0 : Nat} {o oR : Nat → Nat} (hn : n' + t = n + r) (hq : q + t ≤ n) (w1 : ∀ i, i < n → bu_WO P ps pf pg sy fi se sz ft (o i)) (w2 : ∀ i, i < r → bu_WO P ps pf pg sy fi se sz ft (oR i))
    (hf : ∀ j, j < n → ¬ (j < q ∧ j = j0) → fi' (o j) = fi (o j) ∧ se' (o j) = se (o j)) (f3 : ∀ j, j < r → fi' (oR j) = fi (oR j)) (s3 : ∀ j, j < r → se' (oR j) = se (oR j)) :
    ∀ i, i < n' → ¬ (i < q ∧ i = j0) → bu_WO P ps pf pg sy fi' se' sz ft (bu_so o oR q t r i) := by
  intro i hi hx
  by_cases c1 : i < q
  · rw [so_1 c1]
    have h := hf i (by omega) hx
    exact WO_cg (w1 i (by omega)) rfl h.1 h.2 rfl rfl rfl rfl (fun _ => rfl) (fun _ => rfl)
  · by_cases c2 : i < q + r
    · obtain ⟨k, rfl⟩ : ∃ k, i = q + k := ⟨i - q, by omega⟩
      rw [so_2 (by omega)]
      exact WO_cg (w2 k (by omega)) rfl (f3 k (by omega)) (s3 k (by omega)) rfl rfl rfl rfl (fun _ => rfl) (fun _ => rfl)
    · obtain ⟨k, rfl⟩ : ∃ k, i = q + r + k := ⟨i - (q + r), by omega⟩
      rw [so_3]
      have h := hf (q + t + k) (by omega) (by omega)
      exact WO_cg (w1 _ (by omega)) rfl h.1 h.2 rfl rfl rfl rfl (fun _ => rfl) (fun _ => rfl)
section XT
variable {f_written f_height f_rules f_patterns f_root f_lined : Int32} {a_post a_begin a_leftSize a_left a_rightSize a_right a_patternSymbol a_patternFirst a_patternSecond a_top a_used a_symbol a_first a_second a_above a_size a_line a_order a_pile a_bound : Nat → Int32} {a_fitting : Nat → Int64}
theorem xq_rp56 {post : SX → Prop} {s : Nat → Int32} {n P : Nat} {o : Nat → Nat} (hT : bu_T1 a_symbol a_first a_second a_above s n o) (hP : P ≤ 48) (h1 : 0 < P) (eP : f_patterns = nI P) (hV : bu_PV P a_patternFirst a_patternSecond)
    (K : ∀ sz ft, (∀ i, i < n → bu_WO P a_patternSymbol a_patternFirst a_patternSecond a_symbol a_first a_second sz ft (o i)) → sz 0 = 0 → post (f_written, f_height, f_rules, f_patterns, f_root, f_lined, a_post, a_begin, a_leftSize, a_left, a_rightSize, a_right, a_patternSymbol, a_patternFirst, a_patternSecond, a_top, a_used, a_symbol, a_first, a_second, a_above, sz, ft, a_line, a_order, a_pile, a_bound)) :
    ∀ (b j c nn : Nat) (sz : Nat → Int32) (ft : Nat → Int64), j ≤ b → j < n → j + c ≤ 30 → j + 1 < nn → (∀ i, i < n → i ≠ j → bu_WO P a_patternSymbol a_patternFirst a_patternSecond a_symbol a_first a_second sz ft (o i)) → sz 0 = 0 →
    wX_replace_56 post nn (nI (o j)) (nI c) f_written f_height f_rules f_patterns f_root f_lined a_post a_begin a_leftSize a_left a_rightSize a_right a_patternSymbol a_patternFirst a_patternSecond a_top a_used a_symbol a_first a_second a_above sz ft a_line a_order a_pile a_bound := by
  obtain ⟨n0, n31, hF, hS, hI, hA, hz0⟩ := id hT
  intro b
  induction b with
  | zero =>
    intro j c nn sz ft hb hj hc hn hW hz
    have j0 : j = 0 := by omega
    subst j0
    obtain ⟨m, rfl⟩ : ∃ m, nn = m + 2 := ⟨nn - 2, by omega⟩
    have ho := HS_o hS (Nat.zero_le _) hj
    refine br_f (nI_ge (b := 31) (by omega) (by decide)) (br_f (bu_ne0 ho.1 ho.2) (xq_won hS hF hI hj hP h1 eP hV ?_))
    intro sz' ft' z1 z2 z3
    have hall : ∀ i, i < n → bu_WO P a_patternSymbol a_patternFirst a_patternSecond a_symbol a_first a_second sz' ft' (o i) := by
      intro i hi
      by_cases e : i = 0
      · rw [e]; exact z3
      · refine WO_fr (hW i hi e) (fun z => e (hI i 0 hi hj z)) ?_ ?_ z1 z2
        · rcases HS_fc hS hF (Nat.zero_le _) hi with q | q
          · rw [q.2]; omega
          · rw [q.2.2]
            intro z
            have := hI _ _ q.2.1 hj z
            omega
        · rcases HS_sc hS hF (Nat.zero_le _) hi with q | q
          · rw [q.2]; omega
          · rw [q.2.2.2]
            intro z
            have := hI _ _ q.2.2.1 hj z
            omega
    have hz' : sz' 0 = 0 := by rw [z1 0 (by omega)]; exact hz
    have KK := K sz' ft' hall hz'
    refine ⟨pk_in _ 64 ho.2, nm_r (e' := 0) (by rw [bu_cl ho.2]; exact hz0) (nm_e ?_)⟩
    exact br_c (fun _ => KK) (fun _ => br_t rfl KK)
  | succ b ih =>
    intro j c nn sz ft hb hj hc hn hW hz
    by_cases jb : j ≤ b
    · exact ih j c nn sz ft jb hj hc hn hW hz
    obtain ⟨m, rfl⟩ : ∃ m, nn = m + 1 := ⟨nn - 1, by omega⟩
    have ho := HS_o hS (Nat.zero_le _) hj
    obtain ⟨p, p1, p2, p3⟩ := T1_par hT (by omega) hj
    refine br_f (nI_ge (b := 31) (by omega) (by decide)) (br_f (bu_ne0 ho.1 ho.2) (xq_won hS hF hI hj hP h1 eP hV ?_))
    intro sz' ft' z1 z2 z3
    refine ⟨pk_in _ 64 ho.2, nm_r (e' := nI (o p)) (by rw [bu_cl ho.2]; exact p3) (nm_r (nI_1 c) (ih p (c + 1) m sz' ft' (by omega) (by omega) (by omega) (by omega) ?_ ?_))⟩
    · intro i hi hip
      by_cases e : i = j
      · rw [e]; exact z3
      · refine WO_fr (hW i hi e) (fun z => e (hI i j hi hj z)) ?_ ?_ z1 z2
        · rcases HS_fc hS hF (Nat.zero_le _) hi with q | q
          · rw [q.2]; omega
          · rw [q.2.2]
            intro z
            have ej := hI _ _ q.2.1 hj z
            have := (hA i hi).1 q.1
            rw [ej] at this
            exact hip (T1_uni hT hi (by omega) this p3)
        · rcases HS_sc hS hF (Nat.zero_le _) hi with q | q
          · rw [q.2]; omega
          · rw [q.2.2.2]
            intro z
            have ej := hI _ _ q.2.2.1 hj z
            have := (hA i hi).2 q.1
            rw [ej] at this
            exact hip (T1_uni hT hi (by omega) this p3)
    · rw [z1 0 (by omega)]; exact hz
theorem xq_rpl {post : SX → Prop} {s s' w : Nat → Int32} {n n' q t r P : Nat} {o oR : Nat → Nat} (hT : bu_T1 a_symbol a_first a_second a_above s n o) (hP : P ≤ 48) (h1 : 0 < P) (eP : f_patterns = nI P) (hV : bu_PV P a_patternFirst a_patternSecond)
    (hR : bu_FO w r 1 0) (hH : bu_HS a_symbol a_first a_second w r oR 0) (hJ : bu_inj oR r) (hd : ∀ j k, j < n → k < r → o j ≠ oR k) (a2 : bu_AB a_above w r oR)
    (w1 : ∀ i, i < n → bu_WO P a_patternSymbol a_patternFirst a_patternSecond a_symbol a_first a_second a_size a_fitting (o i)) (w2 : ∀ i, i < r → bu_WO P a_patternSymbol a_patternFirst a_patternSecond a_symbol a_first a_second a_size a_fitting (oR i)) (hz : a_size 0 = 0)
    (hq : q < n) (ht : bu_fe s n 1 q = q + t) (hn : n' + t = n + r) (hn31 : n' ≤ 31) (hA : ∀ j, j < q → s' j = s j) (hM : ∀ j, j < r → s' (q + j) = w j) (hB : ∀ j, q + t + j < n → s' (q + r + j) = s (q + t + j)) (er : f_root = nI (o 0))
    (K : ∀ fi' se' sz ft, bu_T1 a_symbol fi' se' (upd a_above (oR 0) (a_above (o q))) s' n' (bu_so o oR q t r) → (∀ i, i < n' → bu_WO P a_patternSymbol a_patternFirst a_patternSecond a_symbol fi' se' sz ft (bu_so o oR q t r i)) → sz 0 = 0 → (∀ j, j < t → fi' (o (q + j)) = a_first (o (q + j)) ∧ se' (o (q + j)) = a_second (o (q + j))) → post (f_written, f_height, f_rules, f_patterns, nI (bu_so o oR q t r 0), f_lined, a_post, a_begin, a_leftSize, a_left, a_rightSize, a_right, a_patternSymbol, a_patternFirst, a_patternSecond, a_top, a_used, a_symbol, fi', se', upd a_above (oR 0) (a_above (o q)), sz, ft, a_line, a_order, a_pile, a_bound)) :
    wpX_replace post (f_written, f_height, f_rules, f_patterns, f_root, f_lined, a_post, a_begin, a_leftSize, a_left, a_rightSize, a_right, a_patternSymbol, a_patternFirst, a_patternSecond, a_top, a_used, a_symbol, a_first, a_second, a_above, a_size, a_fitting, a_line, a_order, a_pile, a_bound) (nI (o q)) (nI (oR 0)) := by
  obtain ⟨n0, n31, hF, hS, hI, a1, hz0⟩ := id hT
  have ho := HS_o hS (Nat.zero_le _) hq
  have le := fe_le (s := s) 1 (Nat.le_of_lt hq)
  have gt := fe_gt (s := s) 0 hq
  rw [Nat.zero_add] at gt
  rw [ht] at le gt
  have r0 : 0 < r := by
    have := FO_len hR
    omega
  have oR0 := HS_o hH (Nat.zero_le _) r0
  have hF' := bu_SPF hF hR hq ht hn hA hM hB
  have hI' := bu_SPI hI hJ hd le hn
  have hA' := bu_SPA hS hI hJ hd hF hR hq ht hn hA hM hB a1 a2
  have soq : bu_so o oR q t r q = oR 0 := by
    have := so_2 (o := o) (oR := oR) (q := q) (t := t) (r := r) (j := 0) r0
    rw [Nat.add_zero] at this
    exact this
  have so00 : q = 0 → bu_so o oR q t r 0 = oR 0 := fun e => by
    have := soq
    rw [e] at this ⊢
    exact this
  have hz0' : upd a_above (oR 0) (a_above (o q)) (bu_so o oR q t r 0) = 0 := by
    by_cases q0 : q = 0
    · rw [so00 q0, pk_us, q0]; exact hz0
    · rw [so_1 (by omega), pk_un (hd 0 0 n0 r0)]; exact hz0
  refine And.intro (pk_in _ 64 ho.2) (nm_r (e' := a_above (o q)) (by rw [bu_cl ho.2]) (And.intro (pk_in _ 64 oR0.2) (nm_r (e' := upd a_above (oR 0) (a_above (o q))) (by rw [bu_cl oR0.2]) ?_)))
  by_cases q0 : q = 0
  · have e0 : a_above (o q) = 0 := by rw [q0]; exact hz0
    have so0 : bu_so o oR q t r 0 = oR 0 := so00 q0
    refine br_t e0 (Exists.intro 1 (br_f (by decide) (br_t e0 ?_)))
    have hH' := bu_SPH (fi' := a_first) (se' := a_second) hS hH hF hR hq ht hn hA hM hB (fun j _ _ z => by omega) (fun _ _ _ => rfl) (fun j _ _ z => by have := fe_ge s n 1 (j + 1); omega) (fun _ _ _ => rfl) (fun _ _ => rfl) (fun _ _ => rfl)
    have KK := K a_first a_second a_size a_fitting ⟨by omega, hn31, hF', hH', hI', hA', hz0'⟩ (fun i hi => bu_SPW (j0 := 0) hn le w1 w2 (fun _ _ _ => ⟨rfl, rfl⟩) (fun _ _ => rfl) (fun _ _ => rfl) i hi (by omega)) hz (fun _ _ => ⟨rfl, rfl⟩)
    rw [so0] at KK
    exact KK
  · obtain ⟨p, p1, p2, p3⟩ := T1_par hT (by omega) hq
    have op := HS_o hS (Nat.zero_le p) (by omega)
    have so0 : nI (bu_so o oR q t r 0) = f_root := by rw [so_1 (by omega), er]
    have sop : bu_so o oR q t r p = o p := so_1 p1
    have ipp : vp_in (a_above (o q)) 64 := by rw [p3]; exact pk_in _ 64 op.2
    have epp : (a_above (o q)).toNatClampNeg = o p := by rw [p3]; exact bu_cl op.2
    have neR : ∀ k, k < r → oR k ≠ o p := fun k hk z => hd p k (by omega) hk z.symm
    have u1 : ∀ j, j < n → 0 < bu_ar (s j) → j + 1 = q → j = p := fun j jn a e => T1_uni hT jn (by omega) (by rw [← e]; exact (a1 j jn).1 a) p3
    have u2 : ∀ j, j < n → 1 < bu_ar (s j) → bu_fe s n 1 (j + 1) = q → j = p := fun j jn a e => T1_uni hT jn (by omega) (by rw [← e]; exact (a1 j jn).2 a) p3
    refine br_f (by rw [p3]; exact bu_ne0 op.1 op.2) (And.intro ipp ?_)
    rw [epp]
    rcases p2 with ⟨pa, pe⟩ | ⟨pa, pe⟩
    · -- the part is the first one of the node above
      have fp : a_first (o p) = nI (o q) := by rw [pe]; exact HS_f1 hS (Nat.zero_le _) (by omega) pa
      refine br_t fp (And.intro ipp (nm_r (e' := upd a_first (o p) (nI (oR 0))) rfl (Exists.intro (p + 2) ?_)))
      have hf2 : ∀ j, j < n → j ≠ p → upd a_first (o p) (nI (oR 0)) (o j) = a_first (o j) := fun j jn e => pk_un (fun z => e (hI j p jn (by omega) z))
      have nos : ∀ j, j < n → ¬ (1 < bu_ar (s j) ∧ bu_fe s n 1 (j + 1) = q) := by
        intro j jn z
        have jp := u2 j jn z.1 z.2
        have g := fe_gt (s := s) (n := n) (i := j + 1) 0 (FO_c1 hF jn (by omega))
        rw [Nat.zero_add] at g
        omega
      have hH' := bu_SPH (fi' := upd a_first (o p) (nI (oR 0))) (se' := a_second) hS hH hF hR hq ht hn hA hM hB (fun j jn a e => by rw [u1 j jn a e, pk_us]) (fun j jn z => hf2 j jn (fun e => z ⟨by rw [e]; exact pa, by omega⟩)) (fun j jn a e => absurd ⟨a, e⟩ (nos j jn)) (fun _ _ _ => rfl) (fun j hj => pk_un (neR j hj)) (fun _ _ => rfl)
      have hT' : bu_T1 a_symbol (upd a_first (o p) (nI (oR 0))) a_second (upd a_above (oR 0) (a_above (o q))) s' n' (bu_so o oR q t r) := ⟨by omega, hn31, hF', hH', hI', hA', hz0'⟩
      have h56 := xq_rp56 hT' hP h1 eP hV (fun sz ft hW hz' => by
        have KK := K (upd a_first (o p) (nI (oR 0))) a_second sz ft hT' hW hz' (fun j hj => ⟨hf2 _ (by omega) (by omega), rfl⟩)
        rw [so0] at KK
        exact KK) p p 0 (p + 2) a_size a_fitting (Nat.le_refl _) (by omega) (by omega) (by omega) (fun i hi e => bu_SPW (j0 := p) hn le w1 w2 (fun j jn z => ⟨hf2 j jn (fun e => z ⟨by omega, e⟩), rfl⟩) (fun j hj => pk_un (neR j hj)) (fun _ _ => rfl) i hi (fun z => e z.2)) hz
      rw [sop, p3] at h56
      rw [p3]
      exact h56
    · -- the second one
      have pn1 := FO_c1 hF (show p < n by omega) (by omega)
      have g := fe_gt (s := s) (n := n) (i := p + 1) 0 pn1
      rw [Nat.zero_add] at g
      have op1 := HS_o hS (Nat.zero_le _) pn1
      have fp : ¬ a_first (o p) = nI (o q) := by
        rw [HS_f1 hS (Nat.zero_le _) (by omega) (by omega)]
        intro z
        have := hI _ _ pn1 hq ((nI_eq (by omega) (by omega)).mp z)
        omega
      refine br_f fp (And.intro ipp (nm_r (e' := upd a_second (o p) (nI (oR 0))) rfl (Exists.intro (p + 2) ?_)))
      have hf2 : ∀ j, j < n → j ≠ p → upd a_second (o p) (nI (oR 0)) (o j) = a_second (o j) := fun j jn e => pk_un (fun z => e (hI j p jn (by omega) z))
      have nos : ∀ j, j < n → ¬ (0 < bu_ar (s j) ∧ j + 1 = q) := by
        intro j jn z
        have jp := u1 j jn z.1 z.2
        omega
      have hH' := bu_SPH (fi' := a_first) (se' := upd a_second (o p) (nI (oR 0))) hS hH hF hR hq ht hn hA hM hB (fun j jn a e => absurd ⟨a, e⟩ (nos j jn)) (fun _ _ _ => rfl) (fun j jn a e => by rw [u2 j jn a e, pk_us]) (fun j jn z => hf2 j jn (fun e => z ⟨by rw [e]; exact pa, by rw [e]; exact pe.symm⟩)) (fun _ _ => rfl) (fun j hj => pk_un (neR j hj))
      have hT' : bu_T1 a_symbol a_first (upd a_second (o p) (nI (oR 0))) (upd a_above (oR 0) (a_above (o q))) s' n' (bu_so o oR q t r) := ⟨by omega, hn31, hF', hH', hI', hA', hz0'⟩
      have h56 := xq_rp56 hT' hP h1 eP hV (fun sz ft hW hz' => by
        have KK := K a_first (upd a_second (o p) (nI (oR 0))) sz ft hT' hW hz' (fun j hj => ⟨rfl, hf2 _ (by omega) (by omega)⟩)
        rw [so0] at KK
        exact KK) p p 0 (p + 2) a_size a_fitting (Nat.le_refl _) (by omega) (by omega) (by omega) (fun i hi e => bu_SPW (j0 := p) hn le w1 w2 (fun j jn z => ⟨rfl, hf2 j jn (fun e => z ⟨by omega, e⟩)⟩) (fun _ _ => rfl) (fun j hj => pk_un (neR j hj)) i hi (fun z => e z.2)) hz
      rw [sop, p3] at h56
      rw [p3]
      exact h56
end XT
end
section
/-! Y: the small methods, and those that read -/
theorem bu_67 {p : Int32} : p ≤ 6 ↔ ¬ 7 ≤ p := by
  rw [Int32.le_iff_toInt_le, Int32.le_iff_toInt_le, show (6 : Int32).toInt = 6 from by decide, show (7 : Int32).toInt = 7 from by decide]
  omega
/-- writes one behind the other -/
def bu_cp (f : Nat → Int32) (b : Nat) (src : Nat → Int32) : Nat → (Nat → Int32)
  | 0 => f
  | k + 1 => upd (bu_cp f b src k) (b + k) (src k)
theorem cp_s {f : Nat → Int32} {b : Nat} {src : Nat → Int32} {k : Nat} : bu_cp f b src (k + 1) = upd (bu_cp f b src k) (b + k) (src k) := rfl
theorem cp_cg {f : Nat → Int32} {b : Nat} {src src' : Nat → Int32} : ∀ k, (∀ j, j < k → src j = src' j) → bu_cp f b src k = bu_cp f b src' k := by
  intro k
  induction k with
  | zero => intro _; rfl
  | succ k ih =>
    intro h
    rw [cp_s, cp_s, ih (fun j hj => h j (by omega)), h k (by omega)]
theorem cp_out {f : Nat → Int32} {b : Nat} {src : Nat → Int32} {x : Nat} : ∀ k, (x < b ∨ b + k ≤ x) → bu_cp f b src k x = f x := by
  intro k
  induction k with
  | zero => intro _; rfl
  | succ k ih =>
    intro h
    rw [cp_s, pk_un (by omega), ih (by omega)]
theorem cp_in {f : Nat → Int32} {b : Nat} {src : Nat → Int32} {j : Nat} : ∀ k, j < k → bu_cp f b src k (b + j) = src j := by
  intro k
  induction k with
  | zero => intro h; omega
  | succ k ih =>
    intro h
    rw [cp_s]
    by_cases e : j = k
    · rw [e, pk_us]
    · rw [pk_un (by omega), ih (by omega)]
def bu_dg (s : Nat → Int32) : Nat → Nat → Int32 → Int32
  | 0, _, a => a
  | d + 1, i, a => bu_dg s d (i + 1) (a + ((nI i + 1) * (s i + 1)))
theorem al_0 {f g : Nat → Int32} : ∀ (d k : Nat), bu_al f g d k 0 = 0 := by
  intro d
  induction d with
  | zero => intro k; rfl
  | succ d ih => intro k; exact ih (k + 1)
theorem al_t {f g : Nat → Int32} {d k : Nat} (h : f k = g k) : bu_al f g (d + 1) k 1 = bu_al f g d (k + 1) 1 := by
  show bu_al f g d (k + 1) (if (1 : Int32) = 0 then 0 else if f k = g k then 1 else 0) = _
  rw [if_neg (by decide), if_pos h]
theorem al_f {f g : Nat → Int32} {d k : Nat} (h : ¬ f k = g k) : bu_al f g (d + 1) k 1 = 0 := by
  show bu_al f g d (k + 1) (if (1 : Int32) = 0 then 0 else if f k = g k then 1 else 0) = _
  rw [if_neg (by decide), if_neg h, al_0]
section YB
variable {f_depth f_rules f_size : Int32} {a_stack a_begins a_lefts a_leftSizes a_rights a_rightSizes a_subject a_fresh a_bound : Nat → Int32}
theorem yq_parts {post : Int32 → Prop} {p : Int32} (K : post (nI (bu_ar p))) : wpY_partsOf post (f_depth, f_rules, f_size, a_stack, a_begins, a_lefts, a_leftSizes, a_rights, a_rightSizes, a_subject, a_fresh, a_bound) p := by
  by_cases h3 : p < 3
  · have e : bu_ar p = 0 := by
      unfold bu_ar
      rw [if_neg, if_neg, if_neg, if_neg]
      all_goals (intro e; rw [e] at h3; revert h3; decide)
    rw [e] at K
    exact br_t h3 K
  · refine br_f h3 ?_
    have h0 : ¬ p < 0 := fun z => h3 (Int32.lt_trans z (by decide))
    obtain ⟨j, hj, rfl⟩ := nI_of h0
    have j3 : 3 ≤ j := by
      apply Classical.byContradiction
      intro z
      exact h3 (nI_lt (b := 3) (by omega) (by decide))
    by_cases h6 : nI j ≤ 6
    · have j6 : j ≤ 6 := (nI_leI (b := 6) hj (by decide)).mp h6
      refine br_t h6 ?_
      rcases (show j = 3 ∨ j = 4 ∨ j = 5 ∨ j = 6 by omega) with e | e | e | e
      · subst e; exact br_f (by decide) K
      · subst e; exact br_f (by decide) K
      · subst e; exact br_t (by decide) K
      · subst e; exact br_t (by decide) K
    · have e : bu_ar (nI j) = 0 := by
        have j6 : ¬ j ≤ 6 := fun z => h6 (nI_le (b := 6) z (by decide))
        exact bu_ar_var (nI_le (a := 7) (by omega) hj)
      rw [e] at K
      exact br_f h6 K
theorem yq_iv0 {post : Int32 → Prop} {p : Int32} (h : ¬ 7 ≤ p) (K : post 0) : wpY_isVariable post (f_depth, f_rules, f_size, a_stack, a_begins, a_lefts, a_leftSizes, a_rights, a_rightSizes, a_subject, a_fresh, a_bound) p := br_t (bu_67.mpr h) K
theorem yq_iv1 {post : Int32 → Prop} {p : Int32} (h : 7 ≤ p) (K : post 1) : wpY_isVariable post (f_depth, f_rules, f_size, a_stack, a_begins, a_lefts, a_leftSizes, a_rights, a_rightSizes, a_subject, a_fresh, a_bound) p := br_f (fun z => bu_67.mp z h) K
theorem yq_bh4 {post : Int32 → Prop} {n : Nat} (hn : n ≤ 31) (es : f_size = nI n) : ∀ (d c i nn : Nat), i + d = n → d < nn → c + d ≤ 64 → post (nI (bu_fe a_subject n c i)) → wY_behind_4 post f_depth f_rules f_size a_stack a_begins a_lefts a_leftSizes a_rights a_rightSizes a_subject a_fresh a_bound nn (nI c) (nI i) := by
  intro d
  induction d with
  | zero =>
    intro c i nn hd hnn hc K
    obtain ⟨m, rfl⟩ : ∃ m, nn = m + 1 := ⟨nn - 1, by omega⟩
    rw [fe_n c (by omega)] at K
    exact br_t (by rw [es]; exact nI_le (by omega) (by omega)) K
  | succ d ih =>
    intro c i nn hd hnn hc K
    obtain ⟨m, rfl⟩ : ∃ m, nn = m + 1 := ⟨nn - 1, by omega⟩
    refine br_f (by rw [es]; exact nI_ge (by omega) (by omega)) ?_
    cases c with
    | zero =>
      rw [fe_0] at K
      exact br_t (show nI 0 ≤ 0 by decide) K
    | succ c =>
      refine br_f (nI_nle (by omega) (by omega)) ⟨pk_in i 31 (by omega), ?_⟩
      rw [bu_cl (n := i) (by omega)]
      have ha := bu_ar_le (a_subject i)
      rw [fe_s c (by omega)] at K
      exact yq_parts (nm_r (e' := nI (c + bu_ar (a_subject i))) (by rw [nI_pred, nI_add]) (nm_r (nI_1 i) (ih (c + bu_ar (a_subject i)) (i + 1) m (by omega) (by omega) (by omega) K)))
theorem yq_bh {post : Int32 → Prop} {n i : Nat} (hn : n ≤ 31) (es : f_size = nI n) (hi : i ≤ n) (K : post (nI (bu_fe a_subject n 1 i))) : wpY_behind post (f_depth, f_rules, f_size, a_stack, a_begins, a_lefts, a_leftSizes, a_rights, a_rightSizes, a_subject, a_fresh, a_bound) (nI i) :=
  Exists.intro (n + 1) (yq_bh4 hn es (n - i) 1 i (n + 1) (by omega) (by omega) (by omega) K)
theorem yq_ci10 {post : Int32 → Prop} {t b1 : Nat} {v : Int32} (ht : t < 6) (e1 : a_begins (t + 1) = nI b1) (hb : b1 ≤ 31) : ∀ (d i a nn : Nat), i + d = b1 → d < nn → post (nI (a + (bu_sg a_stack i d).count v)) → wY_countIn_10 post (nI t) v f_depth f_rules f_size a_stack a_begins a_lefts a_leftSizes a_rights a_rightSizes a_subject a_fresh a_bound nn (nI a) (nI i) := by
  have et : (nI t + 1).toNatClampNeg = t + 1 := by rw [nI_1]; exact bu_cl (by omega)
  have it : vp_in (nI t + 1) 7 := by rw [nI_1]; exact pk_in (t + 1) 7 (by omega)
  intro d
  induction d with
  | zero =>
    intro i a nn hd hnn K
    obtain ⟨m, rfl⟩ : ∃ m, nn = m + 1 := ⟨nn - 1, by omega⟩
    exact And.intro it (br_t (by rw [et, e1]; exact nI_le (by omega) (by omega)) K)
  | succ d ih =>
    intro i a nn hd hnn K
    obtain ⟨m, rfl⟩ : ∃ m, nn = m + 1 := ⟨nn - 1, by omega⟩
    rw [bu_sg_s] at K
    refine And.intro it (br_f (by rw [et, e1]; exact nI_ge (by omega) (by omega)) ⟨pk_in i 31 (by omega), ?_⟩)
    rw [bu_cl (n := i) (by omega)]
    by_cases e : a_stack i = v
    · rw [e, List.count_cons_self] at K
      refine br_t e (nm_r (nI_1 a) (nm_r (nI_1 i) (ih (i + 1) (a + 1) m (by omega) (by omega) ?_)))
      rw [show a + 1 + (bu_sg a_stack (i + 1) d).count v = a + ((bu_sg a_stack (i + 1) d).count v + 1) from by omega]
      exact K
    · rw [List.count_cons_of_ne e] at K
      exact br_f e (nm_r (nI_1 i) (ih (i + 1) a m (by omega) (by omega) K))
theorem yq_ci {post : Int32 → Prop} {t b0 k : Nat} {v : Int32} (ht : t < 6) (e0 : a_begins t = nI b0) (e1 : a_begins (t + 1) = nI (b0 + k)) (hb : b0 + k ≤ 31) (K : post (nI ((bu_sg a_stack b0 k).count v))) : wpY_countIn post (f_depth, f_rules, f_size, a_stack, a_begins, a_lefts, a_leftSizes, a_rights, a_rightSizes, a_subject, a_fresh, a_bound) (nI t) v := by
  refine And.intro (pk_in t 7 (by omega)) (nm_r (e' := nI b0) (by rw [bu_cl (n := t) (by omega), e0]) (Exists.intro (k + 1) ?_))
  exact yq_ci10 ht e1 hb k b0 0 (k + 1) rfl (by omega) (by rw [Nat.zero_add]; exact K)
theorem yq_ma5 {post : Int32 → SY → Prop} {n k lz : Nat} (hk : k < 6) (hz : lz ≤ 7) (ez : a_leftSizes k = nI lz) (hn : n ≤ 31) (es : f_size = nI n) (hr : ∀ j, j < lz → ∃ m : Nat, m ≤ 9 ∧ a_lefts (7 * k + j) = nI m) :
    ∀ (f j p m c nn : Nat) (bd : Nat → Int32), j + f = lz → f < nn → bu_FO (fun i => a_lefts (7 * k + i)) lz m j → bu_FO a_subject n (m + c) p → p ≤ n → (bu_mw a_subject n (fun i => a_lefts (7 * k + i)) f j p = true → post 1 (f_depth, f_rules, f_size, a_stack, a_begins, a_lefts, a_leftSizes, a_rights, a_rightSizes, a_subject, a_fresh, bu_bw nI a_subject n (fun i => a_lefts (7 * k + i)) f j p bd)) → (bu_mw a_subject n (fun i => a_lefts (7 * k + i)) f j p = false → ∀ b, post 0 (f_depth, f_rules, f_size, a_stack, a_begins, a_lefts, a_leftSizes, a_rights, a_rightSizes, a_subject, a_fresh, b)) →
    wY_matches_5 post (nI k) f_depth f_rules f_size nn (nI p) (nI j) a_stack a_begins a_lefts a_leftSizes a_rights a_rightSizes a_subject a_fresh bd := by
  have ek : (nI k).toNatClampNeg = k := bu_cl (by omega)
  intro f
  induction f with
  | zero =>
    intro j p m c nn bd hj hnn hFl hFs hp K1 K0
    obtain ⟨z, rfl⟩ : ∃ z, nn = z + 1 := ⟨nn - 1, by omega⟩
    exact And.intro (pk_in k 6 hk) (br_t (by rw [ek, ez]; exact nI_le (by omega) (by omega)) (K1 rfl))
  | succ f ih =>
    intro j p m c nn bd hj hnn hFl hFs hp K1 K0
    obtain ⟨z, rfl⟩ : ∃ z, nn = z + 1 := ⟨nn - 1, by omega⟩
    have hjl : j < lz := by omega
    have hl := FO_s hjl hFl
    have hl2 := hl.2
    obtain ⟨v, rfl⟩ : ∃ v, m = v + 1 := ⟨m - 1, by omega⟩
    rw [show v + 1 - 1 + bu_ar (a_lefts (7 * k + j)) = v + bu_ar (a_lefts (7 * k + j)) from by omega] at hl2
    have hpn : p < n := FO_lt (by omega) hFs
    refine And.intro (pk_in k 6 hk) (br_f (by rw [ek, ez]; exact nI_ge (by omega) (by omega)) ?_)
    rw [show (7 : Int32) * nI k + nI j = nI (7 * k + j) from by rw [show (7 : Int32) = nI 7 from rfl, pk_mul, nI_add], bu_cl2 (n := 7 * k + j) (by omega)]
    refine ⟨pk_in (7 * k + j) 42 (by omega), nm_e (br_t (by rw [es]; exact nI_lt (by omega) (by omega)) ?_)⟩
    by_cases h7 : 7 ≤ a_lefts (7 * k + j)
    · obtain ⟨u, hu, e⟩ := bu_isv (hr j hjl) h7
      rw [mw_v (l := fun i => a_lefts (7 * k + i)) (j := j) h7] at K1 K0
      rw [bu_ar_var h7, Nat.add_zero] at hl2
      have hF2 := FO_fe 1 (v + c) (by rw [show 1 + (v + c) = v + 1 + c from by omega]; exact hFs)
      refine yq_iv1 h7 (br_f (by decide) ?_)
      rw [e, bu_vi hu, bu_cl (n := u) (by omega)]
      refine ⟨pk_in u 3 hu, nm_e (yq_bh hn es (by omega) (nm_r (nI_1 j) (ih (j + 1) _ v c z _ (by omega) (by omega) hl2 hF2 (fe_le 1 (by omega)) ?_ K0)))⟩
      intro hm
      have := K1 hm
      rw [bw_v (v := u) (l := fun i => a_lefts (7 * k + i)) (j := j) hu e] at this
      exact this
    · refine yq_iv0 h7 (br_t rfl ?_)
      rw [bu_cl (n := p) (by omega)]
      refine ⟨pk_in p 31 (by omega), ?_⟩
      by_cases e : a_subject p = a_lefts (7 * k + j)
      · rw [mw_e (l := fun i => a_lefts (7 * k + i)) (j := j) h7 e] at K1 K0
        have hF2 := (FO_s hpn hFs).2
        rw [e, show v + 1 + c - 1 + bu_ar (a_lefts (7 * k + j)) = v + bu_ar (a_lefts (7 * k + j)) + c from by omega] at hF2
        refine br_t e (nm_r (nI_1 p) (nm_r (nI_1 j) (ih (j + 1) (p + 1) _ c z bd (by omega) (by omega) hl2 hF2 (by omega) ?_ K0)))
        intro hm
        have := K1 hm
        rw [bw_n (l := fun i => a_lefts (7 * k + i)) (j := j) h7] at this
        exact this
      · exact br_f e (K0 (mw_n (l := fun i => a_lefts (7 * k + i)) (j := j) h7 e) bd)
theorem yq_ma {post : Int32 → SY → Prop} {n k lz i : Nat} (hk : k < 6) (hz : lz ≤ 7) (ez : a_leftSizes k = nI lz) (hn : n ≤ 31) (es : f_size = nI n) (hF : bu_FO a_subject n 1 0) (hi : i < n) (hFl : bu_FO (fun i => a_lefts (7 * k + i)) lz 1 0) (hr : ∀ j, j < lz → ∃ m : Nat, m ≤ 9 ∧ a_lefts (7 * k + j) = nI m)
    (K1 : bu_mw a_subject n (fun i => a_lefts (7 * k + i)) lz 0 i = true → post 1 (f_depth, f_rules, f_size, a_stack, a_begins, a_lefts, a_leftSizes, a_rights, a_rightSizes, a_subject, a_fresh, bu_bw nI a_subject n (fun i => a_lefts (7 * k + i)) lz 0 i a_bound)) (K0 : bu_mw a_subject n (fun i => a_lefts (7 * k + i)) lz 0 i = false → ∀ b, post 0 (f_depth, f_rules, f_size, a_stack, a_begins, a_lefts, a_leftSizes, a_rights, a_rightSizes, a_subject, a_fresh, b)) : wpY_matches post (f_depth, f_rules, f_size, a_stack, a_begins, a_lefts, a_leftSizes, a_rights, a_rightSizes, a_subject, a_fresh, a_bound) (nI k) (nI i) := by
  obtain ⟨c, hc⟩ := FO_at hF hi
  exact Exists.intro (lz + 1) (yq_ma5 hk hz ez hn es hr lz 0 i 1 c (lz + 1) _ (by omega) (by omega) hFl (by rw [Nat.add_comm 1 c]; exact hc) (by omega) K1 K0)
theorem yq_fi17 {post : Int32 → SY → Prop} {n r i : Nat} {lz rz : Nat → Nat} (hR : bu_RR r a_leftSizes a_lefts a_rightSizes a_rights lz rz) (er : f_rules = nI r) (hn : n ≤ 31) (es : f_size = nI n) (hF : bu_FO a_subject n 1 0) (hi : i < n) :
    ∀ (d k nn : Nat) (bd : Nat → Int32), k + d = r → d < nn → (∀ b, (∀ j, j < r → bu_fr (bu_MM a_subject n a_lefts lz i) d k = nI j → ∃ b0, b = bu_bw nI a_subject n (fun x => a_lefts (7 * j + x)) (lz j) 0 i b0) → post (bu_fr (bu_MM a_subject n a_lefts lz i) d k) (f_depth, f_rules, f_size, a_stack, a_begins, a_lefts, a_leftSizes, a_rights, a_rightSizes, a_subject, a_fresh, b)) → wY_fits_17 post (nI i) nn (nI k) f_depth f_rules f_size a_stack a_begins a_lefts a_leftSizes a_rights a_rightSizes a_subject a_fresh bd := by
  have hr6 := hR.1
  intro d
  induction d with
  | zero =>
    intro k nn bd hd hnn K
    obtain ⟨m, rfl⟩ : ∃ m, nn = m + 1 := ⟨nn - 1, by omega⟩
    refine br_t (by rw [er]; exact nI_le (by omega) (by omega)) (K bd (fun j hj e => ?_))
    exact absurd e.symm (bu_n4 (by omega))
  | succ d ih =>
    intro k nn bd hd hnn K
    obtain ⟨m, rfl⟩ : ∃ m, nn = m + 1 := ⟨nn - 1, by omega⟩
    obtain ⟨l1, l2, l3, _, _, _, l7, _, l9, _, _⟩ := hR.2 k (by omega)
    refine br_f (by rw [er]; exact nI_ge (by omega) (by omega)) (yq_ma (lz := lz k) (by omega) l3 l1 hn es hF hi l7 l9 ?_ ?_)
    · intro hm
      have hM : bu_MM a_subject n a_lefts lz i k = true := hm
      rw [fr_t hM] at K
      refine br_f (by decide) (K _ (fun j hj e => ?_))
      have : k = j := (nI_eq (by omega) (by omega)).mp e
      subst this
      exact ⟨bd, rfl⟩
    · intro hm b
      have hM : ¬ bu_MM a_subject n a_lefts lz i k = true := by
        unfold bu_MM
        rw [hm]
        decide
      rw [fr_f hM] at K
      exact br_t rfl (nm_r (nI_1 k) (ih (k + 1) m b (by omega) (by omega) K))
theorem yq_fi {post : Int32 → SY → Prop} {n r i : Nat} {lz rz : Nat → Nat} (hR : bu_RR r a_leftSizes a_lefts a_rightSizes a_rights lz rz) (er : f_rules = nI r) (hn : n ≤ 31) (es : f_size = nI n) (hF : bu_FO a_subject n 1 0) (hi : i < n)
    (K : ∀ b, (∀ j, j < r → bu_FF a_subject n a_lefts lz r i = nI j → ∃ b0, b = bu_bw nI a_subject n (fun x => a_lefts (7 * j + x)) (lz j) 0 i b0) → post (bu_FF a_subject n a_lefts lz r i) (f_depth, f_rules, f_size, a_stack, a_begins, a_lefts, a_leftSizes, a_rights, a_rightSizes, a_subject, a_fresh, b)) : wpY_fits post (f_depth, f_rules, f_size, a_stack, a_begins, a_lefts, a_leftSizes, a_rights, a_rightSizes, a_subject, a_fresh, a_bound) (nI i) := by
  refine br_f (nI_pos (by omega)) (br_t (by rw [es]; exact nI_lt hi (by omega)) (Exists.intro (r + 1) ?_))
  exact yq_fi17 hR er hn es hF hi r 0 (r + 1) _ (by omega) (by omega) K
theorem yq_rx4 {post : Int32 → SY → Prop} {n r : Nat} {lz rz : Nat → Nat} (hR : bu_RR r a_leftSizes a_lefts a_rightSizes a_rights lz rz) (er : f_rules = nI r) (hn : n ≤ 31) (es : f_size = nI n) (hF : bu_FO a_subject n 1 0) :
    ∀ (d i a nn : Nat) (bd : Nat → Int32), i + d = n → d < nn → (∀ b, post (nI (bu_rc (bu_FF a_subject n a_lefts lz r) d i a)) (f_depth, f_rules, f_size, a_stack, a_begins, a_lefts, a_leftSizes, a_rights, a_rightSizes, a_subject, a_fresh, b)) → wY_redexes_4 post nn (nI a) (nI i) f_depth f_rules f_size a_stack a_begins a_lefts a_leftSizes a_rights a_rightSizes a_subject a_fresh bd := by
  intro d
  induction d with
  | zero =>
    intro i a nn bd hd hnn K
    obtain ⟨m, rfl⟩ : ∃ m, nn = m + 1 := ⟨nn - 1, by omega⟩
    exact br_t (by rw [es]; exact nI_le (by omega) (by omega)) (K bd)
  | succ d ih =>
    intro i a nn bd hd hnn K
    obtain ⟨m, rfl⟩ : ∃ m, nn = m + 1 := ⟨nn - 1, by omega⟩
    refine br_f (by rw [es]; exact nI_ge (by omega) (by omega)) (yq_fi hR er hn es hF (by omega) (fun b _ => ?_))
    by_cases h : bu_FF a_subject n a_lefts lz r i = -4
    · rw [rc_t h] at K
      exact br_t h (nm_r (nI_1 i) (ih (i + 1) a m b (by omega) (by omega) K))
    · rw [rc_f h] at K
      exact br_f h (nm_r (nI_1 a) (nm_r (nI_1 i) (ih (i + 1) (a + 1) m b (by omega) (by omega) K)))
theorem yq_np2 {post : Int32 → SY → Prop} {n r : Nat} {lz rz : Nat → Nat} (hR : bu_RR r a_leftSizes a_lefts a_rightSizes a_rights lz rz) (er : f_rules = nI r) (hn : n ≤ 31) (es : f_size = nI n) (hF : bu_FO a_subject n 1 0) :
    ∀ (d i nn : Nat) (bd : Nat → Int32), i + d = n → d < nn → (∀ b, post (bu_np (bu_FF a_subject n a_lefts lz r) d i) (f_depth, f_rules, f_size, a_stack, a_begins, a_lefts, a_leftSizes, a_rights, a_rightSizes, a_subject, a_fresh, b)) → wY_nextPlace_2 post nn (nI i) f_depth f_rules f_size a_stack a_begins a_lefts a_leftSizes a_rights a_rightSizes a_subject a_fresh bd := by
  intro d
  induction d with
  | zero =>
    intro i nn bd hd hnn K
    obtain ⟨m, rfl⟩ : ∃ m, nn = m + 1 := ⟨nn - 1, by omega⟩
    exact br_t (by rw [es]; exact nI_le (by omega) (by omega)) (K bd)
  | succ d ih =>
    intro i nn bd hd hnn K
    obtain ⟨m, rfl⟩ : ∃ m, nn = m + 1 := ⟨nn - 1, by omega⟩
    refine br_f (by rw [es]; exact nI_ge (by omega) (by omega)) (yq_fi hR er hn es hF (by omega) (fun b _ => ?_))
    by_cases h : bu_FF a_subject n a_lefts lz r i = -4
    · rw [np_t h] at K
      exact br_t h (nm_r (nI_1 i) (ih (i + 1) m b (by omega) (by omega) K))
    · rw [np_f h] at K
      exact br_f h (K b)
theorem yq_dg4 {post : Int32 → Prop} {n : Nat} (hn : n ≤ 31) (es : f_size = nI n) : ∀ (d i nn : Nat) (a : Int32), i + d = n → d < nn → post (bu_dg a_subject d i a) → wY_digest_4 post f_depth f_rules f_size a_stack a_begins a_lefts a_leftSizes a_rights a_rightSizes a_subject a_fresh a_bound nn a (nI i) := by
  intro d
  induction d with
  | zero =>
    intro i nn a hd hnn K
    obtain ⟨m, rfl⟩ : ∃ m, nn = m + 1 := ⟨nn - 1, by omega⟩
    exact br_t (by rw [es]; exact nI_le (by omega) (by omega)) K
  | succ d ih =>
    intro i nn a hd hnn K
    obtain ⟨m, rfl⟩ : ∃ m, nn = m + 1 := ⟨nn - 1, by omega⟩
    refine br_f (by rw [es]; exact nI_ge (by omega) (by omega)) ⟨pk_in i 31 (by omega), ?_⟩
    rw [bu_cl (n := i) (by omega)]
    exact nm_e (nm_r (nI_1 i) (ih (i + 1) m _ (by omega) (by omega) K))
theorem yq_sm50 {post : Int32 → Prop} {i j m : Nat} (hi : i + m ≤ 31) (hj : j + m ≤ 31) : ∀ (d k nn : Nat), k + d = m → d < nn → post (bu_al (fun k => a_subject (i + k)) (fun k => a_subject (j + k)) d k 1) → wY_same_50 post (nI i) (nI j) (nI m) f_depth f_rules f_size a_stack a_begins a_lefts a_leftSizes a_rights a_rightSizes a_subject a_fresh a_bound nn (nI k) := by
  intro d
  induction d with
  | zero =>
    intro k nn hd hnn K
    obtain ⟨z, rfl⟩ : ∃ z, nn = z + 1 := ⟨nn - 1, by omega⟩
    exact br_t (nI_le (by omega) (by omega)) K
  | succ d ih =>
    intro k nn hd hnn K
    obtain ⟨z, rfl⟩ : ∃ z, nn = z + 1 := ⟨nn - 1, by omega⟩
    refine br_f (nI_ge (by omega) (by omega)) ?_
    rw [nI_add, nI_add, bu_cl (n := i + k) (by omega), bu_cl (n := j + k) (by omega)]
    refine ⟨pk_in (i + k) 31 (by omega), pk_in (j + k) 31 (by omega), ?_⟩
    by_cases e : a_subject (i + k) = a_subject (j + k)
    · rw [al_t (f := fun k => a_subject (i + k)) (g := fun k => a_subject (j + k)) (k := k) e] at K
      exact br_t e (nm_r (nI_1 k) (ih (k + 1) z (by omega) (by omega) K))
    · rw [al_f (f := fun k => a_subject (i + k)) (g := fun k => a_subject (j + k)) (k := k) e] at K
      exact br_f e K
end YB
end
section
/-! Y: the new subject -/
/-- the first 31 of a list lie in an array -/
def bu_CT (fr : Nat → Int32) (A : List Int32) : Prop := ∀ x, x < A.length → x < 31 → fr x = A.getD x 0
theorem CT_nil (fr : Nat → Int32) : bu_CT fr [] := fun x h => absurd h (by rw [List.length_nil]; omega)
theorem bu_gl {A : List Int32} {v : Int32} {x : Nat} (h : x < A.length) : (A ++ [v]).getD x 0 = A.getD x 0 := by
  rw [List.getD_eq_getElem?_getD, List.getD_eq_getElem?_getD, List.getElem?_append_left h]
theorem bu_ge {A : List Int32} {v : Int32} : (A ++ [v]).getD A.length 0 = v := by
  rw [List.getD_eq_getElem?_getD, List.getElem?_append_right (Nat.le_refl _), Nat.sub_self]
  rfl
theorem CT_in {fr : Nat → Int32} {A : List Int32} {v : Int32} (h : bu_CT fr A) : bu_CT (upd fr A.length v) (A ++ [v]) := by
  intro x h1 h2
  rw [List.length_append, List.length_cons, List.length_nil] at h1
  by_cases e : x = A.length
  · rw [e, pk_us, bu_ge]
  · rw [pk_un e, bu_gl (by omega)]
    exact h x (by omega) h2
theorem CT_ov {fr : Nat → Int32} {A : List Int32} {v : Int32} (h : bu_CT fr A) (hA : 31 ≤ A.length) : bu_CT fr (A ++ [v]) := by
  intro x h1 h2
  rw [bu_gl (by omega)]
  exact h x (by omega) h2
section YS
variable {f_depth f_rules f_size : Int32} {a_stack a_begins a_lefts a_leftSizes a_rights a_rightSizes a_subject a_fresh a_bound : Nat → Int32}
theorem yq_tk6 {post : Int32 → SY → Prop} {to : Nat} (ht : to ≤ 31) :
    ∀ (d i nn : Nat) (A : List Int32) (fr : Nat → Int32), i + d = to → d < nn → A.length + d ≤ 2000 → bu_CT fr A → (∀ fr', bu_CT fr' (A ++ bu_sg a_subject i d) → post (nI (A.length + d)) (f_depth, f_rules, f_size, a_stack, a_begins, a_lefts, a_leftSizes, a_rights, a_rightSizes, a_subject, fr', a_bound)) → wY_take_6 post (nI to) f_depth f_rules f_size nn (nI A.length) (nI i) a_stack a_begins a_lefts a_leftSizes a_rights a_rightSizes a_subject fr a_bound := by
  intro d
  induction d with
  | zero =>
    intro i nn A fr hd hnn hA hC K
    obtain ⟨m, rfl⟩ : ∃ m, nn = m + 1 := ⟨nn - 1, by omega⟩
    exact br_t (nI_le (by omega) (by omega)) (K fr (by rw [bu_sg_0, List.append_nil]; exact hC))
  | succ d ih =>
    intro i nn A fr hd hnn hA hC K
    obtain ⟨m, rfl⟩ : ∃ m, nn = m + 1 := ⟨nn - 1, by omega⟩
    have el : (A ++ [a_subject i]).length = A.length + 1 := by rw [List.length_append]; rfl
    have go := fun (fr1 : Nat → Int32) (hc : bu_CT fr1 (A ++ [a_subject i])) => ih (i + 1) m (A ++ [a_subject i]) fr1 (by omega) (by omega) (by omega) hc (fun fr' h => by
      rw [el, show A.length + 1 + d = A.length + (d + 1) from by omega]
      refine K fr' ?_
      rw [bu_sg_s]
      rw [List.append_assoc] at h
      exact h)
    rw [el] at go
    refine br_f (nI_ge (by omega) (by omega)) ?_
    by_cases h31 : 31 ≤ A.length
    · exact br_t (nI_le (a := 31) h31 (by omega)) (nm_r (nI_1 A.length) (nm_r (nI_1 i) (go fr (CT_ov hC h31))))
    · refine br_f (nI_ge (b := 31) (by omega) (by decide)) ?_
      rw [bu_cl (n := i) (by omega), bu_cl (n := A.length) (by omega)]
      exact ⟨pk_in i 31 (by omega), pk_in A.length 31 (by omega), nm_e (nm_r (nI_1 A.length) (nm_r (nI_1 i) (go _ (CT_in hC))))⟩
theorem yq_tk {post : Int32 → SY → Prop} {i d : Nat} (ht : i + d ≤ 31) {A : List Int32} (hA : A.length + d ≤ 2000) (hC : bu_CT a_fresh A) (K : ∀ fr', bu_CT fr' (A ++ bu_sg a_subject i d) → post (nI (A.length + d)) (f_depth, f_rules, f_size, a_stack, a_begins, a_lefts, a_leftSizes, a_rights, a_rightSizes, a_subject, fr', a_bound)) : wpY_take post (f_depth, f_rules, f_size, a_stack, a_begins, a_lefts, a_leftSizes, a_rights, a_rightSizes, a_subject, a_fresh, a_bound) (nI i) (nI (i + d)) (nI A.length) :=
  Exists.intro (d + 1) (yq_tk6 ht d i (d + 1) A _ rfl (by omega) hA hC K)
theorem yq_mf11 {post : Int32 → SY → Prop} {n k rz i : Nat} {q : Nat → Nat} (hk : k < 6) (hz : rz ≤ 31) (ez : a_rightSizes k = nI rz) (hn : n ≤ 31) (es : f_size = nI n) (hi : i < n) (hr : ∀ j, j < rz → ∃ m : Nat, m ≤ 9 ∧ a_rights (31 * k + j) = nI m)
    (hq : ∀ v, v < 3 → (∃ j, j < rz ∧ a_rights (31 * k + j) = nI (7 + v)) → q v < n ∧ a_bound v = nI (q v)) :
    ∀ (f j nn : Nat) (A : List Int32) (fr : Nat → Int32), j + f = rz → f < nn → A.length + 31 * f ≤ 1000 → bu_CT fr A →
    (∀ fr', bu_CT fr' (A ++ (bu_ex a_subject n (fun x => a_rights (31 * k + x)) q f j ++ bu_sg a_subject (bu_fe a_subject n 1 i) (n - bu_fe a_subject n 1 i))) → post (nI (A ++ (bu_ex a_subject n (fun x => a_rights (31 * k + x)) q f j ++ bu_sg a_subject (bu_fe a_subject n 1 i) (n - bu_fe a_subject n 1 i))).length) (f_depth, f_rules, f_size, a_stack, a_begins, a_lefts, a_leftSizes, a_rights, a_rightSizes, a_subject, fr', a_bound)) →
    wY_makeFresh_11 post (nI k) (nI i) nn (nI A.length) (nI j) f_depth f_rules f_size a_stack a_begins a_lefts a_leftSizes a_rights a_rightSizes a_subject fr a_bound := by
  have ek : (nI k).toNatClampNeg = k := bu_cl (by omega)
  have lei := fe_le (s := a_subject) 1 (Nat.le_of_lt hi)
  intro f
  induction f with
  | zero =>
    intro j nn A fr hj hnn hA hC K
    obtain ⟨m, rfl⟩ : ∃ m, nn = m + 1 := ⟨nn - 1, by omega⟩
    refine And.intro (pk_in k 6 hk) (br_t (by rw [ek, ez]; exact nI_le (by omega) (by omega)) (yq_bh hn es (by omega) ?_))
    have := yq_tk (post := post) (f_depth := f_depth) (f_rules := f_rules) (f_size := f_size) (a_stack := a_stack) (a_begins := a_begins) (a_lefts := a_lefts) (a_leftSizes := a_leftSizes) (a_rights := a_rights) (a_rightSizes := a_rightSizes) (a_subject := a_subject) (a_fresh := fr) (a_bound := a_bound) (i := bu_fe a_subject n 1 i) (d := n - bu_fe a_subject n 1 i) (by omega) (A := A) (by omega) hC (fun fr' h => by
      have h2 := K fr' h
      rw [ex_0, List.nil_append, List.length_append, bu_sg_len] at h2
      exact h2)
    rw [show bu_fe a_subject n 1 i + (n - bu_fe a_subject n 1 i) = n from by omega, ← es] at this
    exact this
  | succ f ih =>
    intro j nn A fr hj hnn hA hC K
    obtain ⟨m, rfl⟩ : ∃ m, nn = m + 1 := ⟨nn - 1, by omega⟩
    refine And.intro (pk_in k 6 hk) (br_f (by rw [ek, ez]; exact nI_ge (by omega) (by omega)) ?_)
    rw [show (31 : Int32) * nI k + nI j = nI (31 * k + j) from by rw [show (31 : Int32) = nI 31 from rfl, pk_mul, nI_add], bu_cl2 (n := 31 * k + j) (by omega)]
    refine ⟨pk_in (31 * k + j) 186 (by omega), nm_e ?_⟩
    by_cases h7 : 7 ≤ a_rights (31 * k + j)
    · obtain ⟨u, hu, e⟩ := bu_isv (hr j (by omega)) h7
      obtain ⟨q1, q2⟩ := hq u hu ⟨j, by omega, e⟩
      have geq := fe_ge a_subject n 1 (q u)
      have leq := fe_le (s := a_subject) 1 (Nat.le_of_lt q1)
      rw [ex_v (rt := fun x => a_rights (31 * k + x)) (j := j) hu e] at K
      refine yq_iv1 h7 (br_f (by decide) ?_)
      rw [e, bu_vi hu, bu_cl (n := u) (by omega), q2]
      refine ⟨pk_in u 3 hu, nm_e (yq_bh hn es (by omega) ?_)⟩
      have go := fun fr1 (h1 : bu_CT fr1 (A ++ bu_sg a_subject (q u) (bu_fe a_subject n 1 (q u) - q u))) => ih (j + 1) m (A ++ bu_sg a_subject (q u) (bu_fe a_subject n 1 (q u) - q u)) fr1 (by omega) (by omega) (by rw [List.length_append, bu_sg_len]; omega) h1 (fun fr' h => by
        have h2 := K fr'
        rw [List.append_assoc] at h2
        rw [List.append_assoc] at h ⊢
        exact h2 h)
      have := yq_tk (post := fun r_80 u => match u with | (c__depth, c__rules, c__size, c__stack, c__begins, c__lefts, c__leftSizes, c__rights, c__rightSizes, c__subject, c__fresh, c__bound) => (∀ x4_93 : Int32, x4_93 = nI j + 1 → (wY_makeFresh_11 post (nI k) (nI i) m r_80 x4_93 c__depth c__rules c__size c__stack c__begins c__lefts c__leftSizes c__rights c__rightSizes c__subject c__fresh c__bound))) (f_depth := f_depth) (f_rules := f_rules) (f_size := f_size) (a_stack := a_stack) (a_begins := a_begins) (a_lefts := a_lefts) (a_leftSizes := a_leftSizes) (a_rights := a_rights) (a_rightSizes := a_rightSizes) (a_subject := a_subject) (a_fresh := fr) (a_bound := a_bound) (i := q u) (d := bu_fe a_subject n 1 (q u) - q u) (by omega) (A := A) (by omega) hC (fun fr' h => by
        have h2 := go fr' h
        rw [List.length_append, bu_sg_len] at h2
        exact nm_r (nI_1 j) h2)
      rw [show q u + (bu_fe a_subject n 1 (q u) - q u) = bu_fe a_subject n 1 (q u) from by omega] at this
      exact this
    · rw [ex_n (rt := fun x => a_rights (31 * k + x)) (j := j) h7] at K
      have el : (A ++ [a_rights (31 * k + j)]).length = A.length + 1 := by rw [List.length_append]; rfl
      have go := fun fr1 (h1 : bu_CT fr1 (A ++ [a_rights (31 * k + j)])) => ih (j + 1) m (A ++ [a_rights (31 * k + j)]) fr1 (by omega) (by omega) (by omega) h1 (fun fr' h => by
        have h2 := K fr'
        rw [List.append_assoc] at h2
        rw [List.append_assoc] at h ⊢
        exact h2 h)
      rw [el] at go
      refine yq_iv0 h7 (br_t rfl ?_)
      by_cases h31 : 31 ≤ A.length
      · exact br_t (nI_le (a := 31) h31 (by omega)) (nm_r (nI_1 A.length) (nm_r (nI_1 j) (go fr (CT_ov hC h31))))
      · refine br_f (nI_ge (b := 31) (by omega) (by decide)) ?_
        rw [bu_cl (n := A.length) (by omega)]
        exact ⟨pk_in A.length 31 (by omega), nm_e (nm_r (nI_1 A.length) (nm_r (nI_1 j) (go _ (CT_in hC))))⟩
/-- makeFresh(k, i) -/
theorem yq_mf {post : Int32 → SY → Prop} {n k rz i : Nat} {q : Nat → Nat} (hk : k < 6) (hz : rz ≤ 31) (ez : a_rightSizes k = nI rz) (hn : n ≤ 31) (es : f_size = nI n) (hi : i < n) (hr : ∀ j, j < rz → ∃ m : Nat, m ≤ 9 ∧ a_rights (31 * k + j) = nI m)
    (hq : ∀ v, v < 3 → (∃ j, j < rz ∧ a_rights (31 * k + j) = nI (7 + v)) → q v < n ∧ a_bound v = nI (q v))
    (K : ∀ fr', bu_CT fr' (bu_sg a_subject 0 i ++ (bu_ex a_subject n (fun x => a_rights (31 * k + x)) q rz 0 ++ bu_sg a_subject (bu_fe a_subject n 1 i) (n - bu_fe a_subject n 1 i))) → post (nI (bu_sg a_subject 0 i ++ (bu_ex a_subject n (fun x => a_rights (31 * k + x)) q rz 0 ++ bu_sg a_subject (bu_fe a_subject n 1 i) (n - bu_fe a_subject n 1 i))).length) (f_depth, f_rules, f_size, a_stack, a_begins, a_lefts, a_leftSizes, a_rights, a_rightSizes, a_subject, fr', a_bound)) :
    wpY_makeFresh post (f_depth, f_rules, f_size, a_stack, a_begins, a_lefts, a_leftSizes, a_rights, a_rightSizes, a_subject, a_fresh, a_bound) (nI k) (nI i) := by
  unfold wpY_makeFresh
  have := yq_tk (post := fun r_1 u => match u with | (c__depth, c__rules, c__size, c__stack, c__begins, c__lefts, c__leftSizes, c__rights, c__rightSizes, c__subject, c__fresh, c__bound) => (∃ n11 : Nat, wY_makeFresh_11 post (nI k) (nI i) n11 r_1 0 c__depth c__rules c__size c__stack c__begins c__lefts c__leftSizes c__rights c__rightSizes c__subject c__fresh c__bound)) (f_depth := f_depth) (f_rules := f_rules) (f_size := f_size) (a_stack := a_stack) (a_begins := a_begins) (a_lefts := a_lefts) (a_leftSizes := a_leftSizes) (a_rights := a_rights) (a_rightSizes := a_rightSizes) (a_subject := a_subject) (a_fresh := a_fresh) (a_bound := a_bound) (i := 0) (d := i) (by omega) (A := []) (by rw [List.length_nil]; omega) (CT_nil _) (fun fr' h => by
    rw [List.nil_append] at h
    have h2 := yq_mf11 hk hz ez hn es hi hr hq rz 0 (rz + 1) _ fr' (by omega) (by omega) (by rw [bu_sg_len]; omega) h K
    rw [bu_sg_len] at h2
    rw [List.length_nil, Nat.zero_add]
    exact Exists.intro (rz + 1) h2)
  rw [Nat.zero_add] at this
  exact this
theorem yq_st44 {post : Int32 → SY → Prop} {x : Int32} {n : Nat} (hn : n ≤ 31) (K : post x (f_depth, f_rules, nI n, a_stack, a_begins, a_lefts, a_leftSizes, a_rights, a_rightSizes, bu_cp a_subject 0 a_fresh n, a_fresh, a_bound)) :
    ∀ (d j nn : Nat), j + d = n → d < nn → wY_step_44 post x f_depth f_rules (nI n) nn (nI j) a_stack a_begins a_lefts a_leftSizes a_rights a_rightSizes (bu_cp a_subject 0 a_fresh j) a_fresh a_bound := by
  intro d
  induction d with
  | zero =>
    intro j nn hd hnn
    obtain ⟨m, rfl⟩ : ∃ m, nn = m + 1 := ⟨nn - 1, by omega⟩
    have e : j = n := by omega
    subst e
    exact br_t (nI_le (by omega) (by omega)) K
  | succ d ih =>
    intro j nn hd hnn
    obtain ⟨m, rfl⟩ : ∃ m, nn = m + 1 := ⟨nn - 1, by omega⟩
    refine br_f (nI_ge (by omega) (by omega)) ⟨pk_in j 31 (by omega), pk_in j 31 (by omega), nm_r (e' := bu_cp a_subject 0 a_fresh (j + 1)) (by rw [bu_cl (n := j) (by omega), cp_s, Nat.zero_add]) (nm_r (nI_1 j) (ih (j + 1) m (by omega) (by omega)))⟩
end YS
end
section
/-! a step, pure: s[0 .. n) is the subject -/
def bu_qv (s : Nat → Int32) (n : Nat) (l : Nat → Int32) (lz i v : Nat) : Nat := (bu_bw nI s n l lz 0 i (fun _ => 0) v).toNatClampNeg
def bu_EX (lf : Nat → Int32) (lz : Nat → Nat) (rg : Nat → Int32) (rz : Nat → Nat) (s : Nat → Int32) (n i k : Nat) : List Int32 :=
  bu_ex s n (fun x => rg (31 * k + x)) (bu_qv s n (fun x => lf (7 * k + x)) (lz k) i) (rz k) 0
def bu_NL (lf : Nat → Int32) (lz : Nat → Nat) (rg : Nat → Int32) (rz : Nat → Nat) (s : Nat → Int32) (n i k : Nat) : List Int32 :=
  bu_sg s 0 i ++ (bu_EX lf lz rg rz s n i k ++ bu_sg s (bu_fe s n 1 i) (n - bu_fe s n 1 i))
def bu_put (s : Nat → Int32) (L : List Int32) : Nat → Int32 := fun j => if j < L.length then L.getD j 0 else s j
def bu_pl (lf : Nat → Int32) (lz : Nat → Nat) (r : Nat) (s : Nat → Int32) (n : Nat) : Int32 := bu_np (bu_FF s n lf lz r) n 0
def bu_SL (lf : Nat → Int32) (lz : Nat → Nat) (rg : Nat → Int32) (rz : Nat → Nat) (r : Nat) (s : Nat → Int32) (n : Nat) : List Int32 :=
  bu_NL lf lz rg rz s n (bu_pl lf lz r s n).toNatClampNeg (bu_FF s n lf lz r (bu_pl lf lz r s n).toNatClampNeg).toNatClampNeg
/-- the answer of a step, the new subject and its size -/
def bu_sr (lf : Nat → Int32) (lz : Nat → Nat) (rg : Nat → Int32) (rz : Nat → Nat) (r : Nat) (s : Nat → Int32) (n : Nat) : Int32 :=
  if bu_pl lf lz r s n = -4 then -4 else if (bu_SL lf lz rg rz r s n).length ≤ 31 then bu_pl lf lz r s n else -2
def bu_s1 (lf : Nat → Int32) (lz : Nat → Nat) (rg : Nat → Int32) (rz : Nat → Nat) (r : Nat) (s : Nat → Int32) (n : Nat) : Nat → Int32 :=
  if bu_pl lf lz r s n = -4 then s else if (bu_SL lf lz rg rz r s n).length ≤ 31 then bu_put s (bu_SL lf lz rg rz r s n) else s
def bu_n1 (lf : Nat → Int32) (lz : Nat → Nat) (rg : Nat → Int32) (rz : Nat → Nat) (r : Nat) (s : Nat → Int32) (n : Nat) : Nat :=
  if bu_pl lf lz r s n = -4 then n else if (bu_SL lf lz rg rz r s n).length ≤ 31 then (bu_SL lf lz rg rz r s n).length else n
section SP
variable {lf : Nat → Int32} {lz : Nat → Nat} {rg : Nat → Int32} {rz : Nat → Nat} {r : Nat} {s : Nat → Int32} {n : Nat} {lsz rsz : Nat → Int32}
theorem st_A (h : bu_pl lf lz r s n = -4) : bu_sr lf lz rg rz r s n = -4 ∧ bu_s1 lf lz rg rz r s n = s ∧ bu_n1 lf lz rg rz r s n = n := by
  unfold bu_sr bu_s1 bu_n1
  rw [if_pos h, if_pos h, if_pos h]
  exact ⟨rfl, rfl, rfl⟩
theorem st_B {i k : Nat} (hi : i < 64) (hk : k < 64) (h : bu_pl lf lz r s n = nI i) (g : bu_FF s n lf lz r i = nI k) : bu_SL lf lz rg rz r s n = bu_NL lf lz rg rz s n i k := by
  unfold bu_SL
  rw [h, bu_cl hi, g, bu_cl hk]
theorem st_B1 {i k : Nat} (hi : i < 64) (hk : k < 64) (h : bu_pl lf lz r s n = nI i) (g : bu_FF s n lf lz r i = nI k) (hl : (bu_NL lf lz rg rz s n i k).length ≤ 31) :
    bu_sr lf lz rg rz r s n = nI i ∧ bu_s1 lf lz rg rz r s n = bu_put s (bu_NL lf lz rg rz s n i k) ∧ bu_n1 lf lz rg rz r s n = (bu_NL lf lz rg rz s n i k).length := by
  have e := st_B (rg := rg) (rz := rz) hi hk h g
  have h4 : ¬ bu_pl lf lz r s n = -4 := by rw [h]; exact bu_n4 hi
  unfold bu_sr bu_s1 bu_n1
  rw [if_neg h4, if_neg h4, if_neg h4, e, if_pos hl, if_pos hl, if_pos hl]
  exact ⟨h, rfl, rfl⟩
theorem st_B2 {i k : Nat} (hi : i < 64) (hk : k < 64) (h : bu_pl lf lz r s n = nI i) (g : bu_FF s n lf lz r i = nI k) (hl : ¬ (bu_NL lf lz rg rz s n i k).length ≤ 31) :
    bu_sr lf lz rg rz r s n = -2 ∧ bu_s1 lf lz rg rz r s n = s ∧ bu_n1 lf lz rg rz r s n = n := by
  have e := st_B (rg := rg) (rz := rz) hi hk h g
  have h4 : ¬ bu_pl lf lz r s n = -4 := by rw [h]; exact bu_n4 hi
  unfold bu_sr bu_s1 bu_n1
  rw [if_neg h4, if_neg h4, if_neg h4, e, if_neg hl, if_neg hl, if_neg hl]
  exact ⟨rfl, rfl, rfl⟩
/-- either no place is found, or the first one and its least rule are -/
theorem st_or (hn : n ≤ 31) (hr : r ≤ 6) : bu_pl lf lz r s n = -4 ∨ ∃ i k, i < n ∧ k < r ∧ bu_pl lf lz r s n = nI i ∧ bu_FF s n lf lz r i = nI k ∧ bu_mw s n (fun x => lf (7 * k + x)) (lz k) 0 i = true := by
  unfold bu_pl
  rcases np_sp (F := bu_FF s n lf lz r) n 0 with h | ⟨i, _, b, c, d⟩
  · exact Or.inl h
  · rcases fr_sp (M := bu_MM s n lf lz i) r 0 with h | ⟨k, _, b', c', d'⟩
    · exact absurd h c
    · exact Or.inr ⟨i, k, by omega, by omega, d, d', c'⟩
/-- what the variables of the right term stand for -/
theorem st_q (hR : bu_RR r lsz lf rsz rg lz rz) (hn : n ≤ 31) (hF : bu_FO s n 1 0) {i k : Nat} (hi : i < n) (hk : k < r) (hm : bu_mw s n (fun x => lf (7 * k + x)) (lz k) 0 i = true) :
    ∀ v, v < 3 → (∃ j, j < rz k ∧ rg (31 * k + j) = nI (7 + v)) → bu_qv s n (fun x => lf (7 * k + x)) (lz k) i v < n ∧ ∀ g b : Nat → Int32, bu_bw g s n (fun x => lf (7 * k + x)) (lz k) 0 i b v = g (bu_qv s n (fun x => lf (7 * k + x)) (lz k) i v) := by
  intro v hv ⟨j, hj, e⟩
  obtain ⟨_, _, _, _, _, _, l7, _, l9, _, l11⟩ := hR.2 k hk
  obtain ⟨x, hx, ex⟩ := l11 j hj (by rw [e]; exact Int32.not_lt.mp (bu_v7 hv))
  obtain ⟨c, hc⟩ := FO_at hF hi
  obtain ⟨q, q1, q2⟩ := bw_val (s := s) (n := n) (l := fun x => lf (7 * k + x)) (lz := lz k) hv (lz k) 0 i 1 c (by omega) (fun y _ hy => l9 y (by omega)) l7 (by rw [Nat.add_comm 1 c]; exact hc) hm ⟨x, by omega, by omega, ex.trans e⟩
  have eq : bu_qv s n (fun x => lf (7 * k + x)) (lz k) i v = q := by
    unfold bu_qv
    rw [q2, bu_cl (by omega)]
  rw [eq]
  exact ⟨q1, q2⟩
theorem ex_Fo {rt : Nat → Int32} {q : Nat → Nat} {z : Nat} (hF : bu_FO s n 1 0) (hr : ∀ j, j < z → ∃ m : Nat, m ≤ 9 ∧ rt j = nI m) (hq : ∀ v, v < 3 → (∃ j, j < z ∧ rt j = nI (7 + v)) → q v < n) : ∀ (f j m : Nat), j + f = z → bu_Fo m (bu_sg rt j f) → bu_Fo m (bu_ex s n rt q f j) := by
  intro f
  induction f with
  | zero => intro j m _ h; exact h
  | succ f ih =>
    intro j m hj h
    rw [bu_sg_s] at h
    obtain ⟨h0, h1⟩ := bu_Fo_cons.mp h
    have h2 := ih (j + 1) _ (by omega) h1
    by_cases h7 : 7 ≤ rt j
    · obtain ⟨u, hu, e⟩ := bu_isv (hr j (by omega)) h7
      have hqu := hq u hu ⟨j, by omega, e⟩
      obtain ⟨c, hc⟩ := FO_at hF hqu
      have g := fe_ge s n 1 (q u)
      have hp := FO_part (t := bu_fe s n 1 (q u) - q u) hc (by omega) (by omega)
      rw [ex_v hu e]
      rw [bu_ar_var h7, Nat.add_zero] at h2
      have := bu_Fo_app h2 _ _ hp
      rw [show 1 + (m - 1) = m from by omega] at this
      exact this
    · rw [ex_n h7]
      exact bu_Fo_cons.mpr ⟨h0, h2⟩
theorem ex_len {rt : Nat → Int32} {q : Nat → Nat} {z : Nat} (hn : n ≤ 31) (hr : ∀ j, j < z → ∃ m : Nat, m ≤ 9 ∧ rt j = nI m) (hq : ∀ v, v < 3 → (∃ j, j < z ∧ rt j = nI (7 + v)) → q v < n) : ∀ (f j : Nat), j + f = z → (bu_ex s n rt q f j).length ≤ 31 * f := by
  intro f
  induction f with
  | zero => intro j _; exact Nat.le_refl _
  | succ f ih =>
    intro j hj
    have h2 := ih (j + 1) (by omega)
    by_cases h7 : 7 ≤ rt j
    · obtain ⟨u, hu, e⟩ := bu_isv (hr j (by omega)) h7
      have hqu := hq u hu ⟨j, by omega, e⟩
      have g := fe_le (s := s) 1 (Nat.le_of_lt hqu)
      rw [ex_v hu e, List.length_append, bu_sg_len]
      omega
    · rw [ex_n h7, List.length_append, List.length_cons, List.length_nil]
      omega
/-- the new subject, place by place -/
theorem put_1 {i : Nat} {A B : List Int32} (e : A.length = i) {L : List Int32} (eL : L = A ++ B) (hA : A = bu_sg s 0 i) : ∀ j, j < i → bu_put s L j = s j := by
  intro j hj
  unfold bu_put
  rw [eL, if_pos (by rw [List.length_append]; omega), List.getD_eq_getElem?_getD, List.getElem?_append_left (by omega), ← List.getD_eq_getElem?_getD, hA, bu_sg_get _ _ _ _ hj, Nat.zero_add]
theorem put_2 {i : Nat} {A B C : List Int32} (e : A.length = i) {L : List Int32} (eL : L = A ++ (B ++ C)) : ∀ j, j < B.length → bu_put s L (i + j) = B.getD j 0 := by
  intro j hj
  unfold bu_put
  rw [eL, if_pos (by rw [List.length_append, List.length_append]; omega), List.getD_eq_getElem?_getD, List.getElem?_append_right (by omega), List.getElem?_append_left (by omega), ← List.getD_eq_getElem?_getD, show i + j - A.length = j from by omega]
theorem put_3 {i : Nat} {A B C : List Int32} (e : A.length = i) {L : List Int32} (eL : L = A ++ (B ++ C)) {x y : Nat} (hC : C = bu_sg s x y) : ∀ j, j < y → bu_put s L (i + B.length + j) = s (x + j) := by
  intro j hj
  have lc : C.length = y := by rw [hC, bu_sg_len]
  unfold bu_put
  rw [eL, if_pos (by rw [List.length_append, List.length_append]; omega), List.getD_eq_getElem?_getD, List.getElem?_append_right (by omega), List.getElem?_append_right (by omega), ← List.getD_eq_getElem?_getD, show i + B.length + j - A.length - B.length = j from by omega, hC, bu_sg_get _ _ _ _ hj]
end SP
end
section
/-! X: a step -/
/-- the subject as a tree of nodes in use -/
def bu_RH (P : Nat) (ps pf pg us sy fi se ab sz : Nat → Int32) (ft : Nat → Int64) (s : Nat → Int32) (n : Nat) (o : Nat → Nat) : Prop :=
  bu_T1 sy fi se ab s n o ∧ (∀ x, 0 < x → x < 64 → (us x ≠ 0 ↔ ∃ j, j < n ∧ o j = x)) ∧ sz 0 = 0 ∧ ∀ i, i < n → bu_WO P ps pf pg sy fi se sz ft (o i)
/-- the old tree and the grown one -/
theorem bu_TWO {P : Nat} {ps pf pg us0 sy0 fi0 se0 ab0 sz0 : Nat → Int32} {ft0 : Nat → Int64} {s w : Nat → Int32} {n L : Nat} {o oR : Nat → Nat} {us sy fi se ab sz : Nat → Int32} {ft : Nat → Int64} (hH : bu_RH P ps pf pg us0 sy0 fi0 se0 ab0 sz0 ft0 s n o) (hL : bu_FO w L 1 0) (G : bu_GI P ps pf pg us0 sy0 fi0 se0 ab0 sz0 ft0 w L 0 oR us sy fi se ab sz ft) :
    bu_T1 sy fi se (upd ab 0 0) s n o ∧ bu_inj oR L ∧ (∀ j k, j < n → k < L → o j ≠ oR k) ∧ bu_AB (upd ab 0 0) w L oR ∧ (∀ i, i < n → bu_WO P ps pf pg sy fi se sz ft (o i)) ∧ sz 0 = 0 ∧ (∀ x, 0 < x → x < 64 → (us x ≠ 0 ↔ (∃ j, j < n ∧ o j = x) ∨ ∃ j, j < L ∧ oR j = x)) := by
  obtain ⟨hT, hU, hz, hW⟩ := hH
  obtain ⟨n0, n31, hF, hS, hI, hA, hz0⟩ := id hT
  obtain ⟨g1, g2, g3, g4, g5, g6⟩ := G
  have hd : ∀ j k, j < n → k < L → o j ≠ oR k := by
    intro j k hj hk e
    have ho := HS_o hS (Nat.zero_le j) hj
    have := (hU (o j) ho.1 ho.2).mpr ⟨j, hj, rfl⟩
    rw [e] at this
    exact this (g3 k (Nat.zero_le _) hk).1
  have fo := fun j (hj : j < n) => g4 (o j) (fun k _ hk => hd j k hj hk)
  have f0 := g4 0 (fun k _ hk e => by have := (HS_o g1 (Nat.zero_le k) hk).1; omega)
  have abo : ∀ j, j < n → upd ab 0 0 (o j) = ab0 (o j) := by
    intro j hj
    have ho := HS_o hS (Nat.zero_le j) hj
    rw [pk_un (by omega)]
    exact (fo j hj).2.2.2.2.2.2 (by omega)
  have abR : ∀ j, j < L → upd ab 0 0 (oR j) = ab (oR j) := by
    intro j hj
    have ho := HS_o g1 (Nat.zero_le j) hj
    exact pk_un (by omega)
  have fc : ∀ i, i < n → sz (fi0 (o i)).toNatClampNeg = sz0 (fi0 (o i)).toNatClampNeg ∧ ft (fi0 (o i)).toNatClampNeg = ft0 (fi0 (o i)).toNatClampNeg := by
    intro i hi
    rcases HS_fc hS hF (Nat.zero_le _) hi with q | q
    · rw [q.2]; exact ⟨f0.2.2.2.2.1, f0.2.2.2.2.2.1⟩
    · rw [q.2.2]; exact ⟨(fo _ q.2.1).2.2.2.2.1, (fo _ q.2.1).2.2.2.2.2.1⟩
  have sc : ∀ i, i < n → sz (se0 (o i)).toNatClampNeg = sz0 (se0 (o i)).toNatClampNeg ∧ ft (se0 (o i)).toNatClampNeg = ft0 (se0 (o i)).toNatClampNeg := by
    intro i hi
    rcases HS_sc hS hF (Nat.zero_le _) hi with q | q
    · rw [q.2]; exact ⟨f0.2.2.2.2.1, f0.2.2.2.2.2.1⟩
    · rw [q.2.2.2]; exact ⟨(fo _ q.2.2.1).2.2.2.2.1, (fo _ q.2.2.1).2.2.2.2.2.1⟩
  refine ⟨⟨n0, n31, hF, ?_, hI, ?_, ?_⟩, ?_, hd, ?_, ?_, ?_, ?_⟩
  · intro i _ hi
    obtain ⟨_, r2, r3, r4, _⟩ := fo i hi
    rw [r2, r3, r4]
    exact hS i (Nat.zero_le _) hi
  · intro j hj
    constructor
    · intro a
      rw [abo _ (FO_c1 hF hj a)]
      exact (hA j hj).1 a
    · intro a
      rw [abo _ (FO_c2 hF hj a)]
      exact (hA j hj).2 a
  · rw [abo 0 n0]; exact hz0
  · exact fun j k hj hk e => g2 j k (Nat.zero_le _) hj (Nat.zero_le _) hk e
  · intro j hj
    constructor
    · intro a
      rw [abR _ (FO_c1 hL hj a)]
      exact (g5 j (Nat.zero_le _) hj).1 a
    · intro a
      rw [abR _ (FO_c2 hL hj a)]
      exact (g5 j (Nat.zero_le _) hj).2 a
  · intro i hi
    obtain ⟨_, r2, r3, r4, r5, r6, _⟩ := fo i hi
    exact WO_cg (hW i hi) r2 r3 r4 r5 (fc i hi).1 (sc i hi).1 r6 (fun _ => (fc i hi).2) (fun _ => (sc i hi).2)
  · rw [f0.2.2.2.2.1]; exact hz
  · intro x x0 x64
    by_cases h : ∃ j, j < L ∧ oR j = x
    · obtain ⟨j, hj, e⟩ := h
      constructor
      · intro _; exact Or.inr ⟨j, hj, e⟩
      · intro _; rw [← e]; exact (g3 j (Nat.zero_le _) hj).2.1
    · rw [(g4 x (fun j _ hj e => h ⟨j, hj, e.symm⟩)).1, hU x x0 x64]
      exact ⟨Or.inl, fun z => z.elim id (fun y => absurd y h)⟩
/-- a part of a tree is a tree -/
theorem bu_SUB {sy fi se fi' se' : Nat → Int32} {s : Nat → Int32} {n q t : Nat} {o : Nat → Nat} (hS : bu_HS sy fi se s n o 0) (hF : bu_FO s n 1 0) (hq : q < n) (ht : bu_fe s n 1 q = q + t) (hf : ∀ j, j < t → fi' (o (q + j)) = fi (o (q + j)) ∧ se' (o (q + j)) = se (o (q + j))) :
    bu_FO (fun j => s (q + j)) t 1 0 ∧ bu_HS sy fi' se' (fun j => s (q + j)) t (fun j => o (q + j)) 0 := by
  have le := fe_le (s := s) 1 (Nat.le_of_lt hq)
  rw [ht] at le
  obtain ⟨c, hc⟩ := FO_at hF hq
  have hT := FO_part hc (Nat.le_of_lt hq) ht
  have hF' : bu_FO (fun j => s (q + j)) t 1 0 := by
    unfold bu_FO
    rw [Nat.sub_zero, bu_sg_cg (f := fun j => s (q + j)) (g := s) t 0 q (fun j _ => by rw [Nat.zero_add])]
    exact hT
  refine ⟨hF', fun j _ hj => ?_⟩
  obtain ⟨h1, h2, h3, h4, h5⟩ := hS (q + j) (Nat.zero_le _) (by omega)
  dsimp only
  rw [(hf j hj).1, (hf j hj).2]
  refine ⟨h1, h2, h3, ?_, ?_⟩
  · rw [← Nat.add_assoc]; exact h4
  · by_cases a : 1 < bu_ar (s (q + j))
    · rw [if_pos a] at h5 ⊢
      have i1 := FO_c1 hF' hj (by show 0 < bu_ar (s (q + j)); omega)
      obtain ⟨d, hd⟩ := FO_at hF' i1
      rw [h5, Nat.add_assoc, fe_cut2 (w := fun j => s (q + j)) (r := t) (q := q) le (fun _ _ => rfl) 1 (i := j + 1) (by omega) hd (by omega)]
    · rw [if_neg a] at h5 ⊢
      exact h5
section XW
variable {f_written f_height f_rules f_patterns f_root f_lined : Int32} {a_post a_begin a_leftSize a_left a_rightSize a_right a_patternSymbol a_patternFirst a_patternSecond a_top a_used a_symbol a_first a_second a_above a_size a_line a_order a_pile a_bound : Nat → Int32} {a_fitting : Nat → Int64}
theorem xq_ran {post : Int32 → Prop} {s : Nat → Int32} {n r P i : Nat} {o lz rz : Nat → Nat} (hR : bu_RR r a_leftSize a_left a_rightSize a_right lz rz) (hP : bu_PR r P a_patternSymbol a_patternFirst a_patternSecond a_top a_left lz) (hH : bu_RH P a_patternSymbol a_patternFirst a_patternSecond a_used a_symbol a_first a_second a_above a_size a_fitting s n o) (hi : i < n) (K : post (bu_FF s n a_left lz r i)) : wpX_ruleAt post (f_written, f_height, nI r, f_patterns, f_root, f_lined, a_post, a_begin, a_leftSize, a_left, a_rightSize, a_right, a_patternSymbol, a_patternFirst, a_patternSecond, a_top, a_used, a_symbol, a_first, a_second, a_above, a_size, a_fitting, a_line, a_order, a_pile, a_bound) (nI (o i)) :=
  xq_ra (HS_o hH.1.2.2.2.1 (Nat.zero_le _) hi).2 hR.1 rfl (bu_MK hH.1.2.2.2.1 hH.1.2.2.1 hH.2.2.2 hR hP hi) K
theorem xq_nx {post : Int32 → SX → Prop} {s : Nat → Int32} {n r P : Nat} {o lz rz : Nat → Nat} (hR : bu_RR r a_leftSize a_left a_rightSize a_right lz rz) (hP : bu_PR r P a_patternSymbol a_patternFirst a_patternSecond a_top a_left lz) (hH : bu_RH P a_patternSymbol a_patternFirst a_patternSecond a_used a_symbol a_first a_second a_above a_size a_fitting s n o)
    (K : ∀ od pl, (∀ j, j < n → od j = nI (o j)) → post (bu_pl a_left lz r s n) (f_written, f_height, nI r, f_patterns, nI (o 0), f_lined, a_post, a_begin, a_leftSize, a_left, a_rightSize, a_right, a_patternSymbol, a_patternFirst, a_patternSecond, a_top, a_used, a_symbol, a_first, a_second, a_above, a_size, a_fitting, a_line, od, pl, a_bound)) : wpX_nextPlace post (f_written, f_height, nI r, f_patterns, nI (o 0), f_lined, a_post, a_begin, a_leftSize, a_left, a_rightSize, a_right, a_patternSymbol, a_patternFirst, a_patternSecond, a_top, a_used, a_symbol, a_first, a_second, a_above, a_size, a_fitting, a_line, a_order, a_pile, a_bound) := by
  obtain ⟨⟨n0, n31, hF, hS, hI, hA, hz0⟩, hU, hz, hW⟩ := id hH
  unfold wpX_nextPlace
  refine xq_lpr hS hF n31 n0 (fun od pl hod => Exists.intro (n + 1) ?_)
  exact xq_np11 (r := r) n31 hod (fun i => FF_neg hR.1) (fun po i hi k => xq_ran hR hP hH hi k) n 0 (n + 1) (by omega) (by omega) (K od pl hod)
theorem xq_size {s : Nat → Int32} {n P : Nat} {o : Nat → Nat} {ps pf pg us sy fi se ab sz : Nat → Int32} {ft : Nat → Int64} (hH : bu_RH P ps pf pg us sy fi se ab sz ft s n o) {i : Nat} (hi : i < n) : sz (o i) = nI (bu_fe s n 1 i - i) :=
  WO_size hH.1.2.2.2.1 hH.1.2.2.1 hH.2.2.1 (fun j _ hj => hH.2.2.2 j hj) n i (by omega) (Nat.zero_le _) hi
theorem xq_step {post : Int32 → SX → Prop} {s : Nat → Int32} {n r P : Nat} {o lz rz : Nat → Nat} (hR : bu_RR r a_leftSize a_left a_rightSize a_right lz rz) (hP : bu_PR r P a_patternSymbol a_patternFirst a_patternSecond a_top a_left lz) (hH : bu_RH P a_patternSymbol a_patternFirst a_patternSecond a_used a_symbol a_first a_second a_above a_size a_fitting s n o)
    (K : ∀ o' us sy fi se ab sz ft ld ln od pl bd, bu_RH P a_patternSymbol a_patternFirst a_patternSecond us sy fi se ab sz ft (bu_s1 a_left lz a_right rz r s n) (bu_n1 a_left lz a_right rz r s n) o' → post (bu_sr a_left lz a_right rz r s n) (f_written, f_height, nI r, nI P, nI (o' 0), ld, a_post, a_begin, a_leftSize, a_left, a_rightSize, a_right, a_patternSymbol, a_patternFirst, a_patternSecond, a_top, us, sy, fi, se, ab, sz, ft, ln, od, pl, bd)) :
    wpX_step post (f_written, f_height, nI r, nI P, nI (o 0), f_lined, a_post, a_begin, a_leftSize, a_left, a_rightSize, a_right, a_patternSymbol, a_patternFirst, a_patternSecond, a_top, a_used, a_symbol, a_first, a_second, a_above, a_size, a_fitting, a_line, a_order, a_pile, a_bound) := by
  obtain ⟨⟨n0, n31, hF, hS, hI, hA, hz0⟩, hU, hz, hW⟩ := id hH
  have hr6 := hR.1
  unfold wpX_step
  refine xq_nx hR hP hH (fun od pl hod => ?_)
  rcases st_or (lf := a_left) (lz := lz) (s := s) n31 hr6 with h4 | ⟨i, k, hi, hk, hpl, hff, hmw⟩
  · -- no place
    obtain ⟨e1, e2, e3⟩ := st_A (rg := a_right) (rz := rz) h4
    rw [h4]
    refine br_f (by decide) ?_
    have KK := K o a_used a_symbol a_first a_second a_above a_size a_fitting f_lined a_line od pl a_bound
    rw [e1, e2, e3] at KK
    exact KK hH
  · obtain ⟨l1, l2, l3, l4, l5, l6, l7, l8, l9, l10, l11⟩ := hR.2 k hk
    have hq := st_q hR n31 hF hi hk hmw
    have oi := HS_o hS (Nat.zero_le _) hi
    have o0 := HS_o hS (Nat.zero_le _) n0
    have gei := fe_gt (s := s) 0 hi
    rw [Nat.zero_add] at gei
    have lei := fe_le (s := s) 1 (Nat.le_of_lt hi)
    have e0 : bu_fe s n 1 0 = n := FO_end (Nat.zero_le _) hF
    have z0 : a_size (o 0) = nI n := by rw [xq_size hH n0, e0, Nat.sub_zero]
    have zi := xq_size hH hi
    have hlen : (bu_EX a_left lz a_right rz s n i k).length ≤ 31 * rz k := ex_len n31 l10 (fun v hv hx => (hq v hv hx).1) (rz k) 0 (by omega)
    have hNL : (bu_NL a_left lz a_right rz s n i k).length = n - (bu_fe s n 1 i - i) + (bu_EX a_left lz a_right rz s n i k).length := by
      unfold bu_NL
      rw [List.length_append, List.length_append, bu_sg_len, bu_sg_len]
      omega
    rw [hpl]
    refine br_t (nI_pos' (by omega)) ⟨pk_in i 32 (by omega), nm_r (e' := nI (o i)) (by rw [bu_cl (n := i) (by omega)]; exact hod i hi) ?_⟩
    refine xq_ran hR hP hH hi ?_
    rw [hff]
    refine xq_bi (by omega) l3 l1 hS hF hi l7 l9 hmw (fun pl2 => ?_)
    have hqX : ∀ v, v < 3 → (∃ j, j < rz k ∧ a_right (31 * k + j) = nI (7 + v)) → bu_qv s n (fun x => a_left (7 * k + x)) (lz k) i v < n ∧ bu_bw (fun q => nI (o q)) s n (fun i => a_left (7 * k + i)) (lz k) 0 i a_bound v = nI (o (bu_qv s n (fun x => a_left (7 * k + x)) (lz k) i v)) := fun v hv hx => ⟨(hq v hv hx).1, (hq v hv hx).2 (fun q => nI (o q)) a_bound⟩
    refine Exists.intro (rz k + 1) ?_
    refine xq_sr4 (s := s) (n := n) (o := o) (q := bu_qv s n (fun x => a_left (7 * k + x)) (lz k) i) (by omega) l6 l4 l10 (fun v hv hx => ⟨(HS_o hS (Nat.zero_le _) (hqX v hv hx).1).2, (hqX v hv hx).2, xq_size hH (hqX v hv hx).1⟩) (rz k) 0 0 (rz k + 1) (by omega) (by omega) ?_
    dsimp only
    rw [bu_cl o0.2, bu_cl oi.2, z0, zi, pk_sub (by omega), Nat.zero_add, nI_add]
    refine ⟨pk_in _ 64 o0.2, pk_in _ 64 oi.2, ?_⟩
    have eEX : (bu_ex s n (fun i => a_right (31 * k + i)) (bu_qv s n (fun x => a_left (7 * k + x)) (lz k) i) (rz k) 0) = bu_EX a_left lz a_right rz s n i k := rfl
    rw [eEX, ← hNL]
    by_cases h31 : (bu_NL a_left lz a_right rz s n i k).length ≤ 31
    · obtain ⟨e1, e2, e3⟩ := st_B1 (by omega) (by omega) hpl hff h31
      rw [e1, e2, e3] at K
      refine br_t (nI_le (b := 31) h31 (by decide)) (Exists.intro (rz k + 1) ?_)
      refine xq_lr4 (s := s) (n := n) (o := o) (q := bu_qv s n (fun x => a_left (7 * k + x)) (lz k) i) (by omega) l6 l4 hS hF n31 l10 hqX (rz k) 0 0 (rz k + 1) _ _ _ (by omega) (by omega) ?_ ?_
      · rw [eEX]; omega
      · intro ln od2 pl3 hln
        rw [eEX, Nat.zero_add] at hln ⊢
        rw [bu_sg_0, List.nil_append] at hln
        have hFl : bu_FO ln (bu_EX a_left lz a_right rz s n i k).length 1 0 := by
          unfold bu_FO
          rw [Nat.sub_zero, hln]
          refine ex_Fo hF l10 (fun v hv hx => (hq v hv hx).1) (rz k) 0 1 (by omega) ?_
          unfold bu_FO at l8
          rw [Nat.sub_zero] at l8
          exact l8
        have P1 := hP.1
        have P2 := hP.2.1
        refine xq_grow (L := (bu_EX a_left lz a_right rz s n i k).length) (by omega) rfl hFl (P := P) (by omega) P1 rfl (PV_f hP.2.2.1) (PV_g hP.2.2.1) ((List.range n).map o) (by rw [List.length_map, List.length_range]; exact n31) ?_ ?_
        · intro x x0 x64 xu
          obtain ⟨j, hj, e⟩ := (hU x x0 x64).mp xu
          exact List.mem_map.mpr ⟨j, List.mem_range.mpr hj, e⟩
        · intro oR us sy fi se ab sz ft pl4 G
          obtain ⟨t1, t2, t3, t4, t5, t6, t7⟩ := bu_TWO hH hFl G
          have hEl : ∀ j, j < (bu_EX a_left lz a_right rz s n i k).length → (bu_EX a_left lz a_right rz s n i k).getD j 0 = ln j := by
            intro j hj
            have := bu_sg_get ln (bu_EX a_left lz a_right rz s n i k).length 0 j hj
            rw [hln, Nat.zero_add] at this
            exact this
          refine xq_rpl (s := s) (s' := bu_put s (bu_NL a_left lz a_right rz s n i k)) (w := ln) (n := n) (n' := (bu_NL a_left lz a_right rz s n i k).length) (q := i) (t := bu_fe s n 1 i - i) (r := (bu_EX a_left lz a_right rz s n i k).length) (P := P) (o := o) (oR := oR) t1 (by omega) P1 rfl hP.2.2.1 hFl G.1 t2 t3 t4 t5 (fun j hj => (G.2.2.1 j (Nat.zero_le _) hj).2.2) t6 hi (by omega) (by omega) h31 ?_ ?_ ?_ rfl ?_
          · exact put_1 (bu_sg_len s i 0) rfl rfl
          · intro j hj
            rw [put_2 (s := s) (bu_sg_len s i 0) (L := bu_NL a_left lz a_right rz s n i k) rfl j hj]
            exact hEl j hj
          · intro j hj
            have := put_3 (s := s) (bu_sg_len s i 0) (L := bu_NL a_left lz a_right rz s n i k) rfl (x := bu_fe s n 1 i) (y := n - bu_fe s n 1 i) rfl j (by omega)
            rw [this, show i + (bu_fe s n 1 i - i) = bu_fe s n 1 i from by omega]
          · intro fi' se' sz' ft' T W Z FS
            obtain ⟨u1, u2⟩ := bu_SUB t1.2.2.2.1 hF hi (t := bu_fe s n 1 i - i) (by omega) FS
            have et : bu_fe (fun j => s (i + j)) (bu_fe s n 1 i - i) 1 0 = bu_fe s n 1 i - i := FO_end (Nat.zero_le _) u1
            refine xq_rel (o := fun j => o (i + j)) (i0 := 0) u2 u1 (by omega) (by omega) ?_
            intro us' od3 pl5 v1 v2
            rw [et] at v1 v2
            refine K (bu_so o oR i (bu_fe s n 1 i - i) (bu_EX a_left lz a_right rz s n i k).length) us' _ _ _ _ _ _ _ _ _ _ _ ⟨T, ?_, Z, W⟩
            intro x x0 x64
            by_cases hx : ∃ j, j < bu_fe s n 1 i - i ∧ o (i + j) = x
            · obtain ⟨j, hj, e⟩ := hx
              have : us' x = 0 := by rw [← e]; exact v1 j (Nat.zero_le _) hj
              rw [this]
              refine ⟨fun z => absurd rfl z, fun ⟨y, hy, ey⟩ => ?_⟩
              exfalso
              by_cases c1 : y < i
              · rw [so_1 c1, ← e] at ey
                have := hI _ _ (by omega) (by omega) ey
                omega
              · by_cases c2 : y < i + (bu_EX a_left lz a_right rz s n i k).length
                · obtain ⟨m, rfl⟩ : ∃ m, y = i + m := ⟨y - i, by omega⟩
                  rw [so_2 (by omega), ← e] at ey
                  exact t3 _ _ (by omega) (by omega) ey.symm
                · obtain ⟨m, rfl⟩ : ∃ m, y = i + (bu_EX a_left lz a_right rz s n i k).length + m := ⟨y - (i + (bu_EX a_left lz a_right rz s n i k).length), by omega⟩
                  rw [so_3, ← e] at ey
                  have := hI _ _ (by omega) (by omega) ey
                  omega
            · rw [v2 x (fun j _ hj e => hx ⟨j, hj, e.symm⟩), t7 x x0 x64]
              constructor
              · intro h
                rcases h with ⟨j, hj, e⟩ | ⟨j, hj, e⟩
                · by_cases c1 : j < i
                  · exact ⟨j, by omega, by rw [so_1 c1]; exact e⟩
                  · by_cases c2 : j < bu_fe s n 1 i
                    · exact absurd ⟨j - i, by omega, by rw [show i + (j - i) = j from by omega]; exact e⟩ hx
                    · refine ⟨i + (bu_EX a_left lz a_right rz s n i k).length + (j - bu_fe s n 1 i), by omega, ?_⟩
                      rw [so_3, show i + (bu_fe s n 1 i - i) + (j - bu_fe s n 1 i) = j from by omega]
                      exact e
                · exact ⟨i + j, by omega, by rw [so_2 hj]; exact e⟩
              · intro ⟨y, hy, ey⟩
                by_cases c1 : y < i
                · rw [so_1 c1] at ey
                  exact Or.inl ⟨y, by omega, ey⟩
                · by_cases c2 : y < i + (bu_EX a_left lz a_right rz s n i k).length
                  · obtain ⟨m, rfl⟩ : ∃ m, y = i + m := ⟨y - i, by omega⟩
                    rw [so_2 (by omega)] at ey
                    exact Or.inr ⟨m, by omega, ey⟩
                  · obtain ⟨m, rfl⟩ : ∃ m, y = i + (bu_EX a_left lz a_right rz s n i k).length + m := ⟨y - (i + (bu_EX a_left lz a_right rz s n i k).length), by omega⟩
                    rw [so_3] at ey
                    exact Or.inl ⟨_, by omega, ey⟩
    · obtain ⟨e1, e2, e3⟩ := st_B2 (by omega) (by omega) hpl hff h31
      rw [e1, e2, e3] at K
      refine br_f (nI_ge (a := 31) (by omega) (by omega)) ?_
      exact K o a_used a_symbol a_first a_second a_above a_size a_fitting f_lined a_line od pl2 _ hH
end XW
end
section
/-! Y: a step; both: run -/
/-- a step leaves a term -/
theorem st_F {lf : Nat → Int32} {lz : Nat → Nat} {rg : Nat → Int32} {rz : Nat → Nat} {r : Nat} {s : Nat → Int32} {n : Nat} {lsz rsz : Nat → Int32} (hR : bu_RR r lsz lf rsz rg lz rz) (h0 : 0 < n) (hn : n ≤ 31) (hF : bu_FO s n 1 0) :
    0 < bu_n1 lf lz rg rz r s n ∧ bu_n1 lf lz rg rz r s n ≤ 31 ∧ bu_FO (bu_s1 lf lz rg rz r s n) (bu_n1 lf lz rg rz r s n) 1 0 := by
  rcases st_or (lf := lf) (lz := lz) (s := s) hn hR.1 with h4 | ⟨i, k, hi, hk, hpl, hff, hmw⟩
  · obtain ⟨_, e2, e3⟩ := st_A (rg := rg) (rz := rz) h4
    rw [e2, e3]
    exact ⟨h0, hn, hF⟩
  · have hr6 := hR.1
    by_cases h31 : (bu_NL lf lz rg rz s n i k).length ≤ 31
    · obtain ⟨_, e2, e3⟩ := st_B1 (by omega) (by omega) hpl hff h31
      obtain ⟨_, _, _, _, _, _, _, l8, _, l10, _⟩ := hR.2 k hk
      have hq := st_q hR hn hF hi hk hmw
      have gei := fe_gt (s := s) 0 hi
      rw [Nat.zero_add] at gei
      have lei := fe_le (s := s) 1 (Nat.le_of_lt hi)
      have hNL : (bu_NL lf lz rg rz s n i k).length = n - (bu_fe s n 1 i - i) + (bu_EX lf lz rg rz s n i k).length := by
        unfold bu_NL
        rw [List.length_append, List.length_append, bu_sg_len, bu_sg_len]
        omega
      have hw : bu_FO (fun j => (bu_EX lf lz rg rz s n i k).getD j 0) (bu_EX lf lz rg rz s n i k).length 1 0 := by
        unfold bu_FO
        rw [Nat.sub_zero, bu_sg_of (f := fun j => (bu_EX lf lz rg rz s n i k).getD j 0) _ 0 (fun j _ => by rw [Nat.zero_add])]
        refine ex_Fo hF l10 (fun v hv hx => (hq v hv hx).1) (rz k) 0 1 (by omega) ?_
        unfold bu_FO at l8
        rw [Nat.sub_zero] at l8
        exact l8
      have hl := FO_len hw
      rw [e2, e3]
      refine ⟨by omega, h31, ?_⟩
      refine bu_SPF hF hw hi (t := bu_fe s n 1 i - i) (by omega) (by omega) (put_1 (bu_sg_len s i 0) rfl rfl) ?_ ?_
      · intro j hj
        exact put_2 (s := s) (bu_sg_len s i 0) (L := bu_NL lf lz rg rz s n i k) rfl j hj
      · intro j hj
        have := put_3 (s := s) (bu_sg_len s i 0) (L := bu_NL lf lz rg rz s n i k) rfl (x := bu_fe s n 1 i) (y := n - bu_fe s n 1 i) rfl j (by omega)
        rw [this, show i + (bu_fe s n 1 i - i) = bu_fe s n 1 i from by omega]
    · obtain ⟨_, e2, e3⟩ := st_B2 (by omega) (by omega) hpl hff h31
      rw [e2, e3]
      exact ⟨h0, hn, hF⟩
theorem bu_cpput {s fr : Nat → Int32} {L : List Int32} (h : bu_CT fr L) (hl : L.length ≤ 31) : bu_cp s 0 fr L.length = bu_put s L := by
  funext j
  unfold bu_put
  by_cases c : j < L.length
  · rw [if_pos c]
    have := cp_in (f := s) (b := 0) (src := fr) L.length c
    rw [Nat.zero_add] at this
    rw [this]
    exact h j c (by omega)
  · rw [if_neg c, cp_out L.length (by omega)]
section YR
variable {f_depth f_rules f_size : Int32} {a_stack a_begins a_lefts a_leftSizes a_rights a_rightSizes a_subject a_fresh a_bound : Nat → Int32}
theorem yq_nx {post : Int32 → SY → Prop} {n r : Nat} {lz rz : Nat → Nat} (hR : bu_RR r a_leftSizes a_lefts a_rightSizes a_rights lz rz) (hn : n ≤ 31) (hF : bu_FO a_subject n 1 0) (K : ∀ b, post (bu_pl a_lefts lz r a_subject n) (f_depth, nI r, nI n, a_stack, a_begins, a_lefts, a_leftSizes, a_rights, a_rightSizes, a_subject, a_fresh, b)) : wpY_nextPlace post (f_depth, nI r, nI n, a_stack, a_begins, a_lefts, a_leftSizes, a_rights, a_rightSizes, a_subject, a_fresh, a_bound) :=
  Exists.intro (n + 1) (yq_np2 hR rfl hn rfl hF n 0 (n + 1) _ (by omega) (by omega) K)
theorem yq_step {post : Int32 → SY → Prop} {n r : Nat} {lz rz : Nat → Nat} (hR : bu_RR r a_leftSizes a_lefts a_rightSizes a_rights lz rz) (hn : n ≤ 31) (hF : bu_FO a_subject n 1 0)
    (K : ∀ fr bd, post (bu_sr a_lefts lz a_rights rz r a_subject n) (f_depth, nI r, nI (bu_n1 a_lefts lz a_rights rz r a_subject n), a_stack, a_begins, a_lefts, a_leftSizes, a_rights, a_rightSizes, bu_s1 a_lefts lz a_rights rz r a_subject n, fr, bd)) : wpY_step post (f_depth, nI r, nI n, a_stack, a_begins, a_lefts, a_leftSizes, a_rights, a_rightSizes, a_subject, a_fresh, a_bound) := by
  have hr6 := hR.1
  unfold wpY_step
  refine yq_nx hR hn hF (fun b => ?_)
  rcases st_or (lf := a_lefts) (lz := lz) (s := a_subject) hn hr6 with h4 | ⟨i, k, hi, hk, hpl, hff, hmw⟩
  · obtain ⟨e1, e2, e3⟩ := st_A (rg := a_rights) (rz := rz) h4
    rw [e1, e2, e3] at K
    rw [h4]
    exact br_t rfl (K a_fresh b)
  · obtain ⟨l1, l2, l3, l4, l5, l6, l7, l8, l9, l10, l11⟩ := hR.2 k hk
    have hq := st_q hR hn hF hi hk hmw
    have lei := fe_le (s := a_subject) 1 (Nat.le_of_lt hi)
    have hlen : (bu_EX a_lefts lz a_rights rz a_subject n i k).length ≤ 31 * rz k := ex_len hn l10 (fun v hv hx => (hq v hv hx).1) (rz k) 0 (by omega)
    have hNL : (bu_NL a_lefts lz a_rights rz a_subject n i k).length = i + ((bu_EX a_lefts lz a_rights rz a_subject n i k).length + (n - bu_fe a_subject n 1 i)) := by
      unfold bu_NL
      rw [List.length_append, List.length_append, bu_sg_len, bu_sg_len]
    rw [hpl]
    refine br_f (bu_n4 (by omega)) (yq_fi hR rfl hn rfl hF hi (fun b2 hb => ?_))
    obtain ⟨b0, eb⟩ := hb k hk hff
    subst eb
    rw [hff]
    refine yq_mf (q := bu_qv a_subject n (fun x => a_lefts (7 * k + x)) (lz k) i) (by omega) l6 l4 hn rfl hi l10 (fun v hv hx => ⟨(hq v hv hx).1, (hq v hv hx).2 nI b0⟩) (fun fr hC => ?_)
    have eNL : (bu_sg a_subject 0 i ++ (bu_ex a_subject n (fun x => a_rights (31 * k + x)) (bu_qv a_subject n (fun x => a_lefts (7 * k + x)) (lz k) i) (rz k) 0 ++ bu_sg a_subject (bu_fe a_subject n 1 i) (n - bu_fe a_subject n 1 i))) = bu_NL a_lefts lz a_rights rz a_subject n i k := rfl
    rw [eNL] at hC ⊢
    by_cases h31 : (bu_NL a_lefts lz a_rights rz a_subject n i k).length ≤ 31
    · obtain ⟨e1, e2, e3⟩ := st_B1 (by omega) (by omega) hpl hff h31
      rw [e1, e2, e3] at K
      refine br_t (nI_le (b := 31) h31 (by decide)) (Exists.intro ((bu_NL a_lefts lz a_rights rz a_subject n i k).length + 1) ?_)
      refine yq_st44 h31 ?_ (bu_NL a_lefts lz a_rights rz a_subject n i k).length 0 _ (by omega) (by omega)
      rw [bu_cpput hC h31]
      exact K _ _
    · obtain ⟨e1, e2, e3⟩ := st_B2 (by omega) (by omega) hpl hff h31
      rw [e1, e2, e3] at K
      exact br_f (nI_ge (a := 31) (by omega) (by omega)) (K _ _)
end YR
/-! run -/
def bu_run (lf : Nat → Int32) (lz : Nat → Nat) (rg : Nat → Int32) (rz : Nat → Nat) (r : Nat) : Nat → (Nat → Int32) → Nat → Nat → (Nat → Int32) × Nat × Nat
  | 0, s, n, a => (s, n, a)
  | f + 1, s, n, a => if bu_sr lf lz rg rz r s n < 0 then (bu_s1 lf lz rg rz r s n, bu_n1 lf lz rg rz r s n, a) else bu_run lf lz rg rz r f (bu_s1 lf lz rg rz r s n) (bu_n1 lf lz rg rz r s n) (a + 1)
theorem run_t {lf : Nat → Int32} {lz : Nat → Nat} {rg : Nat → Int32} {rz : Nat → Nat} {r f : Nat} {s : Nat → Int32} {n a : Nat} (h : bu_sr lf lz rg rz r s n < 0) : bu_run lf lz rg rz r (f + 1) s n a = (bu_s1 lf lz rg rz r s n, bu_n1 lf lz rg rz r s n, a) := if_pos h
theorem run_f {lf : Nat → Int32} {lz : Nat → Nat} {rg : Nat → Int32} {rz : Nat → Nat} {r f : Nat} {s : Nat → Int32} {n a : Nat} (h : ¬ bu_sr lf lz rg rz r s n < 0) : bu_run lf lz rg rz r (f + 1) s n a = bu_run lf lz rg rz r f (bu_s1 lf lz rg rz r s n) (bu_n1 lf lz rg rz r s n) (a + 1) := if_neg h
/-- how many steps a run may take -/
theorem bu_rN (v : Int32) : ∃ N : Nat, N ≤ 40 ∧ (∀ c, c < N → ¬ v ≤ nI c ∧ ¬ 40 ≤ nI c) ∧ (v ≤ nI N ∨ 40 ≤ nI N) := by
  by_cases h : v < 0
  · refine ⟨0, by decide, fun c hc => absurd hc (by omega), Or.inl ?_⟩
    exact Int32.le_of_lt (show v < nI 0 from h)
  · obtain ⟨j, hj, e⟩ := nI_of h
    by_cases g : j ≤ 40
    · refine ⟨j, g, fun c hc => ⟨by rw [e]; exact nI_ge hc hj, nI_ge (b := 40) (by omega) (by decide)⟩, Or.inl (by rw [e]; exact nI_le (Nat.le_refl _) hj)⟩
    · refine ⟨40, Nat.le_refl _, fun c hc => ⟨by rw [e]; exact nI_ge (by omega) hj, nI_ge (b := 40) hc (by decide)⟩, Or.inr (nI_le (a := 40) (Nat.le_refl _) (by decide))⟩
section XZ
variable {f_written f_height f_rules f_patterns f_root f_lined : Int32} {a_post a_begin a_leftSize a_left a_rightSize a_right a_patternSymbol a_patternFirst a_patternSecond a_top a_used a_symbol a_first a_second a_above a_size a_line a_order a_pile a_bound : Nat → Int32} {a_fitting : Nat → Int64}
theorem xq_run7 {post : Int32 → SX → Prop} {r P N : Nat} {lz rz : Nat → Nat} {v1 : Int32} (hR : bu_RR r a_leftSize a_left a_rightSize a_right lz rz) (hP : bu_PR r P a_patternSymbol a_patternFirst a_patternSecond a_top a_left lz) (hN : ∀ c, c < N → ¬ v1 ≤ nI c ∧ ¬ 40 ≤ nI c) (hN2 : v1 ≤ nI N ∨ 40 ≤ nI N) :
    ∀ (f c a nn n : Nat) (s : Nat → Int32) (o : Nat → Nat) (ld : Int32) (us sy fi se ab sz : Nat → Int32) (ft : Nat → Int64) (ln od pl bd : Nat → Int32), c + f = N → f + 1 < nn → bu_RH P a_patternSymbol a_patternFirst a_patternSecond us sy fi se ab sz ft s n o →
    (∀ o' us sy fi se ab sz ft ld ln od pl bd, bu_RH P a_patternSymbol a_patternFirst a_patternSecond us sy fi se ab sz ft (bu_run a_left lz a_right rz r f s n a).1 (bu_run a_left lz a_right rz r f s n a).2.1 o' → post (nI (bu_run a_left lz a_right rz r f s n a).2.2) (f_written, f_height, nI r, nI P, nI (o' 0), ld, a_post, a_begin, a_leftSize, a_left, a_rightSize, a_right, a_patternSymbol, a_patternFirst, a_patternSecond, a_top, us, sy, fi, se, ab, sz, ft, ln, od, pl, bd)) →
    wX_run_7 post v1 nn (nI a) 1 (nI c) f_written f_height (nI r) (nI P) (nI (o 0)) ld a_post a_begin a_leftSize a_left a_rightSize a_right a_patternSymbol a_patternFirst a_patternSecond a_top us sy fi se ab sz ft ln od pl bd := by
  intro f
  induction f with
  | zero =>
    intro c a nn n s o ld us sy fi se ab sz ft ln od pl bd hc hnn hH K
    obtain ⟨m, rfl⟩ : ∃ m, nn = m + 1 := ⟨nn - 1, by omega⟩
    have ec : c = N := by omega
    subst ec
    have KK := K o us sy fi se ab sz ft ld ln od pl bd hH
    rcases hN2 with h | h
    · exact br_t h KK
    · exact br_c (fun _ => KK) (fun _ => br_t h KK)
  | succ f ih =>
    intro c a nn n s o ld us sy fi se ab sz ft ln od pl bd hc hnn hH K
    obtain ⟨m, rfl⟩ : ∃ m, nn = m + 2 := ⟨nn - 2, by omega⟩
    obtain ⟨h1, h2⟩ := hN c (by omega)
    refine br_f h1 (br_f h2 (br_f (by decide) (xq_step hR hP hH ?_)))
    intro o' us' sy' fi' se' ab' sz' ft' ld' ln' od' pl' bd' hH'
    by_cases h : bu_sr a_left lz a_right rz r s n < 0
    · rw [run_t h] at K
      have KK := K o' us' sy' fi' se' ab' sz' ft' ld' ln' od' pl' bd' hH'
      refine br_t h (br_t rfl (nm_r (nI_1 c) ?_))
      exact br_c (fun _ => KK) (fun _ => br_c (fun _ => KK) (fun _ => br_t rfl KK))
    · rw [run_f h] at K
      exact br_f h (br_f (by decide) (nm_r (nI_1 a) (nm_r (nI_1 c) (ih (c + 1) (a + 1) (m + 1) _ _ o' ld' us' sy' fi' se' ab' sz' ft' ln' od' pl' bd' (by omega) (by omega) hH' K))))
end XZ
section YZ
variable {f_depth f_rules f_size : Int32} {a_stack a_begins a_lefts a_leftSizes a_rights a_rightSizes a_subject a_fresh a_bound : Nat → Int32}
theorem yq_run7 {post : Int32 → SY → Prop} {r N : Nat} {lz rz : Nat → Nat} {v1 : Int32} (hR : bu_RR r a_leftSizes a_lefts a_rightSizes a_rights lz rz) (hN : ∀ c, c < N → ¬ v1 ≤ nI c ∧ ¬ 40 ≤ nI c) (hN2 : v1 ≤ nI N ∨ 40 ≤ nI N) :
    ∀ (f c a nn n : Nat) (s fr bd : Nat → Int32), c + f = N → f + 1 < nn → 0 < n → n ≤ 31 → bu_FO s n 1 0 →
    (∀ fr bd, post (nI (bu_run a_lefts lz a_rights rz r f s n a).2.2) (f_depth, nI r, nI (bu_run a_lefts lz a_rights rz r f s n a).2.1, a_stack, a_begins, a_lefts, a_leftSizes, a_rights, a_rightSizes, (bu_run a_lefts lz a_rights rz r f s n a).1, fr, bd)) →
    wY_run_7 post v1 nn (nI a) 1 (nI c) f_depth (nI r) (nI n) a_stack a_begins a_lefts a_leftSizes a_rights a_rightSizes s fr bd := by
  intro f
  induction f with
  | zero =>
    intro c a nn n s fr bd hc hnn h0 hn hF K
    obtain ⟨m, rfl⟩ : ∃ m, nn = m + 1 := ⟨nn - 1, by omega⟩
    have ec : c = N := by omega
    subst ec
    have KK := K fr bd
    rcases hN2 with h | h
    · exact br_c (fun _ => KK) (fun _ => br_t h KK)
    · exact br_t h KK
  | succ f ih =>
    intro c a nn n s fr bd hc hnn h0 hn hF K
    obtain ⟨m, rfl⟩ : ∃ m, nn = m + 2 := ⟨nn - 2, by omega⟩
    obtain ⟨h1, h2⟩ := hN c (by omega)
    obtain ⟨z1, z2, z3⟩ := st_F hR h0 hn hF
    refine br_f h2 (br_f h1 (br_f (by decide) (yq_step hR hn hF ?_)))
    intro fr' bd'
    by_cases h : bu_sr a_lefts lz a_rights rz r s n < 0
    · rw [run_t h] at K
      have KK := K fr' bd'
      refine br_t h (br_t rfl (nm_r (nI_1 c) ?_))
      exact br_c (fun _ => KK) (fun _ => br_c (fun _ => KK) (fun _ => br_t rfl KK))
    · rw [run_f h] at K
      exact br_f h (br_f (by decide) (nm_r (nI_1 a) (nm_r (nI_1 c) (ih (c + 1) (a + 1) (m + 1) _ _ fr' bd' (by omega) (by omega) z1 z2 z3 K))))
end YZ
end
section
/-! the stack -/
def bu_RS (W h : Nat) (b : Nat → Nat) (po be st bs : Nat → Int32) : Prop :=
  h ≤ 6 ∧ W ≤ 31 ∧ b 0 = 0 ∧ b h = W ∧ (∀ t, t < h → b t < b (t + 1)) ∧ (∀ t, t < h → be t = nI (b t)) ∧ (∀ t, t ≤ h → bs t = nI (b t)) ∧
  (∀ t, t < h → bu_PT (bu_sg po (b t) (b (t + 1) - b t)) (bu_sg st (b t) (b (t + 1) - b t))) ∧ (∀ j, j < W → ∃ m : Nat, m ≤ 9 ∧ po j = nI m)
theorem RS_mono {b : Nat → Nat} {h : Nat} (H : ∀ t, t < h → b t < b (t + 1)) : ∀ d t, t + d ≤ h → b t ≤ b (t + d) := by
  intro d
  induction d with
  | zero => intro t _; exact Nat.le_refl _
  | succ d ih =>
    intro t ht
    have h1 := ih t (by omega)
    have h2 := H (t + d) (by omega)
    rw [← Nat.add_assoc]
    omega
theorem RS_le {W h : Nat} {b : Nat → Nat} {po be st bs : Nat → Int32} (H : bu_RS W h b po be st bs) {t u : Nat} (h1 : t ≤ u) (h2 : u ≤ h) : b t ≤ b u := by
  obtain ⟨_, _, _, _, hb, _⟩ := H
  have := RS_mono hb (u - t) t (by omega)
  rw [show t + (u - t) = u from by omega] at this
  exact this
/-- the terms below the g-th alone -/
theorem RS_pop {W h g : Nat} {b : Nat → Nat} {po be st bs : Nat → Int32} (H : bu_RS W h b po be st bs) (hg : g ≤ h) : bu_RS (b g) g b po be st bs := by
  have hle := RS_le H hg (Nat.le_refl _)
  obtain ⟨h1, h2, h3, h4, h5, h6, h7, h8, h9⟩ := H
  exact ⟨by omega, by omega, h3, rfl, fun t ht => h5 t (by omega), fun t ht => h6 t (by omega), fun t ht => h7 t (by omega), fun t ht => h8 t (by omega), fun j hj => h9 j (by omega)⟩
theorem RS_build {W h a : Nat} {b : Nat → Nat} {po be st bs : Nat → Int32} {s : Int32} (H : bu_RS W h b po be st bs) (hs : ∃ m : Nat, m ≤ 9 ∧ s = nI m) (ea : bu_ar s = a) (hW : W < 31) (h0 : a = 0 → h < 6) (ha : a ≤ h) :
    bu_RS (W + 1) (h - a + 1) (bu_up b (h - a + 1) (W + 1)) (upd po W s) (if a = 0 then upd be h (nI W) else be) (bu_pu st (b (h - a)) W s) (upd bs (h - a + 1) (nI (W + 1))) := by
  have a2 := bu_ar_le s
  obtain ⟨g, eg⟩ : ∃ g, h - a = g := ⟨_, rfl⟩
  have hgh : b g ≤ b h := RS_le H (by omega) (Nat.le_refl _)
  have hgt : ∀ t, t ≤ g → b t ≤ b g := fun t ht => RS_le H ht (by omega)
  rw [eg]
  obtain ⟨h1, h2, h3, h4, h5, h6, h7, h8, h9⟩ := H
  have bu : ∀ t, t ≤ g → bu_up b (g + 1) (W + 1) t = b t := fun t ht => up_ne (by omega)
  have sgpo : ∀ x l, x + l ≤ W → bu_sg (upd po W s) x l = bu_sg po x l := fun x l hl => bu_sg_cg _ _ _ (fun j hj => pk_un (by omega))
  refine ⟨by omega, by omega, by rw [bu 0 (by omega)]; exact h3, up_at, ?_, ?_, ?_, ?_, ?_⟩
  · intro t ht
    by_cases e : t = g
    · rw [e, bu g (Nat.le_refl _), up_at]; omega
    · rw [bu t (by omega), bu (t + 1) (by omega)]; exact h5 t (by omega)
  · intro t ht
    rw [bu t (by omega)]
    by_cases a0 : a = 0
    · rw [if_pos a0]
      by_cases e : t = h
      · rw [e, pk_us, h4]
      · rw [pk_un e]; exact h6 t (by omega)
    · rw [if_neg a0]; exact h6 t (by omega)
  · intro t ht
    by_cases e : t = g + 1
    · rw [e, pk_us, up_at]
    · rw [pk_un e, bu t (by omega)]; exact h7 t (by omega)
  · intro t ht
    by_cases e : t = g
    · rw [e, bu g (Nat.le_refl _), up_at]
      have e1 : bu_sg (upd po W s) (b g) (W + 1 - b g) = bu_sg po (b g) (W - b g) ++ [s] := by
        rw [show W + 1 - b g = (W - b g) + 1 from by omega, bu_sg_sn, show b g + (W - b g) = W from by omega, pk_us, sgpo _ _ (by omega)]
      have e2 : bu_sg (bu_pu st (b g) W s) (b g) (W + 1 - b g) = s :: bu_sg st (b g) (W - b g) := by
        rw [show W + 1 - b g = (W - b g) + 1 from by omega]
        exact pu_sg (by omega)
      rw [e1, e2]
      rcases (show a = 0 ∨ a = 1 ∨ a = 2 by omega) with q | q | q
      · rw [show W - b g = 0 from by rw [← h4, show g = h from by omega]; omega, bu_sg_0, bu_sg_0]
        exact PT_0 (by omega)
      · have hp := h8 g (by omega)
        rw [show g + 1 = h from by omega, h4] at hp
        exact PT_1 (by omega) hp
      · have hp := h8 g (by omega)
        have hp2 := h8 (g + 1) (by omega)
        have l1 := h5 g (by omega)
        have l2 := h5 (g + 1) (by omega)
        rw [show g + 1 + 1 = h from by omega, h4] at hp2 l2
        have := PT_2 (s := s) (by omega) hp hp2
        rw [← List.append_assoc] at this
        rw [show W - b g = (b (g + 1) - b g) + (W - b (g + 1)) from by omega, bu_sg_app, bu_sg_app, show b g + (b (g + 1) - b g) = b (g + 1) from by omega]
        exact this
    · have l1 := h5 t (by omega)
      have l2 := hgt (t + 1) (by omega)
      rw [bu t (by omega), bu (t + 1) (by omega), sgpo _ _ (by omega), pu_sgl (by omega)]
      exact h8 t (by omega)
  · intro j hj
    by_cases e : j = W
    · rw [e, pk_us]; exact hs
    · rw [pk_un e]; exact h9 j (by omega)
section XK
variable {f_written f_height f_rules f_patterns f_root f_lined : Int32} {a_post a_begin a_leftSize a_left a_rightSize a_right a_patternSymbol a_patternFirst a_patternSecond a_top a_used a_symbol a_first a_second a_above a_size a_line a_order a_pile a_bound : Nat → Int32} {a_fitting : Nat → Int64}
theorem xq_bd71 {post : Int32 → SX → Prop} {W h a : Nat} {s : Int32} (hW : W < 31) (ha : a ≤ h + 1) (K : post (nI (h + 1 - a)) (nI (W + 1), nI (h + 1 - a), f_rules, f_patterns, f_root, f_lined, upd a_post W s, a_begin, a_leftSize, a_left, a_rightSize, a_right, a_patternSymbol, a_patternFirst, a_patternSecond, a_top, a_used, a_symbol, a_first, a_second, a_above, a_size, a_fitting, a_line, a_order, a_pile, a_bound)) : wX_build_71 post s (nI a) (nI W) (nI h) f_rules f_patterns f_root f_lined a_post a_begin a_leftSize a_left a_rightSize a_right a_patternSymbol a_patternFirst a_patternSecond a_top a_used a_symbol a_first a_second a_above a_size a_fitting a_line a_order a_pile a_bound :=
  nm_r (e' := nI (h + 1 - a)) (by rw [nI_1]; exact pk_sub ha) (And.intro (pk_in W 31 hW) (nm_r (e' := upd a_post W s) (by rw [bu_cl (by omega)]) (nm_r (nI_1 W) K)))
theorem xq_bd43 {post : Int32 → SX → Prop} {W h a : Nat} {s : Int32} (hW : W < 31) (hh : h ≤ 6) (a2 : a ≤ 2) (h0 : a = 0 → h < 6) (K3 : h < a → post (-3) (nI W, nI h, f_rules, f_patterns, f_root, f_lined, a_post, a_begin, a_leftSize, a_left, a_rightSize, a_right, a_patternSymbol, a_patternFirst, a_patternSecond, a_top, a_used, a_symbol, a_first, a_second, a_above, a_size, a_fitting, a_line, a_order, a_pile, a_bound)) (K : a ≤ h → post (nI (h - a + 1)) (nI (W + 1), nI (h - a + 1), f_rules, f_patterns, f_root, f_lined, upd a_post W s, if a = 0 then upd a_begin h (nI W) else a_begin, a_leftSize, a_left, a_rightSize, a_right, a_patternSymbol, a_patternFirst, a_patternSecond, a_top, a_used, a_symbol, a_first, a_second, a_above, a_size, a_fitting, a_line, a_order, a_pile, a_bound)) : wX_build_43 post s (nI a) (nI W) (nI h) f_rules f_patterns f_root f_lined a_post a_begin a_leftSize a_left a_rightSize a_right a_patternSymbol a_patternFirst a_patternSecond a_top a_used a_symbol a_first a_second a_above a_size a_fitting a_line a_order a_pile a_bound := by
  by_cases ha : a ≤ h
  · have KK := K ha
    rw [show h - a + 1 = h + 1 - a from by omega] at KK
    refine br_t (nI_le ha (by omega)) ?_
    by_cases a0 : a = 0
    · rw [if_pos a0] at KK
      refine br_t (by rw [a0]; decide) ⟨pk_in h 6 (h0 a0), nm_r (e' := upd a_begin h (nI W)) (by rw [bu_cl (by omega)]) (xq_bd71 hW (by omega) KK)⟩
    · rw [if_neg a0] at KK
      exact br_f (nI_ne0 (by omega) (by omega)) (xq_bd71 hW (by omega) KK)
  · exact br_f (nI_ge (by omega) (by omega)) (K3 (by omega))
theorem xq_bd {post : Int32 → SX → Prop} {W h : Nat} {s : Int32} (hW : W ≤ 31) (hh : h ≤ 6) (K1 : (s < 0 ∨ ¬ s ≤ 9) → post (-1) (nI W, nI h, f_rules, f_patterns, f_root, f_lined, a_post, a_begin, a_leftSize, a_left, a_rightSize, a_right, a_patternSymbol, a_patternFirst, a_patternSecond, a_top, a_used, a_symbol, a_first, a_second, a_above, a_size, a_fitting, a_line, a_order, a_pile, a_bound)) (K2 : ¬ s < 0 → s ≤ 9 → (W = 31 ∨ (bu_ar s = 0 ∧ h = 6)) → post (-2) (nI W, nI h, f_rules, f_patterns, f_root, f_lined, a_post, a_begin, a_leftSize, a_left, a_rightSize, a_right, a_patternSymbol, a_patternFirst, a_patternSecond, a_top, a_used, a_symbol, a_first, a_second, a_above, a_size, a_fitting, a_line, a_order, a_pile, a_bound)) (K3 : ¬ s < 0 → s ≤ 9 → W < 31 → (bu_ar s = 0 → h < 6) → h < bu_ar s → post (-3) (nI W, nI h, f_rules, f_patterns, f_root, f_lined, a_post, a_begin, a_leftSize, a_left, a_rightSize, a_right, a_patternSymbol, a_patternFirst, a_patternSecond, a_top, a_used, a_symbol, a_first, a_second, a_above, a_size, a_fitting, a_line, a_order, a_pile, a_bound))
    (K : ¬ s < 0 → s ≤ 9 → W < 31 → (bu_ar s = 0 → h < 6) → bu_ar s ≤ h → post (nI (h - bu_ar s + 1)) (nI (W + 1), nI (h - bu_ar s + 1), f_rules, f_patterns, f_root, f_lined, upd a_post W s, if bu_ar s = 0 then upd a_begin h (nI W) else a_begin, a_leftSize, a_left, a_rightSize, a_right, a_patternSymbol, a_patternFirst, a_patternSecond, a_top, a_used, a_symbol, a_first, a_second, a_above, a_size, a_fitting, a_line, a_order, a_pile, a_bound)) : wpX_build post (nI W, nI h, f_rules, f_patterns, f_root, f_lined, a_post, a_begin, a_leftSize, a_left, a_rightSize, a_right, a_patternSymbol, a_patternFirst, a_patternSecond, a_top, a_used, a_symbol, a_first, a_second, a_above, a_size, a_fitting, a_line, a_order, a_pile, a_bound) s := by
  have a2 := bu_ar_le s
  by_cases hs : s < 0
  · exact br_t hs (K1 (Or.inl hs))
  · refine br_f hs ?_
    by_cases h9 : s ≤ 9
    · refine br_t h9 (xq_parts ?_)
      by_cases e31 : W = 31
      · exact br_t (by rw [e31]; rfl) (K2 hs h9 (Or.inl e31))
      · refine br_f (fun z => e31 ((nI_eq (b := 31) (by omega) (by decide)).mp z)) ?_
        by_cases a0 : bu_ar s = 0
        · refine br_t (by rw [a0]; decide) ?_
          by_cases e6 : h = 6
          · exact br_t (by rw [e6]; rfl) (K2 hs h9 (Or.inr ⟨a0, e6⟩))
          · exact br_f (fun z => e6 ((nI_eq (b := 6) (by omega) (by decide)).mp z)) (xq_bd43 (by omega) hh a2 (fun _ => by omega) (K3 hs h9 (by omega) (fun _ => by omega)) (K hs h9 (by omega) (fun _ => by omega)))
        · exact br_f (nI_ne0 (by omega) (by omega)) (xq_bd43 (by omega) hh a2 (fun z => absurd z a0) (K3 hs h9 (by omega) (fun z => absurd z a0)) (K hs h9 (by omega) (fun z => absurd z a0)))
    · exact br_f h9 (K1 (Or.inr h9))
end XK
section YK
variable {f_depth f_rules f_size : Int32} {a_stack a_begins a_lefts a_leftSizes a_rights a_rightSizes a_subject a_fresh a_bound : Nat → Int32}
theorem yq_bd77 {post : Int32 → SY → Prop} {W h a st : Nat} {s : Int32} (hW : W < 31) (ha : a ≤ h) (hd : h - a + 1 < 7) :
    ∀ (d nn : Nat) (sk : Nat → Int32), st + d < 31 → d < nn → post (nI (h - a + 1)) (nI (h - a + 1), f_rules, f_size, bu_pu sk st (st + d) s, upd a_begins (h - a + 1) (nI (W + 1)), a_lefts, a_leftSizes, a_rights, a_rightSizes, a_subject, a_fresh, a_bound) →
    wY_build_77 post s (nI W) (nI a) (nI st) (nI h) f_rules f_size nn (nI (st + d)) sk a_begins a_lefts a_leftSizes a_rights a_rightSizes a_subject a_fresh a_bound := by
  intro d
  induction d with
  | zero =>
    intro nn sk hl hn K
    obtain ⟨m, rfl⟩ : ∃ m, nn = m + 1 := ⟨nn - 1, by omega⟩
    have e : upd sk st s = bu_pu sk st (st + 0) s := by
      unfold bu_pu
      rw [Nat.add_zero, sh_0]
    refine br_t (nI_le (by omega) (by omega)) ⟨pk_in st 31 (by omega), nm_r (e' := bu_pu sk st (st + 0) s) (by rw [bu_cl (by omega), e]) (nm_r (e' := nI (h - a + 1)) (by rw [pk_sub ha, nI_1]) ⟨pk_in (h - a + 1) 7 hd, nm_r (e' := upd a_begins (h - a + 1) (nI (W + 1))) (by rw [bu_cl (by omega), nI_1]) K⟩)⟩
  | succ d ih =>
    intro nn sk hl hn K
    obtain ⟨m, rfl⟩ : ∃ m, nn = m + 1 := ⟨nn - 1, by omega⟩
    have e1 : nI (st + (d + 1)) - 1 = nI (st + d) := nI_pred (st + d)
    refine br_f (nI_ge (by omega) (by omega)) ⟨by rw [e1]; exact pk_in (st + d) 31 (by omega), pk_in (st + (d + 1)) 31 (by omega), nm_r (e' := upd sk (st + d + 1) (sk (st + d))) (by rw [e1, bu_cl (by omega), bu_cl (by omega)]; rfl) (nm_r (e' := nI (st + d)) (pk_m1 (st + d)) (ih m _ (by omega) (by omega) ?_))⟩
    have e2 : bu_pu (upd sk (st + d + 1) (sk (st + d))) st (st + d) s = bu_pu sk st (st + (d + 1)) s := by
      unfold bu_pu
      rw [sh_s sk (by omega)]
      rfl
    rw [e2]
    exact K
theorem yq_bd50 {post : Int32 → SY → Prop} {W h a : Nat} {b : Nat → Nat} {s : Int32} (hW : W < 31) (hh : h ≤ 6) (a2 : a ≤ 2) (h0 : a = 0 → h < 6) (hb : a ≤ h → a_begins (h - a) = nI (b (h - a)) ∧ b (h - a) ≤ W) (K3 : h < a → post (-3) (nI h, f_rules, f_size, a_stack, a_begins, a_lefts, a_leftSizes, a_rights, a_rightSizes, a_subject, a_fresh, a_bound)) (K : a ≤ h → post (nI (h - a + 1)) (nI (h - a + 1), f_rules, f_size, bu_pu a_stack (b (h - a)) W s, upd a_begins (h - a + 1) (nI (W + 1)), a_lefts, a_leftSizes, a_rights, a_rightSizes, a_subject, a_fresh, a_bound)) : wY_build_50 post s (nI W) (nI a) (nI h) f_rules f_size a_stack a_begins a_lefts a_leftSizes a_rights a_rightSizes a_subject a_fresh a_bound := by
  by_cases ha : a ≤ h
  · obtain ⟨q1, q2⟩ := hb ha
    refine br_t (nI_le ha (by omega)) ?_
    rw [pk_sub ha, bu_cl (n := h - a) (by omega)]
    refine ⟨pk_in (h - a) 7 (by omega), nm_r q1 (Exists.intro (W - b (h - a) + 1) ?_)⟩
    have := yq_bd77 (post := post) (f_rules := f_rules) (f_size := f_size) (a_begins := a_begins) (a_lefts := a_lefts) (a_leftSizes := a_leftSizes) (a_rights := a_rights) (a_rightSizes := a_rightSizes) (a_subject := a_subject) (a_fresh := a_fresh) (a_bound := a_bound) (s := s) (st := b (h - a)) hW ha (by omega) (W - b (h - a)) (W - b (h - a) + 1) a_stack (by omega) (by omega) (by rw [show b (h - a) + (W - b (h - a)) = W from by omega]; exact K ha)
    rw [show b (h - a) + (W - b (h - a)) = W from by omega] at this
    exact this
  · exact br_f (nI_ge (by omega) (by omega)) (K3 (by omega))
theorem yq_bd {post : Int32 → SY → Prop} {W h : Nat} {b : Nat → Nat} {s : Int32} (hW : W ≤ 31) (hh : h ≤ 6) (eW : a_begins h = nI W) (hb : bu_ar s ≤ h → a_begins (h - bu_ar s) = nI (b (h - bu_ar s)) ∧ b (h - bu_ar s) ≤ W) (K1 : (s < 0 ∨ ¬ s ≤ 9) → post (-1) (nI h, f_rules, f_size, a_stack, a_begins, a_lefts, a_leftSizes, a_rights, a_rightSizes, a_subject, a_fresh, a_bound)) (K2 : ¬ s < 0 → s ≤ 9 → (W = 31 ∨ (bu_ar s = 0 ∧ h = 6)) → post (-2) (nI h, f_rules, f_size, a_stack, a_begins, a_lefts, a_leftSizes, a_rights, a_rightSizes, a_subject, a_fresh, a_bound)) (K3 : ¬ s < 0 → s ≤ 9 → W < 31 → (bu_ar s = 0 → h < 6) → h < bu_ar s → post (-3) (nI h, f_rules, f_size, a_stack, a_begins, a_lefts, a_leftSizes, a_rights, a_rightSizes, a_subject, a_fresh, a_bound))
    (K : ¬ s < 0 → s ≤ 9 → W < 31 → (bu_ar s = 0 → h < 6) → bu_ar s ≤ h → post (nI (h - bu_ar s + 1)) (nI (h - bu_ar s + 1), f_rules, f_size, bu_pu a_stack (b (h - bu_ar s)) W s, upd a_begins (h - bu_ar s + 1) (nI (W + 1)), a_lefts, a_leftSizes, a_rights, a_rightSizes, a_subject, a_fresh, a_bound)) : wpY_build post (nI h, f_rules, f_size, a_stack, a_begins, a_lefts, a_leftSizes, a_rights, a_rightSizes, a_subject, a_fresh, a_bound) s := by
  have a2 := bu_ar_le s
  by_cases hs : s < 0
  · exact br_t hs (K1 (Or.inl hs))
  · refine br_f hs ?_
    by_cases h9 : s ≤ 9
    · refine br_t h9 ⟨pk_in h 7 (by omega), nm_r (e' := nI W) (by rw [bu_cl (by omega), eW]) (yq_parts ?_)⟩
      by_cases e31 : W = 31
      · exact br_t (by rw [e31]; rfl) (K2 hs h9 (Or.inl e31))
      · refine br_f (fun z => e31 ((nI_eq (b := 31) (by omega) (by decide)).mp z)) ?_
        by_cases a0 : bu_ar s = 0
        · refine br_t (by rw [a0]; decide) ?_
          by_cases e6 : h = 6
          · exact br_t (by rw [e6]; rfl) (K2 hs h9 (Or.inr ⟨a0, e6⟩))
          · exact br_f (fun z => e6 ((nI_eq (b := 6) (by omega) (by decide)).mp z)) (yq_bd50 (by omega) hh a2 (fun _ => by omega) hb (K3 hs h9 (by omega) (fun _ => by omega)) (K hs h9 (by omega) (fun _ => by omega)))
        · exact br_f (nI_ne0 (by omega) (by omega)) (yq_bd50 (by omega) hh a2 (fun z => absurd z a0) hb (K3 hs h9 (by omega) (fun z => absurd z a0)) (K hs h9 (by omega) (fun z => absurd z a0)))
    · exact br_f h9 (K1 (Or.inr h9))
end YK
end
section
/-! a new rule: pure -/
def bu_GD (LL LR : List Int32) : Prop :=
  ¬ 7 ≤ LL.getD 0 0 ∧ LL.length ≤ 7 ∧ ∀ v, v < 3 → LL.count (nI (7 + v)) ≤ 1 ∧ (LL.count (nI (7 + v)) = 0 → LR.count (nI (7 + v)) = 0)
theorem PT_lone {po st : Nat → Int32} {b0 k : Nat} (h : bu_PT (bu_sg po b0 k) (bu_sg st b0 k)) (hk : 0 < k) : (k = 1 ∧ ¬ po b0 < 7) ↔ 7 ≤ st b0 := by
  obtain ⟨c, rfl⟩ : ∃ c, k = c + 1 := ⟨k - 1, by omega⟩
  have one : c = 0 → st b0 = po b0 := by
    intro e
    subst e
    have hm := (PT_mem h (st b0)).mp (by rw [bu_sg_s]; exact List.mem_cons_self)
    rw [bu_sg_s, bu_sg_0] at hm
    exact List.mem_singleton.mp hm
  constructor
  · intro ⟨e, g⟩
    rw [one (by omega)]
    exact Int32.not_lt.mp g
  · intro g
    have hF := PT_Fo h
    rw [bu_sg_s] at hF
    have h2 := (bu_Fo_cons.mp hF).2
    rw [bu_ar_var g] at h2
    cases c with
    | zero => exact ⟨rfl, by rw [← one rfl]; exact Int32.not_lt.mpr g⟩
    | succ c =>
      rw [bu_sg_s] at h2
      exact absurd (bu_Fo_cons.mp h2).1 (by omega)
/-- X's checks say the same -/
theorem GD_X {po st : Nat → Int32} {b0 k1 k2 : Nat} (h1 : bu_PT (bu_sg po b0 k1) (bu_sg st b0 k1)) (h2 : bu_PT (bu_sg po (b0 + k1) k2) (bu_sg st (b0 + k1) k2)) (hk : 0 < k1) (r1 : bu_rg (bu_sg po b0 k1)) (r2 : bu_rg (bu_sg po (b0 + k1) k2)) :
    bu_GD (bu_sg st b0 k1) (bu_sg st (b0 + k1) k2) ↔ (¬ (k1 = 1 ∧ ¬ po b0 < 7) ∧ k1 ≤ 7 ∧ ¬ bu_rt 0 (bu_sg po b0 k1) = true ∧ nI (bu_vo 0 (bu_sg po (b0 + k1) k2)) &&& (nI (bu_vo 0 (bu_sg po b0 k1)) ^^^ (-1)) = 0) := by
  unfold bu_GD
  rw [bu_sg_get st k1 b0 0 hk, Nat.add_zero, ← PT_lone h1 hk, bu_sg_len, rt_cnt _ _ r1, bu_m_sub _ (vo_lt _ _ r2 (by decide)) _ (vo_lt _ _ r1 (by decide))]
  refine and_congr Iff.rfl (and_congr Iff.rfl ?_)
  constructor
  · intro h
    refine ⟨fun ⟨v, hv, g⟩ => ?_, fun v hv g => ?_⟩
    · have := (h v hv).1
      rw [PT_cnt h1] at this
      rw [Nat.zero_testBit, if_neg (by decide)] at g
      omega
    · rcases (vo_bit _ _ r2 v hv).mp g with z | z
      · rw [Nat.zero_testBit] at z; exact absurd z (by decide)
      · refine (vo_bit _ _ r1 v hv).mpr (Or.inr ?_)
        have hc := (h v hv).2
        rw [PT_cnt h1, PT_cnt h2] at hc
        apply List.count_pos_iff.mp
        have := List.count_pos_iff.mpr z
        omega
  · intro ⟨g1, g2⟩ v hv
    rw [PT_cnt h1, PT_cnt h2]
    refine ⟨?_, fun z => ?_⟩
    · apply Classical.byContradiction
      intro z
      exact g1 ⟨v, hv, by rw [Nat.zero_testBit, if_neg (by decide)]; omega⟩
    · apply Classical.byContradiction
      intro y
      have h3 := g2 v hv ((vo_bit _ _ r2 v hv).mpr (Or.inr (List.count_pos_iff.mp (by omega))))
      rcases (vo_bit _ _ r1 v hv).mp h3 with w | w
      · rw [Nat.zero_testBit] at w; exact absurd w (by decide)
      · have := List.count_pos_iff.mpr w
        omega
theorem RR_add {r : Nat} {lsz lf rsz rg : Nat → Int32} {lz rz : Nat → Nat} {k1 k2 : Nat} {s1 s2 : Nat → Int32} (H : bu_RR r lsz lf rsz rg lz rz) (hr : r < 6) (a0 : 0 < k1) (a7 : k1 ≤ 7) (b0 : 0 < k2) (b31 : k2 ≤ 31) (F1 : bu_Fo 1 (bu_sg s1 0 k1)) (F2 : bu_Fo 1 (bu_sg s2 0 k2)) (R1 : ∀ j, j < k1 → ∃ m : Nat, m ≤ 9 ∧ s1 j = nI m) (R2 : ∀ j, j < k2 → ∃ m : Nat, m ≤ 9 ∧ s2 j = nI m) (V : ∀ j, j < k2 → 7 ≤ s2 j → ∃ i, i < k1 ∧ s1 i = s2 j) :
    bu_RR (r + 1) (upd lsz r (nI k1)) (bu_cp lf (7 * r) s1 k1) (upd rsz r (nI k2)) (bu_cp rg (31 * r) s2 k2) (bu_up lz r k1) (bu_up rz r k2) := by
  refine ⟨by omega, fun k hk => ?_⟩
  by_cases e : k = r
  · subst e
    rw [pk_us, pk_us, up_at, up_at]
    have c1 : ∀ j, j < k1 → bu_cp lf (7 * k) s1 k1 (7 * k + j) = s1 j := fun j hj => cp_in k1 hj
    have c2 : ∀ j, j < k2 → bu_cp rg (31 * k) s2 k2 (31 * k + j) = s2 j := fun j hj => cp_in k2 hj
    refine ⟨rfl, a0, a7, rfl, b0, b31, ?_, ?_, ?_, ?_, ?_⟩
    · unfold bu_FO
      rw [Nat.sub_zero, bu_sg_cg (f := fun j => bu_cp lf (7 * k) s1 k1 (7 * k + j)) (g := s1) k1 0 0 (fun j hj => by rw [Nat.zero_add]; exact c1 j hj)]
      exact F1
    · unfold bu_FO
      rw [Nat.sub_zero, bu_sg_cg (f := fun j => bu_cp rg (31 * k) s2 k2 (31 * k + j)) (g := s2) k2 0 0 (fun j hj => by rw [Nat.zero_add]; exact c2 j hj)]
      exact F2
    · intro j hj
      rw [c1 j hj]; exact R1 j hj
    · intro j hj
      rw [c2 j hj]; exact R2 j hj
    · intro j hj h7
      rw [c2 j hj] at h7 ⊢
      obtain ⟨i, hi, ei⟩ := V j hj h7
      exact ⟨i, hi, by rw [c1 i hi]; exact ei⟩
  · obtain ⟨l1, l2, l3, l4, l5, l6, l7, l8, l9, l10, l11⟩ := H.2 k (by omega)
    rw [pk_un e, pk_un e, up_ne e, up_ne e]
    have c1 : ∀ j, j < lz k → bu_cp lf (7 * r) s1 k1 (7 * k + j) = lf (7 * k + j) := fun j hj => cp_out k1 (Or.inl (by omega))
    have c2 : ∀ j, j < rz k → bu_cp rg (31 * r) s2 k2 (31 * k + j) = rg (31 * k + j) := fun j hj => cp_out k2 (Or.inl (by omega))
    refine ⟨l1, l2, l3, l4, l5, l6, ?_, ?_, ?_, ?_, ?_⟩
    · exact FO_cg (fun j _ hj => (c1 j hj).symm) l7
    · exact FO_cg (fun j _ hj => (c2 j hj).symm) l8
    · intro j hj
      rw [c1 j hj]; exact l9 j hj
    · intro j hj
      rw [c2 j hj]; exact l10 j hj
    · intro j hj h7
      rw [c2 j hj] at h7 ⊢
      obtain ⟨i, hi, ei⟩ := l11 j hj h7
      exact ⟨i, hi, by rw [c1 i hi]; exact ei⟩
/-- fewer rules -/
theorem RR_less {r r' : Nat} {lsz lf rsz rg : Nat → Int32} {lz rz : Nat → Nat} (H : bu_RR r lsz lf rsz rg lz rz) (h : r' ≤ r) : bu_RR r' lsz lf rsz rg lz rz := ⟨Nat.le_trans h H.1, fun k hk => H.2 k (by omega)⟩
/-- the good rule's facts -/
theorem GD_RR {r : Nat} {lsz lf rsz rg po st : Nat → Int32} {lz rz : Nat → Nat} {b0 k1 k2 : Nat} (H : bu_RR r lsz lf rsz rg lz rz) (hr : r < 6) (hk1 : 0 < k1) (hk2 : 0 < k2) (k31 : k2 ≤ 31) (h1 : bu_PT (bu_sg po b0 k1) (bu_sg st b0 k1)) (h2 : bu_PT (bu_sg po (b0 + k1) k2) (bu_sg st (b0 + k1) k2)) (r1 : bu_rg (bu_sg po b0 k1)) (r2 : bu_rg (bu_sg po (b0 + k1) k2)) (G : bu_GD (bu_sg st b0 k1) (bu_sg st (b0 + k1) k2)) :
    bu_RR (r + 1) (upd lsz r (nI k1)) (bu_cp lf (7 * r) (fun j => st (b0 + j)) k1) (upd rsz r (nI k2)) (bu_cp rg (31 * r) (fun j => st (b0 + k1 + j)) k2) (bu_up lz r k1) (bu_up rz r k2) := by
  have e1 : bu_sg (fun j => st (b0 + j)) 0 k1 = bu_sg st b0 k1 := bu_sg_cg _ _ _ (fun j _ => by rw [Nat.zero_add])
  have e2 : bu_sg (fun j => st (b0 + k1 + j)) 0 k2 = bu_sg st (b0 + k1) k2 := bu_sg_cg _ _ _ (fun j _ => by rw [Nat.zero_add])
  have m1 : ∀ j, j < k1 → st (b0 + j) ∈ bu_sg st b0 k1 := fun j hj => (bu_sg_mem _ _ _ _).mpr ⟨j, hj, rfl⟩
  have m2 : ∀ j, j < k2 → st (b0 + k1 + j) ∈ bu_sg st (b0 + k1) k2 := fun j hj => (bu_sg_mem _ _ _ _).mpr ⟨j, hj, rfl⟩
  have g2 := G.2.1
  rw [bu_sg_len] at g2
  have R2 : ∀ j, j < k2 → ∃ m : Nat, m ≤ 9 ∧ st (b0 + k1 + j) = nI m := fun j hj => r2 _ ((PT_mem h2 _).mp (m2 j hj))
  refine RR_add H hr hk1 g2 hk2 k31 (by rw [e1]; exact PT_Fo h1) (by rw [e2]; exact PT_Fo h2) (fun j hj => r1 _ ((PT_mem h1 _).mp (m1 j hj))) R2 ?_
  intro j hj h7
  obtain ⟨v, hv, e⟩ := bu_isv (R2 j hj) h7
  have hc := (G.2.2 v hv).2
  have p2 : 0 < (bu_sg st (b0 + k1) k2).count (nI (7 + v)) := List.count_pos_iff.mpr (by rw [← e]; exact m2 j hj)
  have p1 : 0 < (bu_sg st b0 k1).count (nI (7 + v)) := by omega
  obtain ⟨i, hi, ei⟩ := (bu_sg_mem _ _ _ _).mp (List.count_pos_iff.mp p1)
  exact ⟨i, hi, by rw [ei, ← e]⟩
end
section
/-! a new rule: the walks -/
section XRU
variable {f_written f_height f_rules f_patterns f_root f_lined : Int32} {a_post a_begin a_leftSize a_left a_rightSize a_right a_patternSymbol a_patternFirst a_patternSecond a_top a_used a_symbol a_first a_second a_above a_size a_line a_order a_pile a_bound : Nat → Int32} {a_fitting : Nat → Int64}
theorem xq_r220 {post : Int32 → SX → Prop} {r h b0 k n : Nat} {s : Nat → Int32} {o lz rz : Nat → Nat} (hr : r < 6) (hh : 2 ≤ h) (hk : k ≤ 31) (hT : bu_T1 a_symbol a_first a_second a_above s n o) (hz : a_size 0 = 0) (hR : bu_RR (r + 1) a_leftSize a_left a_rightSize (bu_cp a_right (31 * r) a_line k) lz rz)
    (K : ∀ P ps pf pg top sz ft od pl, bu_PR (r + 1) P ps pf pg top a_left lz → (∀ j, j < n → bu_WO P ps pf pg a_symbol a_first a_second sz ft (o j)) → sz 0 = 0 → post (nI r) (nI b0, nI (h - 2), nI (r + 1), nI P, nI (o 0), nI k, a_post, a_begin, a_leftSize, a_left, a_rightSize, bu_cp a_right (31 * r) a_line k, ps, pf, pg, top, a_used, a_symbol, a_first, a_second, a_above, sz, ft, a_line, od, pl, a_bound)) :
    ∀ (d i nn : Nat), i + d = k → d < nn → wX_rule_220 post (nI b0) f_written (nI h) (nI r) f_patterns (nI (o 0)) (nI k) nn (nI i) a_post a_begin a_leftSize a_left a_rightSize (bu_cp a_right (31 * r) a_line i) a_patternSymbol a_patternFirst a_patternSecond a_top a_used a_symbol a_first a_second a_above a_size a_fitting a_line a_order a_pile a_bound := by
  obtain ⟨n0, n31, hF, hS, hI, hA, hz0⟩ := hT
  intro d
  induction d with
  | zero =>
    intro i nn hd hnn
    obtain ⟨m, rfl⟩ : ∃ m, nn = m + 1 := ⟨nn - 1, by omega⟩
    have e : i = k := by omega
    subst e
    refine br_t (nI_le (by omega) (by omega)) (nm_r (nI_1 r) (nm_r (e' := nI (h - 2)) (pk_sub (b := 2) hh) ?_))
    refine xq_pr hS hF hI n31 n0 hz hR rfl rfl ?_
    intro P ps pf pg top sz ft od pl q1 q2 q3
    have KK := K P ps pf pg top sz ft od pl q1 q2 q3
    rw [← nI_pred r] at KK
    exact KK
  | succ d ih =>
    intro i nn hd hnn
    obtain ⟨m, rfl⟩ : ∃ m, nn = m + 1 := ⟨nn - 1, by omega⟩
    refine br_f (nI_ge (by omega) (by omega)) ?_
    rw [bu_31k, bu_cl2 (n := 31 * r + i) (by omega), bu_cl (n := i) (by omega)]
    exact ⟨pk_in i 32 (by omega), pk_in (31 * r + i) 186 (by omega), nm_r (e' := bu_cp a_right (31 * r) a_line (i + 1)) rfl (nm_r (nI_1 i) (ih (i + 1) m (by omega) (by omega)))⟩
theorem xq_r158 {post : Int32 → SX → Prop} {r h b0 k1 k2 n : Nat} {s st : Nat → Int32} {o lz rz : Nat → Nat} (hr : r < 6) (hh : 2 ≤ h) (hk7 : k1 ≤ 7) (hk : b0 + k1 + k2 ≤ 31) (hT : bu_T1 a_symbol a_first a_second a_above s n o) (hz : a_size 0 = 0) (h2 : bu_PT (bu_sg a_post (b0 + k1) k2) (bu_sg st (b0 + k1) k2)) (hl : ∀ j, j < k1 → a_line j = st (b0 + j))
    (hR : bu_RR (r + 1) a_leftSize (bu_cp a_left (7 * r) (fun j => st (b0 + j)) k1) (upd a_rightSize r (nI k2)) (bu_cp a_right (31 * r) (fun j => st (b0 + k1 + j)) k2) lz rz)
    (K : ∀ P ps pf pg top sz ft ld ln od pl, bu_PR (r + 1) P ps pf pg top (bu_cp a_left (7 * r) (fun j => st (b0 + j)) k1) lz → (∀ j, j < n → bu_WO P ps pf pg a_symbol a_first a_second sz ft (o j)) → sz 0 = 0 → post (nI r) (nI b0, nI (h - 2), nI (r + 1), nI P, nI (o 0), ld, a_post, a_begin, a_leftSize, bu_cp a_left (7 * r) (fun j => st (b0 + j)) k1, upd a_rightSize r (nI k2), bu_cp a_right (31 * r) (fun j => st (b0 + k1 + j)) k2, ps, pf, pg, top, a_used, a_symbol, a_first, a_second, a_above, sz, ft, ln, od, pl, a_bound)) :
    ∀ (d i nn : Nat), i + d = k1 → d < nn → wX_rule_158 post (nI b0) (nI (b0 + k1)) (nI (b0 + k1 + k2)) (nI h) (nI r) f_patterns (nI (o 0)) (nI k1) nn (nI i) a_post a_begin a_leftSize (bu_cp a_left (7 * r) a_line i) a_rightSize a_right a_patternSymbol a_patternFirst a_patternSecond a_top a_used a_symbol a_first a_second a_above a_size a_fitting a_line a_order a_pile a_bound := by
  intro d
  induction d with
  | zero =>
    intro i nn hd hnn
    obtain ⟨m, rfl⟩ : ∃ m, nn = m + 1 := ⟨nn - 1, by omega⟩
    have e : i = k1 := by omega
    subst e
    have e1 : bu_cp a_left (7 * r) a_line i = bu_cp a_left (7 * r) (fun j => st (b0 + j)) i := cp_cg i hl
    refine br_t (nI_le (by omega) (by omega)) ?_
    refine xq_lu hk h2 (fun ln pl hln => ?_)
    have el : (bu_sg st (b0 + i) k2).length = k2 := bu_sg_len _ _ _
    rw [el] at hln ⊢
    refine ⟨pk_in r 6 hr, nm_r (e' := upd a_rightSize r (nI k2)) (by rw [bu_cl (by omega)]) (Exists.intro (k2 + 1) ?_)⟩
    have e2 : bu_cp a_right (31 * r) ln k2 = bu_cp a_right (31 * r) (fun j => st (b0 + i + j)) k2 := cp_cg k2 (fun j hj => by
      have := bu_sg_inj k2 0 (b0 + i) hln j hj
      rw [Nat.zero_add] at this
      exact this)
    rw [e1]
    refine xq_r220 (n := n) (s := s) (o := o) (lz := lz) (rz := rz) hr hh (by omega) hT hz (by rw [e2]; exact hR) ?_ k2 0 (k2 + 1) (by omega) (by omega)
    intro P ps pf pg top sz ft od pl2 q1 q2 q3
    rw [e2]
    exact K P ps pf pg top sz ft _ ln od pl2 q1 q2 q3
  | succ d ih =>
    intro i nn hd hnn
    obtain ⟨m, rfl⟩ : ∃ m, nn = m + 1 := ⟨nn - 1, by omega⟩
    refine br_f (nI_ge (by omega) (by omega)) ?_
    rw [bu_7k, bu_cl2 (n := 7 * r + i) (by omega), bu_cl (n := i) (by omega)]
    exact ⟨pk_in i 32 (by omega), pk_in (7 * r + i) 42 (by omega), nm_r (e' := bu_cp a_left (7 * r) a_line (i + 1)) rfl (nm_r (nI_1 i) (ih (i + 1) m (by omega) (by omega)))⟩
theorem xq_r97 {post : Int32 → SX → Prop} {r h b0 k1 k2 n : Nat} {s st : Nat → Int32} {o lz rz : Nat → Nat} {z0 : Int32} (hr : r < 6) (hh : 2 ≤ h) (hk1 : 0 < k1) (hk2 : 0 < k2) (hk : b0 + k1 + k2 ≤ 31) (hT : bu_T1 a_symbol a_first a_second a_above s n o) (hz : a_size 0 = 0) (h1 : bu_PT (bu_sg a_post b0 k1) (bu_sg st b0 k1)) (h2 : bu_PT (bu_sg a_post (b0 + k1) k2) (bu_sg st (b0 + k1) k2)) (r1 : bu_rg (bu_sg a_post b0 k1)) (r2 : bu_rg (bu_sg a_post (b0 + k1) k2)) (hR : bu_RR r a_leftSize a_left a_rightSize a_right lz rz)
    (hG : z0 = 0 → (bu_GD (bu_sg st b0 k1) (bu_sg st (b0 + k1) k2) ↔ nI (bu_vo 0 (bu_sg a_post (b0 + k1) k2)) &&& (nI (bu_vo 0 (bu_sg a_post b0 k1)) ^^^ (-1)) = 0)) (hB : ¬ z0 = 0 → ¬ bu_GD (bu_sg st b0 k1) (bu_sg st (b0 + k1) k2))
    (K3 : ¬ bu_GD (bu_sg st b0 k1) (bu_sg st (b0 + k1) k2) → post (-3) (nI (b0 + k1 + k2), nI h, nI r, f_patterns, nI (o 0), f_lined, a_post, a_begin, a_leftSize, a_left, a_rightSize, a_right, a_patternSymbol, a_patternFirst, a_patternSecond, a_top, a_used, a_symbol, a_first, a_second, a_above, a_size, a_fitting, a_line, a_order, a_pile, a_bound))
    (K : ∀ P ps pf pg top sz ft ld ln od pl, bu_GD (bu_sg st b0 k1) (bu_sg st (b0 + k1) k2) → bu_PR (r + 1) P ps pf pg top (bu_cp a_left (7 * r) (fun j => st (b0 + j)) k1) (bu_up lz r k1) → (∀ j, j < n → bu_WO P ps pf pg a_symbol a_first a_second sz ft (o j)) → sz 0 = 0 → post (nI r) (nI b0, nI (h - 2), nI (r + 1), nI P, nI (o 0), ld, a_post, a_begin, upd a_leftSize r (nI k1), bu_cp a_left (7 * r) (fun j => st (b0 + j)) k1, upd a_rightSize r (nI k2), bu_cp a_right (31 * r) (fun j => st (b0 + k1 + j)) k2, ps, pf, pg, top, a_used, a_symbol, a_first, a_second, a_above, sz, ft, ln, od, pl, a_bound)) :
    wX_rule_97 post (nI b0) (nI (b0 + k1)) z0 (nI (b0 + k1 + k2)) (nI h) (nI r) f_patterns (nI (o 0)) f_lined a_post a_begin a_leftSize a_left a_rightSize a_right a_patternSymbol a_patternFirst a_patternSecond a_top a_used a_symbol a_first a_second a_above a_size a_fitting a_line a_order a_pile a_bound := by
  refine xq_vo (by omega) r1 (xq_vo hk r2 ?_)
  by_cases hz0 : z0 = 0
  · refine br_t hz0 ?_
    by_cases g : nI (bu_vo 0 (bu_sg a_post (b0 + k1) k2)) &&& (nI (bu_vo 0 (bu_sg a_post b0 k1)) ^^^ (-1)) = 0
    · have G := (hG hz0).mpr g
      have hk7 := G.2.1
      rw [bu_sg_len] at hk7
      have hR' := GD_RR hR hr hk1 hk2 (by omega) h1 h2 r1 r2 G
      refine br_t g (xq_lu (by omega) h1 (fun ln pl hln => ?_))
      have el : (bu_sg st b0 k1).length = k1 := bu_sg_len _ _ _
      rw [el] at hln ⊢
      refine ⟨pk_in r 6 hr, nm_r (e' := upd a_leftSize r (nI k1)) (by rw [bu_cl (by omega)]) (Exists.intro (k1 + 1) ?_)⟩
      refine xq_r158 (st := st) (n := n) (s := s) (o := o) (lz := bu_up lz r k1) (rz := bu_up rz r k2) hr hh hk7 hk hT hz h2 (fun j hj => ?_) hR' ?_ k1 0 (k1 + 1) (by omega) (by omega)
      · have := bu_sg_inj k1 0 b0 hln j hj
        rw [Nat.zero_add] at this
        exact this
      · intro P ps pf pg top sz ft ld ln2 od pl2 q1 q2 q3
        exact K P ps pf pg top sz ft ld ln2 od pl2 G q1 q2 q3
    · exact br_f g (K3 (fun z => g ((hG hz0).mp z)))
  · exact br_f hz0 (K3 (hB hz0))
theorem xq_rule {post : Int32 → SX → Prop} {r h b0 k1 k2 n : Nat} {s st : Nat → Int32} {o lz rz : Nat → Nat} (hr : r ≤ 6) (h6 : h ≤ 6) (hK : r < 6 → 2 ≤ h → 0 < k1 ∧ 0 < k2 ∧ b0 + k1 + k2 ≤ 31 ∧ a_begin (h - 2) = nI b0 ∧ a_begin (h - 1) = nI (b0 + k1) ∧ f_written = nI (b0 + k1 + k2) ∧ bu_PT (bu_sg a_post b0 k1) (bu_sg st b0 k1) ∧ bu_PT (bu_sg a_post (b0 + k1) k2) (bu_sg st (b0 + k1) k2) ∧ bu_rg (bu_sg a_post b0 k1) ∧ bu_rg (bu_sg a_post (b0 + k1) k2))
    (hT : bu_T1 a_symbol a_first a_second a_above s n o) (hz : a_size 0 = 0) (hR : bu_RR r a_leftSize a_left a_rightSize a_right lz rz)
    (K2 : r = 6 → post (-2) (f_written, nI h, nI r, f_patterns, nI (o 0), f_lined, a_post, a_begin, a_leftSize, a_left, a_rightSize, a_right, a_patternSymbol, a_patternFirst, a_patternSecond, a_top, a_used, a_symbol, a_first, a_second, a_above, a_size, a_fitting, a_line, a_order, a_pile, a_bound)) (K3 : r < 6 → (2 ≤ h → ¬ bu_GD (bu_sg st b0 k1) (bu_sg st (b0 + k1) k2)) → post (-3) (f_written, nI h, nI r, f_patterns, nI (o 0), f_lined, a_post, a_begin, a_leftSize, a_left, a_rightSize, a_right, a_patternSymbol, a_patternFirst, a_patternSecond, a_top, a_used, a_symbol, a_first, a_second, a_above, a_size, a_fitting, a_line, a_order, a_pile, a_bound))
    (K : ∀ P ps pf pg top sz ft ld ln od pl, r < 6 → 2 ≤ h → bu_GD (bu_sg st b0 k1) (bu_sg st (b0 + k1) k2) → bu_PR (r + 1) P ps pf pg top (bu_cp a_left (7 * r) (fun j => st (b0 + j)) k1) (bu_up lz r k1) → (∀ j, j < n → bu_WO P ps pf pg a_symbol a_first a_second sz ft (o j)) → sz 0 = 0 → post (nI r) (nI b0, nI (h - 2), nI (r + 1), nI P, nI (o 0), ld, a_post, a_begin, upd a_leftSize r (nI k1), bu_cp a_left (7 * r) (fun j => st (b0 + j)) k1, upd a_rightSize r (nI k2), bu_cp a_right (31 * r) (fun j => st (b0 + k1 + j)) k2, ps, pf, pg, top, a_used, a_symbol, a_first, a_second, a_above, sz, ft, ln, od, pl, a_bound)) :
    wpX_rule post (f_written, nI h, nI r, f_patterns, nI (o 0), f_lined, a_post, a_begin, a_leftSize, a_left, a_rightSize, a_right, a_patternSymbol, a_patternFirst, a_patternSecond, a_top, a_used, a_symbol, a_first, a_second, a_above, a_size, a_fitting, a_line, a_order, a_pile, a_bound) := by
  by_cases e6 : r = 6
  · exact br_t (by rw [e6]; rfl) (K2 e6)
  · have r6 : r < 6 := by omega
    refine br_f (fun z => e6 ((nI_eq (b := 6) (by omega) (by decide)).mp z)) ?_
    by_cases h2 : 2 ≤ h
    · obtain ⟨c1, c2, c3, c4, c5, c6, c7, c8, c9, c10⟩ := hK r6 h2
      subst c6
      refine br_t (nI_le (a := 2) h2 (by omega)) ?_
      rw [show (nI h - 2 : Int32) = nI (h - 2) from pk_sub (b := 2) h2, show (nI h - 1 : Int32) = nI (h - 1) from pk_sub (b := 1) (by omega), bu_cl (n := h - 2) (by omega), bu_cl (n := h - 1) (by omega)]
      refine ⟨pk_in (h - 2) 6 (by omega), nm_r c4 ⟨pk_in (h - 1) 6 (by omega), nm_r c5 ?_⟩⟩
      have e1 : nI (b0 + k1) - nI b0 = nI k1 := by rw [pk_sub (by omega), Nat.add_sub_cancel_left]
      have GX := GD_X c7 c8 c1 c9 c10
      have bad : ¬ bu_GD (bu_sg st b0 k1) (bu_sg st (b0 + k1) k2) → wX_rule_97 post (nI b0) (nI (b0 + k1)) 1 (nI (b0 + k1 + k2)) (nI h) (nI r) f_patterns (nI (o 0)) f_lined a_post a_begin a_leftSize a_left a_rightSize a_right a_patternSymbol a_patternFirst a_patternSecond a_top a_used a_symbol a_first a_second a_above a_size a_fitting a_line a_order a_pile a_bound := fun nG => xq_r97 r6 h2 c1 c2 c3 hT hz c7 c8 c9 c10 hR (fun z => absurd z (by decide)) (fun _ => nG) (fun z => K3 r6 (fun _ => z)) (fun P ps pf pg top sz ft ld ln od pl g => K P ps pf pg top sz ft ld ln od pl r6 h2 g)
      have z69 : ¬ (k1 = 1 ∧ ¬ a_post b0 < 7) → wX_rule_70 post (nI b0) (nI (b0 + k1)) 0 (nI (b0 + k1 + k2)) (nI h) (nI r) f_patterns (nI (o 0)) f_lined a_post a_begin a_leftSize a_left a_rightSize a_right a_patternSymbol a_patternFirst a_patternSecond a_top a_used a_symbol a_first a_second a_above a_size a_fitting a_line a_order a_pile a_bound := by
        intro nl
        refine br_t rfl ?_
        rw [e1]
        by_cases k7 : 7 < k1
        · exact br_t (nI_lt (a := 7) k7 (by omega)) (bad (fun g => by have := (GX.mp g).2.1; omega))
        · refine br_f (nI_nlt (b := k1) (a := 7) (by omega) (by decide)) (xq_rt (by omega) c9 ?_)
          by_cases rr : bu_rt 0 (bu_sg a_post b0 k1) = true
          · rw [if_pos rr]
            exact br_f (by decide) (bad (fun g => (GX.mp g).2.2.1 rr))
          · rw [if_neg rr]
            refine br_t rfl (xq_r97 r6 h2 c1 c2 c3 hT hz c7 c8 c9 c10 hR (fun _ => ?_) (fun z => absurd rfl z) (fun z => K3 r6 (fun _ => z)) (fun P ps pf pg top sz ft ld ln od pl g => K P ps pf pg top sz ft ld ln od pl r6 h2 g))
            exact ⟨fun g => (GX.mp g).2.2.2, fun g => GX.mpr ⟨nl, by omega, rr, g⟩⟩
      rw [e1]
      by_cases k1e : k1 = 1
      · refine br_t (by rw [k1e]; rfl) ?_
        rw [bu_cl (n := b0) (by omega)]
        refine ⟨pk_in b0 31 (by omega), ?_⟩
        by_cases lo : a_post b0 < 7
        · exact br_t lo (z69 (fun z => z.2 lo))
        · exact br_f lo (br_f (by decide) (bad (fun g => (GX.mp g).1 ⟨k1e, lo⟩)))
      · exact br_f (fun z => k1e ((nI_eq (b := 1) (by omega) (by decide)).mp z)) (z69 (fun z => k1e z.1))
    · exact br_f (nI_ge (b := 2) (by omega) (by decide)) (K3 r6 (fun z => absurd z h2))
end XRU
section YRU
variable {f_depth f_rules f_size : Int32} {a_stack a_begins a_lefts a_leftSizes a_rights a_rightSizes a_subject a_fresh a_bound : Nat → Int32}
theorem yq_r147 {post : Int32 → SY → Prop} {r g b1 k : Nat} (hr : r < 6) (hg : g + 1 < 7) (hb : a_begins (g + 1) = nI b1) (hk : b1 + k ≤ 31) (ez : a_rightSizes r = nI k) (K : post (nI r) (nI g, nI (r + 1), f_size, a_stack, a_begins, a_lefts, a_leftSizes, bu_cp a_rights (31 * r) (fun j => a_stack (b1 + j)) k, a_rightSizes, a_subject, a_fresh, a_bound)) :
    ∀ (d i nn : Nat), i + d = k → d < nn → wY_rule_147 post (nI g) (nI r) f_size nn (nI i) a_stack a_begins a_lefts a_leftSizes (bu_cp a_rights (31 * r) (fun j => a_stack (b1 + j)) i) a_rightSizes a_subject a_fresh a_bound := by
  have er : (nI r).toNatClampNeg = r := bu_cl (by omega)
  intro d
  induction d with
  | zero =>
    intro i nn hd hnn
    obtain ⟨m, rfl⟩ : ∃ m, nn = m + 1 := ⟨nn - 1, by omega⟩
    have e : i = k := by omega
    subst e
    rw [← nI_pred r] at K
    exact And.intro (pk_in r 6 hr) (br_t (by rw [er, ez]; exact nI_le (by omega) (by omega)) (nm_r (nI_1 r) K))
  | succ d ih =>
    intro i nn hd hnn
    obtain ⟨m, rfl⟩ : ∃ m, nn = m + 1 := ⟨nn - 1, by omega⟩
    refine And.intro (pk_in r 6 hr) (br_f (by rw [er, ez]; exact nI_ge (by omega) (by omega)) ?_)
    rw [nI_1 g, bu_cl (n := g + 1) (by omega), hb, nI_add, bu_cl (n := b1 + i) (by omega), show (31 : Int32) * nI r + nI i = nI (31 * r + i) from by rw [show (31 : Int32) = nI 31 from rfl, pk_mul, nI_add], bu_cl2 (n := 31 * r + i) (by omega)]
    exact ⟨pk_in (g + 1) 7 hg, pk_in (b1 + i) 31 (by omega), pk_in (31 * r + i) 186 (by omega), nm_r (e' := bu_cp a_rights (31 * r) (fun j => a_stack (b1 + j)) (i + 1)) rfl (nm_r (nI_1 i) (ih (i + 1) m (by omega) (by omega)))⟩
theorem yq_r96 {post : Int32 → SY → Prop} {r g b0 k1 k2 : Nat} (hr : r < 6) (hg : g + 1 < 7) (hb0 : a_begins g = nI b0) (hb1 : a_begins (g + 1) = nI (b0 + k1)) (hk7 : k1 ≤ 7) (hk : b0 + k1 + k2 ≤ 31) (ez1 : a_leftSizes r = nI k1) (ez : a_rightSizes r = nI k2) (K : post (nI r) (nI g, nI (r + 1), f_size, a_stack, a_begins, bu_cp a_lefts (7 * r) (fun j => a_stack (b0 + j)) k1, a_leftSizes, bu_cp a_rights (31 * r) (fun j => a_stack (b0 + k1 + j)) k2, a_rightSizes, a_subject, a_fresh, a_bound)) :
    ∀ (d i nn : Nat), i + d = k1 → d < nn → wY_rule_96 post (nI g) (nI r) f_size nn (nI i) a_stack a_begins (bu_cp a_lefts (7 * r) (fun j => a_stack (b0 + j)) i) a_leftSizes a_rights a_rightSizes a_subject a_fresh a_bound := by
  have er : (nI r).toNatClampNeg = r := bu_cl (by omega)
  intro d
  induction d with
  | zero =>
    intro i nn hd hnn
    obtain ⟨m, rfl⟩ : ∃ m, nn = m + 1 := ⟨nn - 1, by omega⟩
    have e : i = k1 := by omega
    subst e
    refine And.intro (pk_in r 6 hr) (br_t (by rw [er, ez1]; exact nI_le (by omega) (by omega)) (Exists.intro (k2 + 1) ?_))
    exact yq_r147 hr hg hb1 hk ez K k2 0 (k2 + 1) (by omega) (by omega)
  | succ d ih =>
    intro i nn hd hnn
    obtain ⟨m, rfl⟩ : ∃ m, nn = m + 1 := ⟨nn - 1, by omega⟩
    refine And.intro (pk_in r 6 hr) (br_f (by rw [er, ez1]; exact nI_ge (by omega) (by omega)) ?_)
    rw [bu_cl (n := g) (by omega), hb0, nI_add, bu_cl (n := b0 + i) (by omega), show (7 : Int32) * nI r + nI i = nI (7 * r + i) from by rw [show (7 : Int32) = nI 7 from rfl, pk_mul, nI_add], bu_cl2 (n := 7 * r + i) (by omega)]
    exact ⟨pk_in g 7 (by omega), pk_in (b0 + i) 31 (by omega), pk_in (7 * r + i) 42 (by omega), nm_r (e' := bu_cp a_lefts (7 * r) (fun j => a_stack (b0 + j)) (i + 1)) rfl (nm_r (nI_1 i) (ih (i + 1) m (by omega) (by omega)))⟩
theorem yq_if58 {post : Int32 → Prop} {g b0 k1 k2 : Nat} (hg : g + 1 < 6) (hb0 : a_begins g = nI b0) (hb1 : a_begins (g + 1) = nI (b0 + k1)) (hb2 : a_begins (g + 2) = nI (b0 + k1 + k2)) (hk : b0 + k1 + k2 ≤ 31) :
    ∀ (d v nn : Nat), v + d = 3 → d < nn → ((∀ w, v ≤ w → w < 3 → (bu_sg a_stack b0 k1).count (nI (7 + w)) ≤ 1 ∧ ((bu_sg a_stack b0 k1).count (nI (7 + w)) = 0 → (bu_sg a_stack (b0 + k1) k2).count (nI (7 + w)) = 0)) → post 1) → ((¬ ∀ w, v ≤ w → w < 3 → (bu_sg a_stack b0 k1).count (nI (7 + w)) ≤ 1 ∧ ((bu_sg a_stack b0 k1).count (nI (7 + w)) = 0 → (bu_sg a_stack (b0 + k1) k2).count (nI (7 + w)) = 0)) → post 0) → wY_isFit_58 post (nI g) f_depth f_rules f_size a_stack a_begins a_lefts a_leftSizes a_rights a_rightSizes a_subject a_fresh a_bound nn (nI (7 + v)) := by
  intro d
  induction d with
  | zero =>
    intro v nn hd hnn K1 K0
    obtain ⟨m, rfl⟩ : ∃ m, nn = m + 1 := ⟨nn - 1, by omega⟩
    exact br_t (nI_le (a := 10) (by omega) (by omega)) (K1 (fun w h1 h2 => absurd h2 (by omega)))
  | succ d ih =>
    intro v nn hd hnn K1 K0
    obtain ⟨m, rfl⟩ : ∃ m, nn = m + 1 := ⟨nn - 1, by omega⟩
    have l1 : (bu_sg a_stack b0 k1).count (nI (7 + v)) ≤ 31 := by
      have := List.count_le_length (a := nI (7 + v)) (l := bu_sg a_stack b0 k1)
      rw [bu_sg_len] at this
      omega
    have l2 : (bu_sg a_stack (b0 + k1) k2).count (nI (7 + v)) ≤ 31 := by
      have := List.count_le_length (a := nI (7 + v)) (l := bu_sg a_stack (b0 + k1) k2)
      rw [bu_sg_len] at this
      omega
    have next : (bu_sg a_stack b0 k1).count (nI (7 + v)) ≤ 1 → ((bu_sg a_stack b0 k1).count (nI (7 + v)) = 0 → (bu_sg a_stack (b0 + k1) k2).count (nI (7 + v)) = 0) → wY_isFit_58 post (nI g) f_depth f_rules f_size a_stack a_begins a_lefts a_leftSizes a_rights a_rightSizes a_subject a_fresh a_bound m (nI (7 + v + 1)) := by
      intro o1 o2
      refine ih (v + 1) m (by omega) (by omega) (fun h => K1 (fun w w1 w2 => ?_)) (fun h => K0 (fun z => h (fun w w1 w2 => z w (by omega) w2)))
      by_cases e : w = v
      · rw [e]; exact ⟨o1, o2⟩
      · exact h w (by omega) w2
    refine br_f (nI_ge (b := 10) (by omega) (by decide)) (yq_ci (by omega) hb0 hb1 (by omega) ?_)
    by_cases c1 : 1 < (bu_sg a_stack b0 k1).count (nI (7 + v))
    · exact br_t (nI_lt (a := 1) c1 (by omega)) (K0 (fun z => by have := (z v (Nat.le_refl _) (by omega)).1; omega))
    · refine br_f (nI_nlt (b := (bu_sg a_stack b0 k1).count (nI (7 + v))) (a := 1) (by omega) (by decide)) ?_
      by_cases c0 : (bu_sg a_stack b0 k1).count (nI (7 + v)) = 0
      · refine br_t (by rw [c0]; rfl) ?_
        rw [nI_1 g]
        refine yq_ci (by omega) hb1 hb2 (by omega) ?_
        by_cases c2 : (bu_sg a_stack (b0 + k1) k2).count (nI (7 + v)) = 0
        · exact br_t (by rw [c2]; decide) (nm_r (nI_1 (7 + v)) (next (by omega) (fun _ => c2)))
        · exact br_f (nI_nle (by omega) (by omega)) (K0 (fun z => c2 ((z v (Nat.le_refl _) (by omega)).2 c0)))
      · exact br_f (nI_ne0 (by omega) (by omega)) (nm_r (nI_1 (7 + v)) (next (by omega) (fun z => absurd z c0)))
theorem yq_if {post : Int32 → Prop} {h b0 k1 k2 : Nat} (h6 : h ≤ 6) (hK : 2 ≤ h → 0 < k1 ∧ b0 + k1 + k2 ≤ 31 ∧ a_begins (h - 2) = nI b0 ∧ a_begins (h - 2 + 1) = nI (b0 + k1) ∧ a_begins (h - 2 + 2) = nI (b0 + k1 + k2))
    (K1 : 2 ≤ h → bu_GD (bu_sg a_stack b0 k1) (bu_sg a_stack (b0 + k1) k2) → post 1) (K0 : (2 ≤ h → ¬ bu_GD (bu_sg a_stack b0 k1) (bu_sg a_stack (b0 + k1) k2)) → post 0) : wpY_isFit post (nI h, f_rules, f_size, a_stack, a_begins, a_lefts, a_leftSizes, a_rights, a_rightSizes, a_subject, a_fresh, a_bound) := by
  by_cases h2 : 2 ≤ h
  · obtain ⟨c1, c2, c3, c4, c5⟩ := hK h2
    refine nm_r (e' := nI (h - 2)) (pk_sub (b := 2) h2) (br_f (nI_nlt (b := 2) h2 (by omega)) ?_)
    rw [nI_1 (h - 2), bu_cl (n := h - 2) (by omega), bu_cl (n := h - 2 + 1) (by omega), c3, c4, bu_cl (n := b0) (by omega), pk_sub (by omega), Nat.add_sub_cancel_left]
    refine ⟨pk_in (h - 2) 7 (by omega), pk_in b0 31 (by omega), ?_⟩
    have hd : (bu_sg a_stack b0 k1).getD 0 0 = a_stack b0 := by rw [bu_sg_get _ _ _ _ c1, Nat.add_zero]
    by_cases h7 : 7 ≤ a_stack b0
    · exact yq_iv1 h7 (br_f (by decide) (K0 (fun _ z => z.1 (by rw [hd]; exact h7))))
    · refine yq_iv0 h7 (br_t rfl ⟨pk_in (h - 2 + 1) 7 (by omega), pk_in (h - 2) 7 (by omega), ?_⟩)
      by_cases k7 : k1 ≤ 7
      · refine br_t (nI_le (b := 7) k7 (by decide)) (Exists.intro 4 ?_)
        refine yq_if58 (by omega) c3 c4 c5 c2 3 0 4 (by omega) (by omega) (fun z => K1 h2 ⟨by rw [hd]; exact h7, by rw [bu_sg_len]; exact k7, fun v hv => z v (Nat.zero_le _) hv⟩) (fun z => K0 (fun _ y => z (fun w _ w2 => y.2.2 w w2)))
      · exact br_f (nI_ge (a := 7) (by omega) (by omega)) (K0 (fun _ z => by have := z.2.1; rw [bu_sg_len] at this; exact k7 this))
  · exact nm_e (br_t (nI_lt (b := 2) (by omega) (by decide)) (K0 (fun z => absurd z h2)))
theorem yq_rule {post : Int32 → SY → Prop} {r h b0 k1 k2 : Nat} (hr : r ≤ 6) (h6 : h ≤ 6) (hK : 2 ≤ h → 0 < k1 ∧ b0 + k1 + k2 ≤ 31 ∧ a_begins (h - 2) = nI b0 ∧ a_begins (h - 2 + 1) = nI (b0 + k1) ∧ a_begins (h - 2 + 2) = nI (b0 + k1 + k2))
    (K2 : r = 6 → post (-2) (nI h, nI r, f_size, a_stack, a_begins, a_lefts, a_leftSizes, a_rights, a_rightSizes, a_subject, a_fresh, a_bound)) (K3 : r < 6 → (2 ≤ h → ¬ bu_GD (bu_sg a_stack b0 k1) (bu_sg a_stack (b0 + k1) k2)) → post (-3) (nI h, nI r, f_size, a_stack, a_begins, a_lefts, a_leftSizes, a_rights, a_rightSizes, a_subject, a_fresh, a_bound))
    (K : r < 6 → 2 ≤ h → bu_GD (bu_sg a_stack b0 k1) (bu_sg a_stack (b0 + k1) k2) → post (nI r) (nI (h - 2), nI (r + 1), f_size, a_stack, a_begins, bu_cp a_lefts (7 * r) (fun j => a_stack (b0 + j)) k1, upd a_leftSizes r (nI k1), bu_cp a_rights (31 * r) (fun j => a_stack (b0 + k1 + j)) k2, upd a_rightSizes r (nI k2), a_subject, a_fresh, a_bound)) : wpY_rule post (nI h, nI r, f_size, a_stack, a_begins, a_lefts, a_leftSizes, a_rights, a_rightSizes, a_subject, a_fresh, a_bound) := by
  by_cases e6 : r = 6
  · exact br_t (by rw [e6]; rfl) (K2 e6)
  · have r6 : r < 6 := by omega
    refine br_f (fun z => e6 ((nI_eq (b := 6) (by omega) (by decide)).mp z)) (yq_if h6 hK (fun h2 G => ?_) (fun z => br_t rfl (K3 r6 z)))
    obtain ⟨c1, c2, c3, c4, c5⟩ := hK h2
    have g2 := G.2.1
    rw [bu_sg_len] at g2
    refine br_f (by decide) (nm_r (e' := nI (h - 2)) (pk_sub (b := 2) h2) ?_)
    rw [nI_1 (h - 2), show nI (h - 2) + 2 = nI (h - 2 + 2) from nI_add (h - 2) 2, bu_cl (n := h - 2) (by omega), bu_cl (n := h - 2 + 1) (by omega), bu_cl (n := h - 2 + 2) (by omega), bu_cl (n := r) (by omega), c3, c4, c5, pk_sub (by omega), pk_sub (by omega), Nat.add_sub_cancel_left, Nat.add_sub_cancel_left]
    refine ⟨pk_in (h - 2 + 1) 7 (by omega), pk_in (h - 2) 7 (by omega), pk_in r 6 r6, nm_e ⟨pk_in (h - 2 + 2) 7 (by omega), pk_in (h - 2 + 1) 7 (by omega), pk_in r 6 r6, nm_e (Exists.intro (k1 + 1) ?_)⟩⟩
    exact yq_r96 r6 (by omega) c3 c4 g2 c2 pk_us pk_us (K r6 h2 G) k1 0 (k1 + 1) (by omega) (by omega)
end YRU
end
section
/-! a new subject -/
theorem T1_cg {sy fi se ab s s' : Nat → Int32} {n : Nat} {o : Nat → Nat} (h : ∀ j, j < n → s j = s' j) (H : bu_T1 sy fi se ab s n o) : bu_T1 sy fi se ab s' n o := by
  obtain ⟨n0, n31, hF, hS, hI, hA, hz⟩ := H
  have fe : ∀ i, bu_fe s' n 1 i = bu_fe s n 1 i := fun i => (fe_cg 1 (fun j _ hj => h j hj)).symm
  refine ⟨n0, n31, FO_cg (fun j _ hj => h j hj) hF, ?_, hI, ?_, hz⟩
  · intro i _ hi
    rw [fe, ← h i hi]
    exact hS i (Nat.zero_le _) hi
  · intro i hi
    rw [fe, ← h i hi]
    exact hA i hi
theorem RH_cg {P n : Nat} {ps pf pg us sy fi se ab sz s s' : Nat → Int32} {ft : Nat → Int64} {o : Nat → Nat} (h : ∀ j, j < n → s j = s' j) (H : bu_RH P ps pf pg us sy fi se ab sz ft s n o) : bu_RH P ps pf pg us sy fi se ab sz ft s' n o := ⟨T1_cg h H.1, H.2⟩
/-- a grown tree, all other nodes free -/
theorem bu_GRH {P : Nat} {ps pf pg us0 sy0 fi0 se0 ab0 sz0 : Nat → Int32} {ft0 : Nat → Int64} {w : Nat → Int32} {L : Nat} {oR : Nat → Nat} {us sy fi se ab sz : Nat → Int32} {ft : Nat → Int64} (hL : bu_FO w L 1 0) (L31 : L ≤ 31) (hU : ∀ x, 0 < x → x < 64 → us0 x = 0) (hz : sz0 0 = 0) (G : bu_GI P ps pf pg us0 sy0 fi0 se0 ab0 sz0 ft0 w L 0 oR us sy fi se ab sz ft) :
    bu_RH P ps pf pg us sy fi se (upd ab 0 0) sz ft w L oR := by
  obtain ⟨g1, g2, g3, g4, g5, g6⟩ := G
  have L0 : 0 < L := by
    have := FO_len hL
    omega
  have abR : ∀ j, j < L → upd ab 0 0 (oR j) = ab (oR j) := by
    intro j hj
    have ho := HS_o g1 (Nat.zero_le j) hj
    exact pk_un (by omega)
  refine ⟨⟨L0, L31, hL, g1, fun j k hj hk e => g2 j k (Nat.zero_le _) hj (Nat.zero_le _) hk e, ?_, by rw [abR 0 L0]; exact g6 L0⟩, ?_, ?_, fun i hi => (g3 i (Nat.zero_le _) hi).2.2⟩
  · intro j hj
    constructor
    · intro a
      rw [abR _ (FO_c1 hL hj a)]
      exact (g5 j (Nat.zero_le _) hj).1 a
    · intro a
      rw [abR _ (FO_c2 hL hj a)]
      exact (g5 j (Nat.zero_le _) hj).2 a
  · intro x x0 x64
    by_cases h : ∃ j, j < L ∧ oR j = x
    · obtain ⟨j, hj, e⟩ := h
      exact ⟨fun _ => ⟨j, hj, e⟩, fun _ => by rw [← e]; exact (g3 j (Nat.zero_le _) hj).2.1⟩
    · rw [(g4 x (fun j _ hj e => h ⟨j, hj, e.symm⟩)).1, hU x x0 x64]
      exact ⟨fun z => absurd rfl z, fun z => absurd z h⟩
  · rw [(g4 0 (fun k _ hk e => by have := (HS_o g1 (Nat.zero_le k) hk).1; omega)).2.2.2.2.1]
    exact hz
def bu_NV (LL : List Int32) : Prop := ∀ v, v < 3 → LL.count (nI (7 + v)) = 0
theorem NV_X {P L : List Int32} (h : bu_PT P L) (r : bu_rg P) : nI (bu_vo 0 P) = 0 ↔ bu_NV L := by
  rw [bu_m_0 _ (vo_lt _ _ r (by decide))]
  constructor
  · intro g v hv
    rw [PT_cnt h]
    apply List.count_eq_zero.mpr
    intro z
    have := (vo_bit P 0 r v hv).mpr (Or.inr z)
    rw [g v hv] at this
    exact absurd this (by decide)
  · intro g v hv
    have g2 := g v hv
    rw [PT_cnt h] at g2
    apply ts_nt
    intro z
    rcases (vo_bit P 0 r v hv).mp z with y | y
    · rw [Nat.zero_testBit] at y; exact absurd y (by decide)
    · exact List.count_eq_zero.mp g2 y
section XSU
variable {f_written f_height f_rules f_patterns f_root f_lined : Int32} {a_post a_begin a_leftSize a_left a_rightSize a_right a_patternSymbol a_patternFirst a_patternSecond a_top a_used a_symbol a_first a_second a_above a_size a_line a_order a_pile a_bound : Nat → Int32} {a_fitting : Nat → Int64}
theorem xq_sub {post : Int32 → SX → Prop} {r P h b0 k n : Nat} {s st s' : Nat → Int32} {o lz : Nat → Nat} (h6 : h ≤ 6) (hK : 0 < h → 0 < k ∧ b0 + k ≤ 31 ∧ a_begin (h - 1) = nI b0 ∧ f_written = nI (b0 + k) ∧ bu_PT (bu_sg a_post b0 k) (bu_sg st b0 k) ∧ bu_rg (bu_sg a_post b0 k))
    (r6 : r ≤ 6) (hP : bu_PR r P a_patternSymbol a_patternFirst a_patternSecond a_top a_left lz) (hH : bu_RH P a_patternSymbol a_patternFirst a_patternSecond a_used a_symbol a_first a_second a_above a_size a_fitting s n o) (hs' : ∀ j, j < k → s' j = st (b0 + j))
    (K3 : (0 < h → ¬ bu_NV (bu_sg st b0 k)) → post (-3) (f_written, nI h, f_rules, nI P, nI (o 0), f_lined, a_post, a_begin, a_leftSize, a_left, a_rightSize, a_right, a_patternSymbol, a_patternFirst, a_patternSecond, a_top, a_used, a_symbol, a_first, a_second, a_above, a_size, a_fitting, a_line, a_order, a_pile, a_bound))
    (K : ∀ o' us sy fi se ab sz ft ld ln od pl, 0 < h → bu_NV (bu_sg st b0 k) → bu_RH P a_patternSymbol a_patternFirst a_patternSecond us sy fi se ab sz ft s' k o' → post (nI k) (nI b0, nI (h - 1), f_rules, nI P, nI (o' 0), ld, a_post, a_begin, a_leftSize, a_left, a_rightSize, a_right, a_patternSymbol, a_patternFirst, a_patternSecond, a_top, us, sy, fi, se, ab, sz, ft, ln, od, pl, a_bound)) :
    wpX_subject post (f_written, nI h, f_rules, nI P, nI (o 0), f_lined, a_post, a_begin, a_leftSize, a_left, a_rightSize, a_right, a_patternSymbol, a_patternFirst, a_patternSecond, a_top, a_used, a_symbol, a_first, a_second, a_above, a_size, a_fitting, a_line, a_order, a_pile, a_bound) := by
  by_cases h0 : h = 0
  · subst h0
    exact br_t rfl (K3 (fun z => absurd z (by omega)))
  · obtain ⟨c1, c2, c3, c4, c5, c6⟩ := hK (by omega)
    subst c4
    obtain ⟨⟨n0, n31, hF, hS, hI, hA, hz0⟩, hU, hz, hW⟩ := id hH
    refine br_f (nI_ne0 (by omega) (by omega)) ?_
    rw [show (nI h - 1 : Int32) = nI (h - 1) from pk_sub (b := 1) (by omega), bu_cl (n := h - 1) (by omega)]
    refine ⟨pk_in (h - 1) 6 (by omega), nm_r c3 (xq_vo c2 c6 ?_)⟩
    have NX := NV_X c5 c6
    by_cases g : nI (bu_vo 0 (bu_sg a_post b0 k)) = 0
    · refine br_t g (xq_lu c2 c5 (fun ln pl hln => ?_))
      have el : (bu_sg st b0 k).length = k := bu_sg_len _ _ _
      rw [el] at hln ⊢
      have hFl : bu_FO ln k 1 0 := by
        unfold bu_FO
        rw [Nat.sub_zero, hln]
        exact PT_Fo c5
      refine nm_r (e' := nI (h - 1)) (pk_sub (b := 1) (by omega)) ?_
      refine xq_rel hS hF n31 n0 (fun us od pl2 v1 v2 => ?_)
      have e0 : bu_fe s n 1 0 = n := FO_end (Nat.zero_le _) hF
      rw [e0] at v1 v2
      have us0 : ∀ x, 0 < x → x < 64 → us x = 0 := by
        intro x x0 x64
        by_cases hx : ∃ j, j < n ∧ o j = x
        · obtain ⟨j, hj, e⟩ := hx
          rw [← e]; exact v1 j (Nat.zero_le _) hj
        · rw [v2 x (fun j _ hj e => hx ⟨j, hj, e.symm⟩)]
          apply Classical.byContradiction
          intro z
          exact hx ((hU x x0 x64).mp z)
      have P1 := hP.1
      have P2 := hP.2.1
      refine xq_grow (L := k) (by omega) rfl hFl (P := P) (by omega) P1 rfl (PV_f hP.2.2.1) (PV_g hP.2.2.1) [] (by decide) (fun x x0 x64 xu => absurd (us0 x x0 x64) xu) ?_
      intro oR us2 sy fi se ab sz ft pl3 G
      have RH := bu_GRH hFl (by omega) us0 hz G
      have RH' := RH_cg (s' := s') (fun j hj => by
        have := bu_sg_inj k 0 b0 hln j hj
        rw [Nat.zero_add] at this
        rw [this, hs' j hj]) RH
      have z0 := xq_size RH c1
      rw [FO_end (Nat.zero_le _) hFl, Nat.sub_zero] at z0
      have ho := HS_o G.1 (Nat.le_refl 0) c1
      have KK := K oR us2 sy fi se _ sz ft (nI k) ln od pl3 (by omega) (NX.mp g) RH'
      rw [← z0] at KK
      refine ⟨pk_in _ 64 ho.2, ?_⟩
      rw [bu_cl ho.2, z0]
      rw [z0] at KK
      exact KK
    · exact br_f g (K3 (fun _ z => g (NX.mpr z)))
end XSU
section YSU
variable {f_depth f_rules f_size : Int32} {a_stack a_begins a_lefts a_leftSizes a_rights a_rightSizes a_subject a_fresh a_bound : Nat → Int32}
theorem yq_su88 {post : Int32 → SY → Prop} {g b0 k : Nat} (hg : g < 7) (hb : a_begins g = nI b0) (hk : b0 + k ≤ 31) (K : post (nI k) (nI g, f_rules, nI k, a_stack, a_begins, a_lefts, a_leftSizes, a_rights, a_rightSizes, bu_cp a_subject 0 (fun j => a_stack (b0 + j)) k, a_fresh, a_bound)) :
    ∀ (d i nn : Nat), i + d = k → d < nn → wY_subject_88 post (nI g) f_rules (nI k) nn (nI i) a_stack a_begins a_lefts a_leftSizes a_rights a_rightSizes (bu_cp a_subject 0 (fun j => a_stack (b0 + j)) i) a_fresh a_bound := by
  intro d
  induction d with
  | zero =>
    intro i nn hd hnn
    obtain ⟨m, rfl⟩ : ∃ m, nn = m + 1 := ⟨nn - 1, by omega⟩
    have e : i = k := by omega
    subst e
    exact br_t (nI_le (by omega) (by omega)) K
  | succ d ih =>
    intro i nn hd hnn
    obtain ⟨m, rfl⟩ : ∃ m, nn = m + 1 := ⟨nn - 1, by omega⟩
    refine br_f (nI_ge (by omega) (by omega)) ?_
    rw [bu_cl (n := g) (by omega), hb, nI_add, bu_cl (n := b0 + i) (by omega), bu_cl (n := i) (by omega)]
    refine ⟨pk_in g 7 hg, pk_in (b0 + i) 31 (by omega), pk_in i 31 (by omega), nm_r (e' := bu_cp a_subject 0 (fun j => a_stack (b0 + j)) (i + 1)) (by rw [cp_s, Nat.zero_add]) (nm_r (nI_1 i) (ih (i + 1) m (by omega) (by omega)))⟩
theorem yq_sub {post : Int32 → SY → Prop} {h b0 k : Nat} (h6 : h ≤ 6) (hK : 0 < h → 0 < k ∧ b0 + k ≤ 31 ∧ a_begins (h - 1) = nI b0 ∧ a_begins (h - 1 + 1) = nI (b0 + k))
    (K3 : (0 < h → ¬ bu_NV (bu_sg a_stack b0 k)) → post (-3) (nI h, f_rules, f_size, a_stack, a_begins, a_lefts, a_leftSizes, a_rights, a_rightSizes, a_subject, a_fresh, a_bound))
    (K : 0 < h → bu_NV (bu_sg a_stack b0 k) → post (nI k) (nI (h - 1), f_rules, nI k, a_stack, a_begins, a_lefts, a_leftSizes, a_rights, a_rightSizes, bu_cp a_subject 0 (fun j => a_stack (b0 + j)) k, a_fresh, a_bound)) : wpY_subject post (nI h, f_rules, f_size, a_stack, a_begins, a_lefts, a_leftSizes, a_rights, a_rightSizes, a_subject, a_fresh, a_bound) := by
  by_cases h0 : h = 0
  · subst h0
    exact br_t rfl (K3 (fun z => absurd z (by omega)))
  · obtain ⟨c1, c2, c3, c4⟩ := hK (by omega)
    refine br_f (nI_ne0 (by omega) (by omega)) ?_
    have cl : ∀ v : Int32, (bu_sg a_stack b0 k).count v ≤ 31 := by
      intro v
      have := List.count_le_length (a := v) (l := bu_sg a_stack b0 k)
      rw [bu_sg_len] at this
      omega
    have l7 := cl 7
    have l8 := cl 8
    have l9 := cl 9
    rw [show (nI h - 1 : Int32) = nI (h - 1) from pk_sub (b := 1) (by omega)]
    refine yq_ci (by omega) c3 c4 c2 (yq_ci (by omega) c3 c4 c2 (yq_ci (by omega) c3 c4 c2 ?_))
    rw [nI_add, nI_add]
    by_cases g : (bu_sg a_stack b0 k).count 7 + (bu_sg a_stack b0 k).count 8 + (bu_sg a_stack b0 k).count 9 = 0
    · have nv : bu_NV (bu_sg a_stack b0 k) := by
        intro v hv
        rcases (show v = 0 ∨ v = 1 ∨ v = 2 by omega) with e | e | e
        · subst e; show (bu_sg a_stack b0 k).count 7 = 0; omega
        · subst e; show (bu_sg a_stack b0 k).count 8 = 0; omega
        · subst e; show (bu_sg a_stack b0 k).count 9 = 0; omega
      refine br_t (by rw [g]; decide) (nm_r (e' := nI (h - 1)) rfl ?_)
      rw [nI_1 (h - 1), bu_cl (n := h - 1) (by omega), bu_cl (n := h - 1 + 1) (by omega), c3, c4, pk_sub (by omega), Nat.add_sub_cancel_left]
      refine ⟨pk_in (h - 1 + 1) 7 (by omega), pk_in (h - 1) 7 (by omega), nm_e (Exists.intro (k + 1) ?_)⟩
      exact yq_su88 (by omega) c3 c2 (K (by omega) nv) k 0 (k + 1) (by omega) (by omega)
    · refine br_f (nI_nle (by omega) (by omega)) (K3 (fun _ z => g ?_))
      have a := z 0 (by decide)
      have b := z 1 (by decide)
      have c := z 2 (by decide)
      have a' : (bu_sg a_stack b0 k).count 7 = 0 := a
      have b' : (bu_sg a_stack b0 k).count 8 = 0 := b
      have c' : (bu_sg a_stack b0 k).count 9 = 0 := c
      omega
end YSU
end
section
/-! the relation -/
def i_Rel (_ : Nat) (u : SX) (v : SY) : Prop := match u, v with
  | (f_written, f_height, f_rules, f_patterns, f_root, f_lined, a_post, a_begin, a_leftSize, a_left, a_rightSize, a_right, a_patternSymbol, a_patternFirst, a_patternSecond, a_top, a_used, a_symbol, a_first, a_second, a_above, a_size, a_fitting, a_line, a_order, a_pile, a_bound), (y_depth, y_rules, y_size, y_stack, y_begins, y_lefts, y_leftSizes, y_rights, y_rightSizes, y_subject, y_fresh, y_bound) => ∃ (W h r P n : Nat) (b o lz rz : Nat → Nat), (f_written = nI W ∧ f_height = nI h ∧ f_rules = nI r ∧ f_patterns = nI P ∧ f_root = nI (o 0)) ∧ (y_depth = nI h ∧ y_rules = nI r ∧ y_size = nI n) ∧ (y_lefts = a_left ∧ y_leftSizes = a_leftSize ∧ y_rights = a_right ∧ y_rightSizes = a_rightSize) ∧
    bu_RS W h b a_post a_begin y_stack y_begins ∧ bu_RR r a_leftSize a_left a_rightSize a_right lz rz ∧ bu_PR r P a_patternSymbol a_patternFirst a_patternSecond a_top a_left lz ∧ bu_RH P a_patternSymbol a_patternFirst a_patternSecond a_used a_symbol a_first a_second a_above a_size a_fitting y_subject n o
theorem rl_in {k W h r P n : Nat} {b o lz rz : Nat → Nat} {f_lined : Int32} {a_post a_begin a_leftSize a_left a_rightSize a_right a_patternSymbol a_patternFirst a_patternSecond a_top a_used a_symbol a_first a_second a_above a_size a_line a_order a_pile a_bound : Nat → Int32} {a_fitting : Nat → Int64} {s b_stack b_begins b_fresh b_bound : Nat → Int32} (h1 : bu_RS W h b a_post a_begin b_stack b_begins) (h2 : bu_RR r a_leftSize a_left a_rightSize a_right lz rz) (h3 : bu_PR r P a_patternSymbol a_patternFirst a_patternSecond a_top a_left lz) (h4 : bu_RH P a_patternSymbol a_patternFirst a_patternSecond a_used a_symbol a_first a_second a_above a_size a_fitting s n o) :
    i_Rel k (nI W, nI h, nI r, nI P, nI (o 0), f_lined, a_post, a_begin, a_leftSize, a_left, a_rightSize, a_right, a_patternSymbol, a_patternFirst, a_patternSecond, a_top, a_used, a_symbol, a_first, a_second, a_above, a_size, a_fitting, a_line, a_order, a_pile, a_bound) (nI h, nI r, nI n, b_stack, b_begins, a_left, a_leftSize, a_right, a_rightSize, s, b_fresh, b_bound) :=
  Exists.intro W (Exists.intro h (Exists.intro r (Exists.intro P (Exists.intro n (Exists.intro b (Exists.intro o (Exists.intro lz (Exists.intro rz ⟨⟨rfl, rfl, rfl, rfl, rfl⟩, ⟨rfl, rfl, rfl⟩, ⟨rfl, rfl, rfl, rfl⟩, h1, h2, h3, h4⟩))))))))
theorem rl_el {Q : SX → SY → Prop} (hQ : ∀ (W h r P n : Nat) (b o lz rz : Nat → Nat) (f_lined : Int32) (a_post a_begin a_leftSize a_left a_rightSize a_right a_patternSymbol a_patternFirst a_patternSecond a_top a_used a_symbol a_first a_second a_above a_size : Nat → Int32) (a_fitting : Nat → Int64) (a_line a_order a_pile a_bound s b_stack b_begins b_fresh b_bound : Nat → Int32), bu_RS W h b a_post a_begin b_stack b_begins → bu_RR r a_leftSize a_left a_rightSize a_right lz rz → bu_PR r P a_patternSymbol a_patternFirst a_patternSecond a_top a_left lz → bu_RH P a_patternSymbol a_patternFirst a_patternSecond a_used a_symbol a_first a_second a_above a_size a_fitting s n o → Q (nI W, nI h, nI r, nI P, nI (o 0), f_lined, a_post, a_begin, a_leftSize, a_left, a_rightSize, a_right, a_patternSymbol, a_patternFirst, a_patternSecond, a_top, a_used, a_symbol, a_first, a_second, a_above, a_size, a_fitting, a_line, a_order, a_pile, a_bound) (nI h, nI r, nI n, b_stack, b_begins, a_left, a_leftSize, a_right, a_rightSize, s, b_fresh, b_bound)) {k : Nat} : ∀ {u : SX} {v : SY}, i_Rel k u v → Q u v := by
  intro u v I
  match u, v, I with
  | (f_written, f_height, f_rules, f_patterns, f_root, f_lined, a_post, a_begin, a_leftSize, a_left, a_rightSize, a_right, a_patternSymbol, a_patternFirst, a_patternSecond, a_top, a_used, a_symbol, a_first, a_second, a_above, a_size, a_fitting, a_line, a_order, a_pile, a_bound), (y_depth, y_rules, y_size, y_stack, y_begins, y_lefts, y_leftSizes, y_rights, y_rightSizes, y_subject, y_fresh, y_bound), I =>
    obtain ⟨W, h, r, P, n, b, o, lz, rz, ⟨e1, e2, e3, e4, e5⟩, ⟨e6, e7, e8⟩, ⟨e9, e10, e11, e12⟩, h1, h2, h3, h4⟩ := I
    subst e1 e2 e3 e4 e5 e6 e7 e8 e9 e10 e11 e12
    exact hQ W h r P n b o lz rz f_lined a_post a_begin _ _ _ _ a_patternSymbol a_patternFirst a_patternSecond a_top a_used a_symbol a_first a_second a_above a_size a_fitting a_line a_order a_pile a_bound y_subject y_stack y_begins y_fresh y_bound h1 h2 h3 h4
theorem i_up {k : Nat} {u : SX} {v : SY} (h : i_Rel k u v) : i_Rel (k + 3) u v := h
theorem i_vc0 : wpX_init (fun u => wpY_init (fun v => i_Rel 0 u v)) := by
  have hF : bu_FO (upd (fun _ => 0) 0 0) 1 1 0 := by
    unfold bu_FO
    exact bu_Fo_cons.mpr ⟨by decide, bu_Fo_nil.mpr (by decide)⟩
  refine nm_e (xq_grow (L := 1) (P := 1) (by decide) rfl hF (by decide) (by decide) rfl (fun p p0 p1 => absurd p1 (by omega)) (fun p p0 p1 => absurd p1 (by omega)) [] (by decide) (fun x _ _ h => absurd rfl h) ?_)
  intro o us sy fi se ab sz ft pl G
  have RH := RH_cg (s' := fun _ => 0) (fun j hj => by unfold upd; split <;> rfl) (bu_GRH hF (by decide) (fun _ _ _ => rfl) rfl G)
  dsimp only [wpY_init]
  refine rl_in (W := 0) (h := 0) (r := 0) (P := 1) (n := 1) (b := fun _ => 0) (o := o) (lz := fun _ => 0) (rz := fun _ => 0) ?_ ?_ ?_ RH
  · exact ⟨by decide, by decide, rfl, rfl, fun t ht => absurd ht (by omega), fun t ht => absurd ht (by omega), fun t ht => rfl, fun t ht => absurd ht (by omega), fun j hj => absurd hj (by omega)⟩
  · exact ⟨by decide, fun k hk => absurd hk (by omega)⟩
  · exact ⟨by decide, by decide, fun p p0 p1 => absurd p1 (by omega), fun k hk => absurd hk (by omega)⟩
end
section
/-! what is owed: the stack, the rules, the subject -/
theorem rl_o {P n : Nat} {ps pf pg us sy fi se ab sz : Nat → Int32} {ft : Nat → Int64} {s : Nat → Int32} {o : Nat → Nat} (hH : bu_RH P ps pf pg us sy fi se ab sz ft s n o) : 0 < o 0 ∧ o 0 < 64 := HS_o hH.1.2.2.2.1 (Nat.zero_le _) hH.1.1
theorem rl_z {P n : Nat} {ps pf pg us sy fi se ab sz : Nat → Int32} {ft : Nat → Int64} {s : Nat → Int32} {o : Nat → Nat} (hH : bu_RH P ps pf pg us sy fi se ab sz ft s n o) : sz (o 0) = nI n := by
  rw [xq_size hH hH.1.1, FO_end (Nat.zero_le _) hH.1.2.2.1, Nat.sub_zero]
theorem i_vc_build {k : Nat} {u : SX} {v : SY} (I : i_Rel k u v) (hk : k + 3 ≤ 1536) (v1 : Int32) : wpX_build (fun r u' => wpY_build (fun r' v' => r' = r ∧ i_Rel (k + 3) u' v') v v1) u v1 := by
  refine rl_el (Q := fun u v => wpX_build (fun r u' => wpY_build (fun r' v' => r' = r ∧ i_Rel (k + 3) u' v') v v1) u v1) ?_ I
  intro W h r P n b o lz rz f_lined a_post a_begin a_leftSize a_left a_rightSize a_right a_patternSymbol a_patternFirst a_patternSecond a_top a_used a_symbol a_first a_second a_above a_size a_fitting a_line a_order a_pile a_bound s b_stack b_begins b_fresh b_bound hS hR hP hH
  have h6 := hS.1
  have hW := hS.2.1
  have eW : b_begins h = nI W := by rw [hS.2.2.2.2.2.2.1 h (Nat.le_refl _), hS.2.2.2.1]
  have hb : bu_ar v1 ≤ h → b_begins (h - bu_ar v1) = nI (b (h - bu_ar v1)) ∧ b (h - bu_ar v1) ≤ W := fun ha => ⟨hS.2.2.2.2.2.2.1 _ (by omega), by
    have := RS_le hS (show h - bu_ar v1 ≤ h by omega) (Nat.le_refl _)
    rw [hS.2.2.2.1] at this
    exact this⟩
  refine xq_bd hW h6 (fun c => ?_) (fun c1 c2 c => ?_) (fun c1 c2 c3 c4 c => ?_) (fun c1 c2 c3 c4 c => ?_)
  · exact yq_bd (b := b) hW h6 eW hb (fun _ => ⟨rfl, rl_in hS hR hP hH⟩) (fun d1 d2 _ => absurd c (fun z => z.elim d1 (fun y => y d2))) (fun d1 d2 _ _ _ => absurd c (fun z => z.elim d1 (fun y => y d2))) (fun d1 d2 _ _ _ => absurd c (fun z => z.elim d1 (fun y => y d2)))
  · exact yq_bd (b := b) hW h6 eW hb (fun d => absurd d (fun z => z.elim c1 (fun y => y c2))) (fun _ _ _ => ⟨rfl, rl_in hS hR hP hH⟩) (fun _ _ d3 d4 _ => by omega) (fun _ _ d3 d4 _ => by omega)
  · exact yq_bd (b := b) hW h6 eW hb (fun d => absurd d (fun z => z.elim c1 (fun y => y c2))) (fun _ _ d => by omega) (fun _ _ _ _ _ => ⟨rfl, rl_in hS hR hP hH⟩) (fun _ _ d3 d4 _ => by omega)
  · refine yq_bd (b := b) hW h6 eW hb (fun d => absurd d (fun z => z.elim c1 (fun y => y c2))) (fun _ _ d => by omega) (fun _ _ _ _ _ => by omega) (fun _ _ _ _ _ => ⟨rfl, rl_in (RS_build hS ?_ rfl c3 c4 c) hR hP hH⟩)
    obtain ⟨j, hj, e⟩ := nI_of2 (n := 9) (M := 9) (by decide) c1 c2
    exact ⟨j, hj, e⟩
theorem i_vc_depth {k : Nat} {u : SX} {v : SY} (I : i_Rel k u v) (hk : k + 3 ≤ 1536) : wpX_depth (fun r => wpY_depth (fun r' => r' = r ∧ i_Rel (k + 3) u v) v) u := by
  refine rl_el (Q := fun u v => wpX_depth (fun r => wpY_depth (fun r' => r' = r ∧ i_Rel (k + 3) u v) v) u) ?_ I
  intro W h r P n b o lz rz f_lined a_post a_begin a_leftSize a_left a_rightSize a_right a_patternSymbol a_patternFirst a_patternSecond a_top a_used a_symbol a_first a_second a_above a_size a_fitting a_line a_order a_pile a_bound s b_stack b_begins b_fresh b_bound hS hR hP hH
  exact And.intro rfl (rl_in hS hR hP hH)
theorem i_vc_discard {k : Nat} {u : SX} {v : SY} (I : i_Rel k u v) (hk : k + 3 ≤ 1536) : wpX_discard (fun u' => wpY_discard (fun v' => i_Rel (k + 3) u' v') v) u := by
  refine rl_el (Q := fun u v => wpX_discard (fun u' => wpY_discard (fun v' => i_Rel (k + 3) u' v') v) u) ?_ I
  intro W h r P n b o lz rz f_lined a_post a_begin a_leftSize a_left a_rightSize a_right a_patternSymbol a_patternFirst a_patternSecond a_top a_used a_symbol a_first a_second a_above a_size a_fitting a_line a_order a_pile a_bound s b_stack b_begins b_fresh b_bound hS hR hP hH
  have h0 := RS_pop hS (Nat.zero_le h)
  rw [hS.2.2.1] at h0
  have J := rl_in (k := k + 3) (W := 0) (h := 0) (f_lined := f_lined) (a_line := a_line) (a_order := a_order) (a_pile := a_pile) (a_bound := a_bound) (b_fresh := b_fresh) (b_bound := b_bound) h0 hR hP hH
  exact J
theorem i_vc_rules {k : Nat} {u : SX} {v : SY} (I : i_Rel k u v) (hk : k + 3 ≤ 1536) : wpX_rules (fun r => wpY_rules (fun r' => r' = r ∧ i_Rel (k + 3) u v) v) u := by
  refine rl_el (Q := fun u v => wpX_rules (fun r => wpY_rules (fun r' => r' = r ∧ i_Rel (k + 3) u v) v) u) ?_ I
  intro W h r P n b o lz rz f_lined a_post a_begin a_leftSize a_left a_rightSize a_right a_patternSymbol a_patternFirst a_patternSecond a_top a_used a_symbol a_first a_second a_above a_size a_fitting a_line a_order a_pile a_bound s b_stack b_begins b_fresh b_bound hS hR hP hH
  exact And.intro rfl (rl_in hS hR hP hH)
theorem i_vc_size {k : Nat} {u : SX} {v : SY} (I : i_Rel k u v) (hk : k + 3 ≤ 1536) : wpX_size (fun r => wpY_size (fun r' => r' = r ∧ i_Rel (k + 3) u v) v) u := by
  refine rl_el (Q := fun u v => wpX_size (fun r => wpY_size (fun r' => r' = r ∧ i_Rel (k + 3) u v) v) u) ?_ I
  intro W h r P n b o lz rz f_lined a_post a_begin a_leftSize a_left a_rightSize a_right a_patternSymbol a_patternFirst a_patternSecond a_top a_used a_symbol a_first a_second a_above a_size a_fitting a_line a_order a_pile a_bound s b_stack b_begins b_fresh b_bound hS hR hP hH
  refine And.intro (pk_in _ 64 (rl_o hH).2) (And.intro ?_ (rl_in hS hR hP hH))
  rw [bu_cl (rl_o hH).2, rl_z hH]
theorem i_vc_rule {k : Nat} {u : SX} {v : SY} (I : i_Rel k u v) (hk : k + 3 ≤ 1536) : wpX_rule (fun r u' => wpY_rule (fun r' v' => r' = r ∧ i_Rel (k + 3) u' v') v) u := by
  refine rl_el (Q := fun u v => wpX_rule (fun r u' => wpY_rule (fun r' v' => r' = r ∧ i_Rel (k + 3) u' v') v) u) ?_ I
  intro W h r P n b o lz rz f_lined a_post a_begin a_leftSize a_left a_rightSize a_right a_patternSymbol a_patternFirst a_patternSecond a_top a_used a_symbol a_first a_second a_above a_size a_fitting a_line a_order a_pile a_bound s b_stack b_begins b_fresh b_bound hS hR hP hH
  have h6 := hS.1
  have hW := hS.2.1
  have f1 : 2 ≤ h → 0 < b (h - 1) - b (h - 2) ∧ 0 < W - b (h - 1) ∧ b (h - 2) + (b (h - 1) - b (h - 2)) = b (h - 1) ∧ b (h - 1) + (W - b (h - 1)) = W := by
    intro h2
    have a := hS.2.2.2.2.1 (h - 2) (by omega)
    have c := hS.2.2.2.2.1 (h - 1) (by omega)
    rw [show h - 2 + 1 = h - 1 from by omega] at a
    rw [show h - 1 + 1 = h from by omega, hS.2.2.2.1] at c
    omega
  have rgp : ∀ x l, x + l ≤ W → bu_rg (bu_sg a_post x l) := by
    intro x l hl t ht
    obtain ⟨j, hj, e⟩ := (bu_sg_mem _ _ _ _).mp ht
    rw [← e]
    exact hS.2.2.2.2.2.2.2.2 _ (by omega)
  have f2 : 2 ≤ h → bu_PT (bu_sg a_post (b (h - 2)) (b (h - 1) - b (h - 2))) (bu_sg b_stack (b (h - 2)) (b (h - 1) - b (h - 2))) ∧ bu_PT (bu_sg a_post (b (h - 1)) (W - b (h - 1))) (bu_sg b_stack (b (h - 1)) (W - b (h - 1))) := by
    intro h2
    have a := hS.2.2.2.2.2.2.2.1 (h - 2) (by omega)
    have c := hS.2.2.2.2.2.2.2.1 (h - 1) (by omega)
    rw [show h - 2 + 1 = h - 1 from by omega] at a
    rw [show h - 1 + 1 = h from by omega, hS.2.2.2.1] at c
    exact ⟨a, c⟩
  have hKY : 2 ≤ h → 0 < b (h - 1) - b (h - 2) ∧ b (h - 2) + (b (h - 1) - b (h - 2)) + (W - b (h - 1)) ≤ 31 ∧ b_begins (h - 2) = nI (b (h - 2)) ∧ b_begins (h - 2 + 1) = nI (b (h - 2) + (b (h - 1) - b (h - 2))) ∧ b_begins (h - 2 + 2) = nI (b (h - 2) + (b (h - 1) - b (h - 2)) + (W - b (h - 1))) := by
    intro h2
    obtain ⟨p1, p2, p3, p4⟩ := f1 h2
    have q := hS.2.2.2.2.2.2.1
    refine ⟨p1, by omega, q _ (by omega), ?_, ?_⟩
    · rw [show h - 2 + 1 = h - 1 from by omega, p3]; exact q _ (by omega)
    · rw [show h - 2 + 2 = h from by omega, p3, p4, ← hS.2.2.2.1]; exact q _ (Nat.le_refl _)
  refine xq_rule (st := b_stack) (b0 := b (h - 2)) (k1 := b (h - 1) - b (h - 2)) (k2 := W - b (h - 1)) hR.1 h6 ?_ hH.1 hH.2.2.1 hR ?_ ?_ ?_
  · intro _ h2
    obtain ⟨p1, p2, p3, p4⟩ := f1 h2
    obtain ⟨g1, g2⟩ := f2 h2
    rw [p3, p4]
    exact ⟨p1, p2, hW, hS.2.2.2.2.2.1 _ (by omega), hS.2.2.2.2.2.1 _ (by omega), rfl, g1, g2, rgp _ _ (by omega), rgp _ _ (by omega)⟩
  · intro e6
    exact yq_rule (b0 := b (h - 2)) (k1 := b (h - 1) - b (h - 2)) (k2 := W - b (h - 1)) hR.1 h6 hKY (fun _ => ⟨rfl, rl_in hS hR hP hH⟩) (fun d _ => absurd e6 (by omega)) (fun d _ _ => absurd e6 (by omega))
  · intro r6 nG
    exact yq_rule (b0 := b (h - 2)) (k1 := b (h - 1) - b (h - 2)) (k2 := W - b (h - 1)) hR.1 h6 hKY (fun d => absurd d (by omega)) (fun _ _ => ⟨rfl, rl_in hS hR hP hH⟩) (fun _ h2 G => absurd G (nG h2))
  · intro P' ps pf pg top sz ft ld ln od pl r6 h2 G q1 q2 q3
    obtain ⟨p1, p2, p3, p4⟩ := f1 h2
    obtain ⟨g1, g2⟩ := f2 h2
    refine yq_rule (b0 := b (h - 2)) (k1 := b (h - 1) - b (h - 2)) (k2 := W - b (h - 1)) hR.1 h6 hKY (fun d => absurd d (by omega)) (fun _ z => absurd G (z h2)) (fun _ _ _ => ⟨rfl, ?_⟩)
    refine rl_in (RS_pop hS (show h - 2 ≤ h by omega)) (GD_RR (po := a_post) hR r6 p1 p2 (by omega) g1 (by rw [p3]; exact g2) (rgp _ _ (by omega)) (by rw [p3]; exact rgp _ _ (by omega)) G) q1 ⟨hH.1, hH.2.1, q3, q2⟩
theorem i_vc_unrule {k : Nat} {u : SX} {v : SY} (I : i_Rel k u v) (hk : k + 3 ≤ 1536) : wpX_unrule (fun r u' => wpY_unrule (fun r' v' => r' = r ∧ i_Rel (k + 3) u' v') v) u := by
  refine rl_el (Q := fun u v => wpX_unrule (fun r u' => wpY_unrule (fun r' v' => r' = r ∧ i_Rel (k + 3) u' v') v) u) ?_ I
  intro W h r P n b o lz rz f_lined a_post a_begin a_leftSize a_left a_rightSize a_right a_patternSymbol a_patternFirst a_patternSecond a_top a_used a_symbol a_first a_second a_above a_size a_fitting a_line a_order a_pile a_bound s b_stack b_begins b_fresh b_bound hS hR hP hH
  have hr := hR.1
  by_cases e0 : r = 0
  · have z : nI r = 0 := by rw [e0]; rfl
    exact br_t z (br_t z ⟨rfl, rl_in hS hR hP hH⟩)
  · have z : ¬ nI r = 0 := nI_ne0 (by omega) (by omega)
    have e1 : nI r - 1 = nI (r - 1) := pk_sub (b := 1) (by omega)
    obtain ⟨⟨n0, n31, hF, hS', hI, hA, hz0⟩, hU, hz, hW⟩ := id hH
    have hR' := RR_less hR (show r - 1 ≤ r by omega)
    refine br_f z (nm_r e1 (xq_pr hS' hF hI n31 n0 hz hR' rfl rfl ?_))
    intro P' ps pf pg top sz ft od pl q1 q2 q3
    exact br_f z (nm_r e1 ⟨rfl, rl_in hS hR' q1 ⟨hH.1, hH.2.1, q3, q2⟩⟩)
theorem i_vc_subject {k : Nat} {u : SX} {v : SY} (I : i_Rel k u v) (hk : k + 3 ≤ 1536) : wpX_subject (fun r u' => wpY_subject (fun r' v' => r' = r ∧ i_Rel (k + 3) u' v') v) u := by
  refine rl_el (Q := fun u v => wpX_subject (fun r u' => wpY_subject (fun r' v' => r' = r ∧ i_Rel (k + 3) u' v') v) u) ?_ I
  intro W h r P n b o lz rz f_lined a_post a_begin a_leftSize a_left a_rightSize a_right a_patternSymbol a_patternFirst a_patternSecond a_top a_used a_symbol a_first a_second a_above a_size a_fitting a_line a_order a_pile a_bound s b_stack b_begins b_fresh b_bound hS hR hP hH
  have h6 := hS.1
  have hW := hS.2.1
  have f1 : 0 < h → 0 < W - b (h - 1) ∧ b (h - 1) + (W - b (h - 1)) = W := by
    intro h2
    have c := hS.2.2.2.2.1 (h - 1) (by omega)
    rw [show h - 1 + 1 = h from by omega, hS.2.2.2.1] at c
    omega
  have hKY : 0 < h → 0 < W - b (h - 1) ∧ b (h - 1) + (W - b (h - 1)) ≤ 31 ∧ b_begins (h - 1) = nI (b (h - 1)) ∧ b_begins (h - 1 + 1) = nI (b (h - 1) + (W - b (h - 1))) := by
    intro h2
    obtain ⟨p1, p2⟩ := f1 h2
    have q := hS.2.2.2.2.2.2.1
    refine ⟨p1, by omega, q _ (by omega), ?_⟩
    rw [show h - 1 + 1 = h from by omega, p2, ← hS.2.2.2.1]
    exact q _ (Nat.le_refl _)
  refine xq_sub (st := b_stack) (b0 := b (h - 1)) (k := W - b (h - 1)) (s' := bu_cp s 0 (fun j => b_stack (b (h - 1) + j)) (W - b (h - 1))) h6 ?_ hR.1 hP hH ?_ ?_ ?_
  · intro h2
    obtain ⟨p1, p2⟩ := f1 h2
    have c := hS.2.2.2.2.2.2.2.1 (h - 1) (by omega)
    rw [show h - 1 + 1 = h from by omega, hS.2.2.2.1] at c
    rw [p2]
    refine ⟨p1, hW, hS.2.2.2.2.2.1 _ (by omega), rfl, c, ?_⟩
    intro t ht
    obtain ⟨j, hj, e⟩ := (bu_sg_mem _ _ _ _).mp ht
    rw [← e]
    exact hS.2.2.2.2.2.2.2.2 _ (by omega)
  · intro j hj
    have := cp_in (f := s) (b := 0) (src := fun j => b_stack (b (h - 1) + j)) (W - b (h - 1)) hj
    rw [Nat.zero_add] at this
    exact this
  · intro nG
    exact yq_sub h6 hKY (fun _ => ⟨rfl, rl_in hS hR hP hH⟩) (fun h2 G => absurd G (nG h2))
  · intro o' us sy fi se ab sz ft ld ln od pl h2 G hH'
    refine yq_sub h6 hKY (fun z => absurd G (z h2)) (fun _ _ => ⟨rfl, ?_⟩)
    exact rl_in (RS_pop hS (show h - 1 ≤ h by omega)) hR hP hH'
end
section
/-! what is owed: looking and rewriting -/
theorem i_vc_symbol {k : Nat} {u : SX} {v : SY} (I : i_Rel k u v) (hk : k + 3 ≤ 1536) (v1 : Int32) : wpX_symbol (fun r u' => wpY_symbol (fun r' => r' = r ∧ i_Rel (k + 3) u' v) v v1) u v1 := by
  refine rl_el (Q := fun u v => wpX_symbol (fun r u' => wpY_symbol (fun r' => r' = r ∧ i_Rel (k + 3) u' v) v v1) u v1) ?_ I
  intro W h r P n b o lz rz f_lined a_post a_begin a_leftSize a_left a_rightSize a_right a_patternSymbol a_patternFirst a_patternSecond a_top a_used a_symbol a_first a_second a_above a_size a_fitting a_line a_order a_pile a_bound s b_stack b_begins b_fresh b_bound hS hR hP hH
  obtain ⟨⟨n0, n31, hF, hS', hI, hA, hz0⟩, hU, hz, hW⟩ := id hH
  unfold wpX_symbol
  refine xq_na hS' hF n31 n0 rfl (rl_z hH) (fun c => br_t rfl ?_) (fun i od pl hi e => ?_)
  · rcases c with c | c
    · exact br_t c ⟨rfl, rl_in hS hR hP hH⟩
    · exact br_c (fun _ => ⟨rfl, rl_in hS hR hP hH⟩) (fun _ => br_t c ⟨rfl, rl_in hS hR hP hH⟩)
  · have ho := HS_o hS' (Nat.zero_le _) hi
    subst e
    refine br_f (bu_ne0 ho.1 ho.2) ⟨pk_in _ 64 ho.2, br_f (nI_pos (by omega)) (br_f (nI_ge (by omega) (by omega)) ⟨pk_in i 31 (by omega), ?_, rl_in hS hR hP hH⟩)⟩
    rw [bu_cl ho.2, bu_cl (n := i) (by omega)]
    exact (HS_sy hS' (Nat.zero_le _) hi).symm
theorem i_vc_sizeAt {k : Nat} {u : SX} {v : SY} (I : i_Rel k u v) (hk : k + 3 ≤ 1536) (v1 : Int32) : wpX_sizeAt (fun r u' => wpY_sizeAt (fun r' => r' = r ∧ i_Rel (k + 3) u' v) v v1) u v1 := by
  refine rl_el (Q := fun u v => wpX_sizeAt (fun r u' => wpY_sizeAt (fun r' => r' = r ∧ i_Rel (k + 3) u' v) v v1) u v1) ?_ I
  intro W h r P n b o lz rz f_lined a_post a_begin a_leftSize a_left a_rightSize a_right a_patternSymbol a_patternFirst a_patternSecond a_top a_used a_symbol a_first a_second a_above a_size a_fitting a_line a_order a_pile a_bound s b_stack b_begins b_fresh b_bound hS hR hP hH
  obtain ⟨⟨n0, n31, hF, hS', hI, hA, hz0⟩, hU, hz, hW⟩ := id hH
  unfold wpX_sizeAt
  refine xq_na hS' hF n31 n0 rfl (rl_z hH) (fun c => br_t rfl ?_) (fun i od pl hi e => ?_)
  · rcases c with c | c
    · exact br_t c ⟨rfl, rl_in hS hR hP hH⟩
    · exact br_c (fun _ => ⟨rfl, rl_in hS hR hP hH⟩) (fun _ => br_t c ⟨rfl, rl_in hS hR hP hH⟩)
  · have ho := HS_o hS' (Nat.zero_le _) hi
    subst e
    refine br_f (bu_ne0 ho.1 ho.2) ⟨pk_in _ 64 ho.2, br_f (nI_pos (by omega)) (br_f (nI_ge (by omega) (by omega)) (yq_bh n31 rfl (by omega) ⟨?_, rl_in hS hR hP hH⟩))⟩
    rw [bu_cl ho.2, xq_size hH hi, pk_sub (fe_ge _ _ _ _)]
theorem i_vc_fits {k : Nat} {u : SX} {v : SY} (I : i_Rel k u v) (hk : k + 3 ≤ 1536) (v1 : Int32) : wpX_fits (fun r u' => wpY_fits (fun r' v' => r' = r ∧ i_Rel (k + 3) u' v') v v1) u v1 := by
  refine rl_el (Q := fun u v => wpX_fits (fun r u' => wpY_fits (fun r' v' => r' = r ∧ i_Rel (k + 3) u' v') v v1) u v1) ?_ I
  intro W h r P n b o lz rz f_lined a_post a_begin a_leftSize a_left a_rightSize a_right a_patternSymbol a_patternFirst a_patternSecond a_top a_used a_symbol a_first a_second a_above a_size a_fitting a_line a_order a_pile a_bound s b_stack b_begins b_fresh b_bound hS hR hP hH
  obtain ⟨⟨n0, n31, hF, hS', hI, hA, hz0⟩, hU, hz, hW⟩ := id hH
  unfold wpX_fits
  refine xq_na hS' hF n31 n0 rfl (rl_z hH) (fun c => br_t rfl ?_) (fun i od pl hi e => ?_)
  · rcases c with c | c
    · exact br_t c ⟨rfl, rl_in hS hR hP hH⟩
    · exact br_c (fun _ => ⟨rfl, rl_in hS hR hP hH⟩) (fun _ => br_f (Int32.not_lt.mpr c) ⟨rfl, rl_in hS hR hP hH⟩)
  · have ho := HS_o hS' (Nat.zero_le _) hi
    subst e
    refine br_f (bu_ne0 ho.1 ho.2) (xq_ran hR hP hH hi ?_)
    exact yq_fi hR rfl n31 rfl hF hi (fun bd _ => ⟨rfl, rl_in hS hR hP hH⟩)
theorem i_vc_redexes {k : Nat} {u : SX} {v : SY} (I : i_Rel k u v) (hk : k + 3 ≤ 1536) : wpX_redexes (fun r u' => wpY_redexes (fun r' v' => r' = r ∧ i_Rel (k + 3) u' v') v) u := by
  refine rl_el (Q := fun u v => wpX_redexes (fun r u' => wpY_redexes (fun r' v' => r' = r ∧ i_Rel (k + 3) u' v') v) u) ?_ I
  intro W h r P n b o lz rz f_lined a_post a_begin a_leftSize a_left a_rightSize a_right a_patternSymbol a_patternFirst a_patternSecond a_top a_used a_symbol a_first a_second a_above a_size a_fitting a_line a_order a_pile a_bound s b_stack b_begins b_fresh b_bound hS hR hP hH
  obtain ⟨⟨n0, n31, hF, hS', hI, hA, hz0⟩, hU, hz, hW⟩ := id hH
  unfold wpX_redexes
  refine xq_lpr hS' hF n31 n0 (fun od pl hod => Exists.intro (n + 1) ?_)
  refine xq_rx13 (r := r) (F := bu_FF s n a_left lz r) n31 hod (fun i => FF_neg hR.1) (fun po i hi K => xq_ran hR hP hH hi K) n 0 0 (n + 1) (by omega) (by omega) (Nat.le_refl _) ?_
  exact Exists.intro (n + 1) (yq_rx4 hR rfl n31 rfl hF n 0 0 (n + 1) _ (by omega) (by omega) (fun bd => ⟨rfl, rl_in hS hR hP hH⟩))
theorem i_vc_step {k : Nat} {u : SX} {v : SY} (I : i_Rel k u v) (hk : k + 3 ≤ 1536) : wpX_step (fun r u' => wpY_step (fun r' v' => r' = r ∧ i_Rel (k + 3) u' v') v) u := by
  refine rl_el (Q := fun u v => wpX_step (fun r u' => wpY_step (fun r' v' => r' = r ∧ i_Rel (k + 3) u' v') v) u) ?_ I
  intro W h r P n b o lz rz f_lined a_post a_begin a_leftSize a_left a_rightSize a_right a_patternSymbol a_patternFirst a_patternSecond a_top a_used a_symbol a_first a_second a_above a_size a_fitting a_line a_order a_pile a_bound s b_stack b_begins b_fresh b_bound hS hR hP hH
  refine xq_step hR hP hH ?_
  intro o' us sy fi se ab sz ft ld ln od pl bd hH'
  exact yq_step hR hH.1.2.1 hH.1.2.2.1 (fun fr bd' => ⟨rfl, rl_in hS hR hP hH'⟩)
theorem i_vc_run {k : Nat} {u : SX} {v : SY} (I : i_Rel k u v) (hk : k + 3 ≤ 1536) (v1 : Int32) : wpX_run (fun r u' => wpY_run (fun r' v' => r' = r ∧ i_Rel (k + 3) u' v') v v1) u v1 := by
  refine rl_el (Q := fun u v => wpX_run (fun r u' => wpY_run (fun r' v' => r' = r ∧ i_Rel (k + 3) u' v') v v1) u v1) ?_ I
  intro W h r P n b o lz rz f_lined a_post a_begin a_leftSize a_left a_rightSize a_right a_patternSymbol a_patternFirst a_patternSecond a_top a_used a_symbol a_first a_second a_above a_size a_fitting a_line a_order a_pile a_bound s b_stack b_begins b_fresh b_bound hS hR hP hH
  obtain ⟨N, hN40, hN, hN2⟩ := bu_rN v1
  refine Exists.intro (N + 2) (xq_run7 hR hP hN hN2 N 0 0 (N + 2) n s o _ _ _ _ _ _ _ _ _ _ _ _ (by omega) (by omega) hH ?_)
  intro o' us sy fi se ab sz ft ld ln od pl bd hH'
  exact Exists.intro (N + 2) (yq_run7 hR hN hN2 N 0 0 (N + 2) n s _ _ (by omega) (by omega) hH.1.1 hH.1.2.1 hH.1.2.2.1 (fun fr bd' => ⟨rfl, rl_in hS hR hP hH'⟩))
theorem i_vc_same {k : Nat} {u : SX} {v : SY} (I : i_Rel k u v) (hk : k + 3 ≤ 1536) (v1 : Int32) (v2 : Int32) : wpX_same (fun r u' => wpY_same (fun r' => r' = r ∧ i_Rel (k + 3) u' v) v v1 v2) u v1 v2 := by
  refine rl_el (Q := fun u v => wpX_same (fun r u' => wpY_same (fun r' => r' = r ∧ i_Rel (k + 3) u' v) v v1 v2) u v1 v2) ?_ I
  intro W h r P n b o lz rz f_lined a_post a_begin a_leftSize a_left a_rightSize a_right a_patternSymbol a_patternFirst a_patternSecond a_top a_used a_symbol a_first a_second a_above a_size a_fitting a_line a_order a_pile a_bound s b_stack b_begins b_fresh b_bound hS hR hP hH
  obtain ⟨⟨n0, n31, hF, hS', hI, hA, hz0⟩, hU, hz, hW⟩ := id hH
  -- Y answers 0 where a place is wanting
  have y1 : ∀ (post : Int32 → Prop), (v1 < 0 ∨ nI n ≤ v1) → post 0 → wpY_same post (nI h, nI r, nI n, b_stack, b_begins, a_left, a_leftSize, a_right, a_rightSize, s, b_fresh, b_bound) v1 v2 := by
    intro post c K
    rcases c with c | c
    · exact br_t c K
    · exact br_c (fun _ => K) (fun _ => br_t c K)
  have y2 : ∀ (post : Int32 → Prop), (v2 < 0 ∨ nI n ≤ v2) → post 0 → wpY_same post (nI h, nI r, nI n, b_stack, b_begins, a_left, a_leftSize, a_right, a_rightSize, s, b_fresh, b_bound) v1 v2 := by
    intro post c K
    refine br_c (fun _ => K) (fun _ => br_c (fun _ => K) (fun _ => ?_))
    rcases c with c | c
    · exact br_t c K
    · exact br_c (fun _ => K) (fun _ => br_f (Int32.not_lt.mpr c) K)
  unfold wpX_same
  refine xq_na hS' hF n31 n0 rfl (rl_z hH) (fun c => ?_) (fun i od pl hi e => ?_)
  · refine xq_na hS' hF n31 n0 rfl (rl_z hH) (fun d => ?_) (fun j od2 pl2 hj e2 => ?_)
    · exact br_t rfl (y1 _ c ⟨rfl, rl_in hS hR hP hH⟩)
    · exact br_t rfl (y1 _ c ⟨rfl, rl_in hS hR hP hH⟩)
  · have ho := HS_o hS' (Nat.zero_le _) hi
    refine xq_na hS' hF n31 n0 rfl (rl_z hH) (fun d => ?_) (fun j od2 pl2 hj e2 => ?_)
    · exact br_f (bu_ne0 ho.1 ho.2) (br_t rfl (y2 _ d ⟨rfl, rl_in hS hR hP hH⟩))
    · have ho2 := HS_o hS' (Nat.zero_le _) hj
      have gi := fe_ge s n 1 i
      have li := fe_le (s := s) 1 (Nat.le_of_lt hi)
      have gj := fe_ge s n 1 j
      have lj := fe_le (s := s) 1 (Nat.le_of_lt hj)
      subst e e2
      have yb : ∀ (post : Int32 → Prop), (bu_fe s n 1 i - i = bu_fe s n 1 j - j → post (bu_al (fun k => s (i + k)) (fun k => s (j + k)) (bu_fe s n 1 i - i) 0 1)) → (¬ bu_fe s n 1 i - i = bu_fe s n 1 j - j → post 0) → wpY_same post (nI h, nI r, nI n, b_stack, b_begins, a_left, a_leftSize, a_right, a_rightSize, s, b_fresh, b_bound) (nI i) (nI j) := by
        intro post K1 K0
        refine br_f (nI_pos (by omega)) (br_f (nI_ge (by omega) (by omega)) (br_f (nI_pos (by omega)) (br_t (nI_lt hj (by omega)) (yq_bh n31 rfl (by omega) (nm_r (e' := nI (bu_fe s n 1 i - i)) (pk_sub gi) (yq_bh n31 rfl (by omega) ?_))))))
        rw [pk_sub gj]
        by_cases he : bu_fe s n 1 i - i = bu_fe s n 1 j - j
        · refine br_t (by rw [he]) (Exists.intro (bu_fe s n 1 i - i + 1) ?_)
          exact yq_sm50 (by omega) (by omega) (bu_fe s n 1 i - i) 0 _ (by omega) (by omega) (K1 he)
        · exact br_f (fun z => he ((nI_eq (by omega) (by omega)).mp z).symm) (K0 he)
      refine br_f (bu_ne0 ho.1 ho.2) (br_f (bu_ne0 ho2.1 ho2.2) ⟨pk_in _ 64 ho.2, pk_in _ 64 ho2.2, ?_⟩)
      rw [bu_cl ho.2, bu_cl ho2.2, xq_size hH hi, xq_size hH hj]
      by_cases he : bu_fe s n 1 i - i = bu_fe s n 1 j - j
      · refine br_t (by rw [he]) (xq_lp hS' hF n31 hi (fun od3 pl3 hod => Exists.intro (bu_fe s n 1 i - i + 1) ?_))
        refine xq_sm50 hS' hF n31 hi hj he hod (fun ln od4 pl4 => ?_) (bu_fe s n 1 i - i) 0 _ _ (by omega) (by omega) (fun q hq => absurd hq (by omega))
        exact yb _ (fun _ => ⟨rfl, rl_in hS hR hP hH⟩) (fun z => absurd he z)
      · exact br_f (fun z => he ((nI_eq (by omega) (by omega)).mp z)) (yb _ (fun z => absurd z he) (fun _ => ⟨rfl, rl_in hS hR hP hH⟩))
theorem i_vc_digest {k : Nat} {u : SX} {v : SY} (I : i_Rel k u v) (hk : k + 3 ≤ 1536) : wpX_digest (fun r u' => wpY_digest (fun r' => r' = r ∧ i_Rel (k + 3) u' v) v) u := by
  refine rl_el (Q := fun u v => wpX_digest (fun r u' => wpY_digest (fun r' => r' = r ∧ i_Rel (k + 3) u' v) v) u) ?_ I
  intro W h r P n b o lz rz f_lined a_post a_begin a_leftSize a_left a_rightSize a_right a_patternSymbol a_patternFirst a_patternSecond a_top a_used a_symbol a_first a_second a_above a_size a_fitting a_line a_order a_pile a_bound s b_stack b_begins b_fresh b_bound hS hR hP hH
  obtain ⟨⟨n0, n31, hF, hS', hI, hA, hz0⟩, hU, hz, hW⟩ := id hH
  unfold wpX_digest
  refine xq_lpr hS' hF n31 n0 (fun od pl hod => Exists.intro (n + 1) ?_)
  refine xq_dg13 hS' n31 hod (bu_dg s) (fun _ _ => rfl) (fun _ _ _ => rfl) n 0 (n + 1) 0 (by omega) (by omega) ?_
  exact Exists.intro (n + 1) (yq_dg4 n31 rfl n 0 (n + 1) 0 (by omega) (by omega) ⟨rfl, rl_in hS hR hP hH⟩)
end
