section
/-! pure rows to paste: stores, nI and lN arithmetic, masks, shifts, narrowing, branches by naturals (pk_le, pk_lt, pk_eq), loops (lp1 .. lp16: the measure of the state; rp1 ..: recursion), negatives. Take what you need -/
theorem pk_us {f : Nat → Int32} {k : Nat} {x : Int32} : upd f k x k = x := if_pos rfl
theorem pk_un {f : Nat → Int32} {k j : Nat} {x : Int32} (h : j ≠ k) : upd f k x j = f j := if_neg h
theorem pk_uLs {f : Nat → Int64} {k : Nat} {x : Int64} : vp_updL f k x k = x := if_pos rfl
theorem pk_uLn {f : Nat → Int64} {k j : Nat} {x : Int64} (h : j ≠ k) : vp_updL f k x j = f j := if_neg h
theorem pk_sub {a b : Nat} (h : b ≤ a) : nI a - nI b = nI (a - b) := by
  obtain ⟨c, rfl⟩ : ∃ c, a = c + b := ⟨a - b, by omega⟩
  rw [← nI_add, Int32.add_sub_cancel, Nat.add_sub_cancel]
theorem pk_m1 (n : Nat) : nI (n + 1) + (-1) = nI n := by
  rw [← nI_1, Int32.add_assoc, show (1 : Int32) + (-1) = 0 from rfl, Int32.add_zero]
theorem pk_mul (a b : Nat) : nI a * nI b = nI (a * b) := (Int32.ofNat_mul a b).symm
theorem pk_div {a d : Nat} (ha : a < 2 ^ 31) (h0 : 0 < d) (hd : d < 2 ^ 31) : nI a / nI d = nI (a / d) := by
  apply Int32.toInt_inj.mp
  rw [lg_idiv_nonneg (by rw [nI_toInt ha]; omega) (by rw [nI_toInt hd]; omega), nI_toInt ha, nI_toInt hd, nI_toInt (Nat.lt_of_le_of_lt (Nat.div_le_self a d) ha)]
  first | rfl | exact (Int.natCast_ediv _ _).symm
theorem pk_rem {a d : Nat} (ha : a < 2 ^ 31) (h0 : 0 < d) (hd : d < 2 ^ 31) : nI a - nI a / nI d * nI d = nI (a % d) := by
  rw [pk_div ha h0 hd, pk_mul, pk_sub (Nat.div_mul_le_self a d)]
  exact congrArg nI (by have := Nat.div_add_mod' a d; omega)
theorem pk_sub_toInt {a b : Nat} (ha : a < 2 ^ 30) (hb : b < 2 ^ 30) : (nI a - nI b).toInt = (a : Int) - b := by
  rw [Int32.toInt_sub, nI_toInt (by omega), nI_toInt (by omega)]
  exact Int.bmod_eq_of_le (by omega) (by omega)
theorem pk_sneg {a b : Nat} (hb : b < 2 ^ 30) (h : a < b) : nI a - nI b < 0 := by
  rw [Int32.lt_iff_toInt_lt, pk_sub_toInt (by omega) hb, show (0 : Int32).toInt = 0 from by decide]
  omega
theorem pk_ix (x : Int32) {n : Nat} (hn : n < 2 ^ 31) : x < 0 ∨ nI n ≤ x ∨ ∃ j : Nat, j < n ∧ x = nI j := by
  by_cases h : x < 0
  · exact Or.inl h
  · obtain ⟨j, hj, rfl⟩ := nI_of h
    by_cases h2 : j < n
    · exact Or.inr (Or.inr ⟨j, h2, rfl⟩)
    · exact Or.inr (Or.inl (nI_le (by omega) hj))
theorem pk_le {x y : Int32} {A B : Prop} (a b : Nat) (f : a ≤ b → A) (g : b < a → B) (hx : x = nI a := by rfl) (hy : y = nI b := by rfl) (ha : a < 2 ^ 31 := by omega) (hb : b < 2 ^ 31 := by omega) : (x ≤ y → A) ∧ (¬ x ≤ y → B) := by
  subst hx hy
  rw [nI_leI ha hb]
  exact ⟨f, fun z => g (by omega)⟩
theorem pk_lt {x y : Int32} {A B : Prop} (a b : Nat) (f : a < b → A) (g : b ≤ a → B) (hx : x = nI a := by rfl) (hy : y = nI b := by rfl) (ha : a < 2 ^ 31 := by omega) (hb : b < 2 ^ 31 := by omega) : (x < y → A) ∧ (¬ x < y → B) := by
  subst hx hy
  rw [nI_ltI ha hb]
  exact ⟨f, fun z => g (by omega)⟩
theorem pk_eq {x y : Int32} {A B : Prop} (a b : Nat) (f : a = b → A) (g : a ≠ b → B) (hx : x = nI a := by rfl) (hy : y = nI b := by rfl) (ha : a < 2 ^ 31 := by omega) (hb : b < 2 ^ 31 := by omega) : (x = y → A) ∧ (¬ x = y → B) := by
  subst hx hy
  rw [nI_eq ha hb]
  exact ⟨f, g⟩
theorem pk_in {x : Int32} (n N : Nat) (h : n < N) (hx : x = nI n := by rfl) (hN : N < 2 ^ 31 := by omega) : vp_in x N := by
  subst hx
  exact vp_in_nI h hN
theorem pk_cl {x : Int32} (n : Nat) (hx : x = nI n := by rfl) (h : n < 2 ^ 31 := by omega) : x.toNatClampNeg = n := by
  subst hx
  exact nI_clamp h
theorem pk_tn {n : Nat} (h : n < 2 ^ 32) : (nI n).toBitVec.toNat = n := Nat.mod_eq_of_lt h
theorem pk_and (x : Int32) {m : Int32} (k : Nat) (hm : m.toBitVec.toNat = 2 ^ k - 1) : x &&& m = nI (x.toBitVec.toNat % 2 ^ k) := by
  apply Int32.toBitVec_inj.mp
  apply BitVec.eq_of_toNat_eq
  rw [Int32.toBitVec_and, BitVec.toNat_and, hm, Nat.and_two_pow_sub_one_eq_mod]
  show _ = (BitVec.ofNat 32 _).toNat
  rw [BitVec.toNat_ofNat]
  exact (Nat.mod_eq_of_lt (Nat.lt_of_le_of_lt (Nat.mod_le _ _) x.toBitVec.isLt)).symm
theorem pk_andN {n : Nat} (h : n < 2 ^ 32) {m : Int32} (k : Nat) (hm : m.toBitVec.toNat = 2 ^ k - 1) : nI n &&& m = nI (n % 2 ^ k) := by
  rw [pk_and _ k hm, pk_tn h]
theorem pk_andE (x : Int32) {m : Int32} (k : Nat) (hm : m.toBitVec.toNat = 2 ^ k - 1) : ∃ j : Nat, j < 2 ^ k ∧ x &&& m = nI j := ⟨_, Nat.mod_lt _ (Nat.two_pow_pos k), pk_and x k hm⟩
theorem pk_andIn (x : Int32) {m : Int32} (k : Nat) (hm : m.toBitVec.toNat = 2 ^ k - 1) (hk : k ≤ 30) : vp_in (x &&& m) (2 ^ k) := by
  obtain ⟨j, hj, e⟩ := pk_andE x k hm
  rw [e]
  exact vp_in_nI hj (Nat.lt_of_le_of_lt (Nat.pow_le_pow_right (by decide) hk) (by decide))
theorem pk_shl (a s : Int32) (k : Nat) (hs : (s.toBitVec.smod 32).toNat = k) : (a <<< s).toBitVec.toNat = a.toBitVec.toNat * 2 ^ k % 2 ^ 32 := by
  show (a.toBitVec <<< (s.toBitVec.smod 32).toNat).toNat = _
  rw [hs, BitVec.toNat_shiftLeft, Nat.shiftLeft_eq]
theorem pk_shlN {n : Nat} (s : Int32) (k : Nat) (hs : (s.toBitVec.smod 32).toNat = k) (h : n * 2 ^ k < 2 ^ 32) : nI n <<< s = nI (n * 2 ^ k) := by
  apply Int32.toBitVec_inj.mp
  apply BitVec.eq_of_toNat_eq
  have hn : n < 2 ^ 32 := Nat.lt_of_le_of_lt (Nat.le_mul_of_pos_right n (Nat.two_pow_pos k)) h
  rw [pk_shl _ _ k hs, pk_tn hn, pk_tn h, Nat.mod_eq_of_lt h]
theorem pk_shr (a s : Int32) (k : Nat) (hs : (s.toBitVec.smod 32).toNat = k) : (a >>> s).toInt = a.toInt >>> k := by
  show (a.toBitVec.sshiftRight (s.toBitVec.smod 32).toNat).toInt = _
  rw [hs, BitVec.toInt_sshiftRight]
  rfl
theorem pk_shrN {n : Nat} (h : n < 2 ^ 31) (s : Int32) (k : Nat) (hs : (s.toBitVec.smod 32).toNat = k) : nI n >>> s = nI (n / 2 ^ k) := by
  apply Int32.toInt_inj.mp
  have h2 : n / 2 ^ k ≤ n := Nat.div_le_self _ _
  rw [pk_shr _ _ k hs, nI_toInt h, nI_toInt (by omega), Int.shiftRight_eq_div_pow]
  rfl
theorem pk_ushr (x s : Int32) (k : Nat) (hs : ((s.toUInt32 &&& Int32.toUInt32 31).toBitVec % 32).toNat = k) : (x.toUInt32 >>> (s.toUInt32 &&& Int32.toUInt32 31)).toInt32.toBitVec.toNat = x.toBitVec.toNat / 2 ^ k := by
  have e : (x.toUInt32 >>> (s.toUInt32 &&& Int32.toUInt32 31)).toInt32.toBitVec = x.toBitVec >>> k := by
    rw [← hs]
    exact UInt32.toBitVec_shiftRight _ _
  rw [e, BitVec.toNat_ushiftRight, Nat.shiftRight_eq_div_pow]
theorem pk_ushrN {n : Nat} (hn : n < 2 ^ 32) (s : Int32) (k : Nat) (hs : ((s.toUInt32 &&& Int32.toUInt32 31).toBitVec % 32).toNat = k) : ((nI n).toUInt32 >>> (s.toUInt32 &&& Int32.toUInt32 31)).toInt32 = nI (n / 2 ^ k) := by
  apply Int32.toBitVec_inj.mp
  apply BitVec.eq_of_toNat_eq
  rw [pk_ushr _ s k hs, pk_tn hn, pk_tn (Nat.lt_of_le_of_lt (Nat.div_le_self _ _) hn)]
theorem pk_nb (z : Int32) : narrow .byte (.int z.toInt8.toInt32) = .int z.toInt8.toInt32 := congrArg Value.int (by simp)
theorem pk_ns (z : Int32) : narrow .short (.int z.toInt16.toInt32) = .int z.toInt16.toInt32 := congrArg Value.int (by simp)
theorem pk_fb (r : Int32) : fits .byte (.int r.toInt8.toInt32) = true := by
  have ⟨a, b⟩ := lg_i2b_range r
  have h1 : (-128 : Int32).toInt = -128 := by decide
  have h2 : (127 : Int32).toInt = 127 := by decide
  simp only [fits, Bool.and_eq_true, decide_eq_true_eq, Int32.le_iff_toInt_le, h1, h2]
  omega
theorem pk_fs (r : Int32) : fits .short (.int r.toInt16.toInt32) = true := by
  have ⟨a, b⟩ := lg_i2s_range r
  have h1 : (-32768 : Int32).toInt = -32768 := by decide
  have h2 : (32767 : Int32).toInt = 32767 := by decide
  simp only [fits, Bool.and_eq_true, decide_eq_true_eq, Int32.le_iff_toInt_le, h1, h2]
  omega
theorem pk_charN {q : Nat} (hq : q < 65536) : narrow .char (.int (nI q)) = .int (nI q) ∧ fits .char (.int (nI q)) = true := by
  constructor
  · have e : (nI q).toUInt32.toUInt16.toUInt32.toInt32 = nI q := by
      apply Int32.toBitVec_inj.mp
      apply BitVec.eq_of_toNat_eq
      show (nI q).toUInt32.toUInt16.toUInt32.toNat = q % 2 ^ 32
      rw [UInt16.toNat_toUInt32, UInt32.toNat_toUInt16, show (nI q).toUInt32.toNat = q % 2 ^ 32 from rfl]
      omega
    exact congrArg Value.int e
  · have a : (0 : Int32) ≤ nI q := nI_pos' (by omega)
    have b : nI q ≤ 65535 := nI_le (b := 65535) (by omega) (by decide)
    show (decide ((0 : Int32) ≤ nI q) && decide (nI q ≤ 65535)) = true
    rw [decide_eq_true a, decide_eq_true b]
    rfl
theorem pk_char (x : Int32) : (x.toUInt32 % 65536).toInt32 = nI (x.toBitVec.toNat % 65536) := by
  apply Int32.toBitVec_inj.mp
  apply BitVec.eq_of_toNat_eq
  rw [pk_tn (by omega)]
  show (x.toUInt32 % 65536).toNat = _
  rw [UInt32.toNat_mod]
  rfl
theorem pk_nc (x : Int32) : narrow .char (.int (x.toUInt32 % 65536).toInt32) = .int (x.toUInt32 % 65536).toInt32 := by
  rw [pk_char]
  exact (pk_charN (Nat.mod_lt _ (by decide))).1
theorem pk_fc (x : Int32) : fits .char (.int (x.toUInt32 % 65536).toInt32) = true := by
  rw [pk_char]
  exact (pk_charN (Nat.mod_lt _ (by decide))).2
theorem pk_vb (z : Int32) : vp_nar .byte z.toInt8.toInt32 = z.toInt8.toInt32 := by rw [vp_nar_byte]; simp
theorem pk_vs (z : Int32) : vp_nar .short z.toInt16.toInt32 = z.toInt16.toInt32 := by rw [vp_nar_short]; simp
theorem pk_vc (z : Int32) : vp_nar .char (z.toUInt32 % 65536).toInt32 = (z.toUInt32 % 65536).toInt32 := Value.int.inj (pk_nc z)
theorem pk_lT {n : Nat} (h : n < 2 ^ 63) : (lN n).toInt = (n : Int) := lg_ofNat_toInt h
theorem pk_lLT {a b : Nat} (ha : a < 2 ^ 63) (hb : b < 2 ^ 63) : lN a < lN b ↔ a < b := by
  rw [Int64.lt_iff_toInt_lt, pk_lT ha, pk_lT hb]; omega
theorem pk_lLE {a b : Nat} (ha : a < 2 ^ 63) (hb : b < 2 ^ 63) : lN a ≤ lN b ↔ a ≤ b := by
  rw [Int64.le_iff_toInt_le, pk_lT ha, pk_lT hb]; omega
theorem pk_lEQ {a b : Nat} (ha : a < 2 ^ 63) (hb : b < 2 ^ 63) : lN a = lN b ↔ a = b := by
  rw [← Int64.toInt_inj, pk_lT ha, pk_lT hb]; omega
theorem pk_lOf {x : Int64} (h : ¬ x < 0) : ∃ k : Nat, k < 2 ^ 63 ∧ x = lN k := by
  rw [Int64.lt_iff_toInt_lt] at h
  have h0 : (0 : Int64).toInt = 0 := by decide
  have hx := Int64.toInt_lt x
  refine ⟨x.toInt.toNat, by omega, Int64.toInt_inj.mp ?_⟩
  rw [pk_lT (by omega)]
  omega
theorem pk_lDiv {a b : Nat} (ha : a < 2 ^ 63) (h0 : 0 < b) (hb : b < 2 ^ 63) : lN a / lN b = lN (a / b) := by
  apply Int64.toInt_inj.mp
  rw [lg_ldiv_nonneg (by rw [pk_lT ha]; omega) (by rw [pk_lT hb]; omega), pk_lT ha, pk_lT hb, pk_lT (Nat.lt_of_le_of_lt (Nat.div_le_self a b) ha)]
  rfl
theorem pk_lRem {a b : Nat} (ha : a < 2 ^ 63) (h0 : 0 < b) (hb : b < 2 ^ 63) : lN a - lN a / lN b * lN b = lN (a % b) := by
  rw [pk_lDiv ha h0 hb, lN_mul, lN_sub (Nat.div_mul_le_self a b)]
  exact congrArg lN (by have := Nat.div_add_mod' a b; omega)
theorem pk_loop {σ : Type} (W : Nat → Nat → σ → Prop) (I : Nat → σ → Prop) (e i0 : Nat) (s : σ) (hi : i0 ≤ e) (h0 : I i0 s) (hx : ∀ n s, I e s → W (n + 1) e s)
    (hs : ∀ n i s, i < e → I i s → (∀ s', I (i + 1) s' → W n (i + 1) s') → W (n + 1) i s) : ∃ n, W n i0 s :=
  ⟨e + 1, loop_i W I e hx hs (e + 1) i0 s hi (by omega) h0⟩
theorem pk_loopD {σ : Type} (W : Nat → Nat → σ → Prop) (I : Nat → σ → Prop) (hx : ∀ n s, I 0 s → W (n + 1) 0 s)
    (hs : ∀ n i s, I (i + 1) s → (∀ s', I i s' → W n i s') → W (n + 1) (i + 1) s) : ∀ (e : Nat) (s : σ), I e s → W (e + 1) e s := by
  intro e
  induction e with
  | zero => exact fun s h => hx 0 s h
  | succ e ih => exact fun s h => hs (e + 1) e s h (fun s' h' => ih s' h')
theorem lp1 {A1 : Type} (W : Nat → A1 → Prop) (I : A1 → Prop) (μ : A1 → Nat) (hs : ∀ (n : Nat) (a1 : A1), I a1 → (∀ (b1 : A1), I b1 → μ b1 < μ a1 → W n b1) → W (n + 1) a1) (a1 : A1) (h : I a1) : ∃ n, W n a1 :=
  loop_m (σ := A1) (fun n s => W n s) (fun s => I s) (fun s => μ s) (fun n s hI hk => hs n s hI (fun b1 h9 hm => hk b1 h9 hm)) a1 h
theorem lp2 {A1 A2 : Type} (W : Nat → A1 → A2 → Prop) (I : A1 → A2 → Prop) (μ : A1 → A2 → Nat) (hs : ∀ (n : Nat) (a1 : A1) (a2 : A2), I a1 a2 → (∀ (b1 : A1) (b2 : A2), I b1 b2 → μ b1 b2 < μ a1 a2 → W n b1 b2) → W (n + 1) a1 a2) (a1 : A1) (a2 : A2) (h : I a1 a2) : ∃ n, W n a1 a2 :=
  loop_m (σ := A1 × A2) (fun n s => W n s.1 s.2) (fun s => I s.1 s.2) (fun s => μ s.1 s.2) (fun n s hI hk => hs n s.1 s.2 hI (fun b1 b2 h9 hm => hk (b1, b2) h9 hm)) (a1, a2) h
theorem lp3 {A1 A2 A3 : Type} (W : Nat → A1 → A2 → A3 → Prop) (I : A1 → A2 → A3 → Prop) (μ : A1 → A2 → A3 → Nat) (hs : ∀ (n : Nat) (a1 : A1) (a2 : A2) (a3 : A3), I a1 a2 a3 → (∀ (b1 : A1) (b2 : A2) (b3 : A3), I b1 b2 b3 → μ b1 b2 b3 < μ a1 a2 a3 → W n b1 b2 b3) → W (n + 1) a1 a2 a3) (a1 : A1) (a2 : A2) (a3 : A3) (h : I a1 a2 a3) : ∃ n, W n a1 a2 a3 :=
  loop_m (σ := A1 × A2 × A3) (fun n s => W n s.1 s.2.1 s.2.2) (fun s => I s.1 s.2.1 s.2.2) (fun s => μ s.1 s.2.1 s.2.2) (fun n s hI hk => hs n s.1 s.2.1 s.2.2 hI (fun b1 b2 b3 h9 hm => hk (b1, b2, b3) h9 hm)) (a1, a2, a3) h
theorem lp4 {A1 A2 A3 A4 : Type} (W : Nat → A1 → A2 → A3 → A4 → Prop) (I : A1 → A2 → A3 → A4 → Prop) (μ : A1 → A2 → A3 → A4 → Nat) (hs : ∀ (n : Nat) (a1 : A1) (a2 : A2) (a3 : A3) (a4 : A4), I a1 a2 a3 a4 → (∀ (b1 : A1) (b2 : A2) (b3 : A3) (b4 : A4), I b1 b2 b3 b4 → μ b1 b2 b3 b4 < μ a1 a2 a3 a4 → W n b1 b2 b3 b4) → W (n + 1) a1 a2 a3 a4) (a1 : A1) (a2 : A2) (a3 : A3) (a4 : A4) (h : I a1 a2 a3 a4) : ∃ n, W n a1 a2 a3 a4 :=
  loop_m (σ := A1 × A2 × A3 × A4) (fun n s => W n s.1 s.2.1 s.2.2.1 s.2.2.2) (fun s => I s.1 s.2.1 s.2.2.1 s.2.2.2) (fun s => μ s.1 s.2.1 s.2.2.1 s.2.2.2) (fun n s hI hk => hs n s.1 s.2.1 s.2.2.1 s.2.2.2 hI (fun b1 b2 b3 b4 h9 hm => hk (b1, b2, b3, b4) h9 hm)) (a1, a2, a3, a4) h
theorem lp5 {A1 A2 A3 A4 A5 : Type} (W : Nat → A1 → A2 → A3 → A4 → A5 → Prop) (I : A1 → A2 → A3 → A4 → A5 → Prop) (μ : A1 → A2 → A3 → A4 → A5 → Nat) (hs : ∀ (n : Nat) (a1 : A1) (a2 : A2) (a3 : A3) (a4 : A4) (a5 : A5), I a1 a2 a3 a4 a5 → (∀ (b1 : A1) (b2 : A2) (b3 : A3) (b4 : A4) (b5 : A5), I b1 b2 b3 b4 b5 → μ b1 b2 b3 b4 b5 < μ a1 a2 a3 a4 a5 → W n b1 b2 b3 b4 b5) → W (n + 1) a1 a2 a3 a4 a5) (a1 : A1) (a2 : A2) (a3 : A3) (a4 : A4) (a5 : A5) (h : I a1 a2 a3 a4 a5) : ∃ n, W n a1 a2 a3 a4 a5 :=
  loop_m (σ := A1 × A2 × A3 × A4 × A5) (fun n s => W n s.1 s.2.1 s.2.2.1 s.2.2.2.1 s.2.2.2.2) (fun s => I s.1 s.2.1 s.2.2.1 s.2.2.2.1 s.2.2.2.2) (fun s => μ s.1 s.2.1 s.2.2.1 s.2.2.2.1 s.2.2.2.2) (fun n s hI hk => hs n s.1 s.2.1 s.2.2.1 s.2.2.2.1 s.2.2.2.2 hI (fun b1 b2 b3 b4 b5 h9 hm => hk (b1, b2, b3, b4, b5) h9 hm)) (a1, a2, a3, a4, a5) h
theorem lp6 {A1 A2 A3 A4 A5 A6 : Type} (W : Nat → A1 → A2 → A3 → A4 → A5 → A6 → Prop) (I : A1 → A2 → A3 → A4 → A5 → A6 → Prop) (μ : A1 → A2 → A3 → A4 → A5 → A6 → Nat) (hs : ∀ (n : Nat) (a1 : A1) (a2 : A2) (a3 : A3) (a4 : A4) (a5 : A5) (a6 : A6), I a1 a2 a3 a4 a5 a6 → (∀ (b1 : A1) (b2 : A2) (b3 : A3) (b4 : A4) (b5 : A5) (b6 : A6), I b1 b2 b3 b4 b5 b6 → μ b1 b2 b3 b4 b5 b6 < μ a1 a2 a3 a4 a5 a6 → W n b1 b2 b3 b4 b5 b6) → W (n + 1) a1 a2 a3 a4 a5 a6) (a1 : A1) (a2 : A2) (a3 : A3) (a4 : A4) (a5 : A5) (a6 : A6) (h : I a1 a2 a3 a4 a5 a6) : ∃ n, W n a1 a2 a3 a4 a5 a6 :=
  loop_m (σ := A1 × A2 × A3 × A4 × A5 × A6) (fun n s => W n s.1 s.2.1 s.2.2.1 s.2.2.2.1 s.2.2.2.2.1 s.2.2.2.2.2) (fun s => I s.1 s.2.1 s.2.2.1 s.2.2.2.1 s.2.2.2.2.1 s.2.2.2.2.2) (fun s => μ s.1 s.2.1 s.2.2.1 s.2.2.2.1 s.2.2.2.2.1 s.2.2.2.2.2) (fun n s hI hk => hs n s.1 s.2.1 s.2.2.1 s.2.2.2.1 s.2.2.2.2.1 s.2.2.2.2.2 hI (fun b1 b2 b3 b4 b5 b6 h9 hm => hk (b1, b2, b3, b4, b5, b6) h9 hm)) (a1, a2, a3, a4, a5, a6) h
theorem lp7 {A1 A2 A3 A4 A5 A6 A7 : Type} (W : Nat → A1 → A2 → A3 → A4 → A5 → A6 → A7 → Prop) (I : A1 → A2 → A3 → A4 → A5 → A6 → A7 → Prop) (μ : A1 → A2 → A3 → A4 → A5 → A6 → A7 → Nat) (hs : ∀ (n : Nat) (a1 : A1) (a2 : A2) (a3 : A3) (a4 : A4) (a5 : A5) (a6 : A6) (a7 : A7), I a1 a2 a3 a4 a5 a6 a7 → (∀ (b1 : A1) (b2 : A2) (b3 : A3) (b4 : A4) (b5 : A5) (b6 : A6) (b7 : A7), I b1 b2 b3 b4 b5 b6 b7 → μ b1 b2 b3 b4 b5 b6 b7 < μ a1 a2 a3 a4 a5 a6 a7 → W n b1 b2 b3 b4 b5 b6 b7) → W (n + 1) a1 a2 a3 a4 a5 a6 a7) (a1 : A1) (a2 : A2) (a3 : A3) (a4 : A4) (a5 : A5) (a6 : A6) (a7 : A7) (h : I a1 a2 a3 a4 a5 a6 a7) : ∃ n, W n a1 a2 a3 a4 a5 a6 a7 :=
  loop_m (σ := A1 × A2 × A3 × A4 × A5 × A6 × A7) (fun n s => W n s.1 s.2.1 s.2.2.1 s.2.2.2.1 s.2.2.2.2.1 s.2.2.2.2.2.1 s.2.2.2.2.2.2) (fun s => I s.1 s.2.1 s.2.2.1 s.2.2.2.1 s.2.2.2.2.1 s.2.2.2.2.2.1 s.2.2.2.2.2.2) (fun s => μ s.1 s.2.1 s.2.2.1 s.2.2.2.1 s.2.2.2.2.1 s.2.2.2.2.2.1 s.2.2.2.2.2.2) (fun n s hI hk => hs n s.1 s.2.1 s.2.2.1 s.2.2.2.1 s.2.2.2.2.1 s.2.2.2.2.2.1 s.2.2.2.2.2.2 hI (fun b1 b2 b3 b4 b5 b6 b7 h9 hm => hk (b1, b2, b3, b4, b5, b6, b7) h9 hm)) (a1, a2, a3, a4, a5, a6, a7) h
theorem lp8 {A1 A2 A3 A4 A5 A6 A7 A8 : Type} (W : Nat → A1 → A2 → A3 → A4 → A5 → A6 → A7 → A8 → Prop) (I : A1 → A2 → A3 → A4 → A5 → A6 → A7 → A8 → Prop) (μ : A1 → A2 → A3 → A4 → A5 → A6 → A7 → A8 → Nat) (hs : ∀ (n : Nat) (a1 : A1) (a2 : A2) (a3 : A3) (a4 : A4) (a5 : A5) (a6 : A6) (a7 : A7) (a8 : A8), I a1 a2 a3 a4 a5 a6 a7 a8 → (∀ (b1 : A1) (b2 : A2) (b3 : A3) (b4 : A4) (b5 : A5) (b6 : A6) (b7 : A7) (b8 : A8), I b1 b2 b3 b4 b5 b6 b7 b8 → μ b1 b2 b3 b4 b5 b6 b7 b8 < μ a1 a2 a3 a4 a5 a6 a7 a8 → W n b1 b2 b3 b4 b5 b6 b7 b8) → W (n + 1) a1 a2 a3 a4 a5 a6 a7 a8) (a1 : A1) (a2 : A2) (a3 : A3) (a4 : A4) (a5 : A5) (a6 : A6) (a7 : A7) (a8 : A8) (h : I a1 a2 a3 a4 a5 a6 a7 a8) : ∃ n, W n a1 a2 a3 a4 a5 a6 a7 a8 :=
  loop_m (σ := A1 × A2 × A3 × A4 × A5 × A6 × A7 × A8) (fun n s => W n s.1 s.2.1 s.2.2.1 s.2.2.2.1 s.2.2.2.2.1 s.2.2.2.2.2.1 s.2.2.2.2.2.2.1 s.2.2.2.2.2.2.2) (fun s => I s.1 s.2.1 s.2.2.1 s.2.2.2.1 s.2.2.2.2.1 s.2.2.2.2.2.1 s.2.2.2.2.2.2.1 s.2.2.2.2.2.2.2) (fun s => μ s.1 s.2.1 s.2.2.1 s.2.2.2.1 s.2.2.2.2.1 s.2.2.2.2.2.1 s.2.2.2.2.2.2.1 s.2.2.2.2.2.2.2) (fun n s hI hk => hs n s.1 s.2.1 s.2.2.1 s.2.2.2.1 s.2.2.2.2.1 s.2.2.2.2.2.1 s.2.2.2.2.2.2.1 s.2.2.2.2.2.2.2 hI (fun b1 b2 b3 b4 b5 b6 b7 b8 h9 hm => hk (b1, b2, b3, b4, b5, b6, b7, b8) h9 hm)) (a1, a2, a3, a4, a5, a6, a7, a8) h
theorem lp9 {A1 A2 A3 A4 A5 A6 A7 A8 A9 : Type} (W : Nat → A1 → A2 → A3 → A4 → A5 → A6 → A7 → A8 → A9 → Prop) (I : A1 → A2 → A3 → A4 → A5 → A6 → A7 → A8 → A9 → Prop) (μ : A1 → A2 → A3 → A4 → A5 → A6 → A7 → A8 → A9 → Nat) (hs : ∀ (n : Nat) (a1 : A1) (a2 : A2) (a3 : A3) (a4 : A4) (a5 : A5) (a6 : A6) (a7 : A7) (a8 : A8) (a9 : A9), I a1 a2 a3 a4 a5 a6 a7 a8 a9 → (∀ (b1 : A1) (b2 : A2) (b3 : A3) (b4 : A4) (b5 : A5) (b6 : A6) (b7 : A7) (b8 : A8) (b9 : A9), I b1 b2 b3 b4 b5 b6 b7 b8 b9 → μ b1 b2 b3 b4 b5 b6 b7 b8 b9 < μ a1 a2 a3 a4 a5 a6 a7 a8 a9 → W n b1 b2 b3 b4 b5 b6 b7 b8 b9) → W (n + 1) a1 a2 a3 a4 a5 a6 a7 a8 a9) (a1 : A1) (a2 : A2) (a3 : A3) (a4 : A4) (a5 : A5) (a6 : A6) (a7 : A7) (a8 : A8) (a9 : A9) (h : I a1 a2 a3 a4 a5 a6 a7 a8 a9) : ∃ n, W n a1 a2 a3 a4 a5 a6 a7 a8 a9 :=
  loop_m (σ := A1 × A2 × A3 × A4 × A5 × A6 × A7 × A8 × A9) (fun n s => W n s.1 s.2.1 s.2.2.1 s.2.2.2.1 s.2.2.2.2.1 s.2.2.2.2.2.1 s.2.2.2.2.2.2.1 s.2.2.2.2.2.2.2.1 s.2.2.2.2.2.2.2.2) (fun s => I s.1 s.2.1 s.2.2.1 s.2.2.2.1 s.2.2.2.2.1 s.2.2.2.2.2.1 s.2.2.2.2.2.2.1 s.2.2.2.2.2.2.2.1 s.2.2.2.2.2.2.2.2) (fun s => μ s.1 s.2.1 s.2.2.1 s.2.2.2.1 s.2.2.2.2.1 s.2.2.2.2.2.1 s.2.2.2.2.2.2.1 s.2.2.2.2.2.2.2.1 s.2.2.2.2.2.2.2.2) (fun n s hI hk => hs n s.1 s.2.1 s.2.2.1 s.2.2.2.1 s.2.2.2.2.1 s.2.2.2.2.2.1 s.2.2.2.2.2.2.1 s.2.2.2.2.2.2.2.1 s.2.2.2.2.2.2.2.2 hI (fun b1 b2 b3 b4 b5 b6 b7 b8 b9 h9 hm => hk (b1, b2, b3, b4, b5, b6, b7, b8, b9) h9 hm)) (a1, a2, a3, a4, a5, a6, a7, a8, a9) h
theorem lp10 {A1 A2 A3 A4 A5 A6 A7 A8 A9 A10 : Type} (W : Nat → A1 → A2 → A3 → A4 → A5 → A6 → A7 → A8 → A9 → A10 → Prop) (I : A1 → A2 → A3 → A4 → A5 → A6 → A7 → A8 → A9 → A10 → Prop) (μ : A1 → A2 → A3 → A4 → A5 → A6 → A7 → A8 → A9 → A10 → Nat) (hs : ∀ (n : Nat) (a1 : A1) (a2 : A2) (a3 : A3) (a4 : A4) (a5 : A5) (a6 : A6) (a7 : A7) (a8 : A8) (a9 : A9) (a10 : A10), I a1 a2 a3 a4 a5 a6 a7 a8 a9 a10 → (∀ (b1 : A1) (b2 : A2) (b3 : A3) (b4 : A4) (b5 : A5) (b6 : A6) (b7 : A7) (b8 : A8) (b9 : A9) (b10 : A10), I b1 b2 b3 b4 b5 b6 b7 b8 b9 b10 → μ b1 b2 b3 b4 b5 b6 b7 b8 b9 b10 < μ a1 a2 a3 a4 a5 a6 a7 a8 a9 a10 → W n b1 b2 b3 b4 b5 b6 b7 b8 b9 b10) → W (n + 1) a1 a2 a3 a4 a5 a6 a7 a8 a9 a10) (a1 : A1) (a2 : A2) (a3 : A3) (a4 : A4) (a5 : A5) (a6 : A6) (a7 : A7) (a8 : A8) (a9 : A9) (a10 : A10) (h : I a1 a2 a3 a4 a5 a6 a7 a8 a9 a10) : ∃ n, W n a1 a2 a3 a4 a5 a6 a7 a8 a9 a10 :=
  loop_m (σ := A1 × A2 × A3 × A4 × A5 × A6 × A7 × A8 × A9 × A10) (fun n s => W n s.1 s.2.1 s.2.2.1 s.2.2.2.1 s.2.2.2.2.1 s.2.2.2.2.2.1 s.2.2.2.2.2.2.1 s.2.2.2.2.2.2.2.1 s.2.2.2.2.2.2.2.2.1 s.2.2.2.2.2.2.2.2.2) (fun s => I s.1 s.2.1 s.2.2.1 s.2.2.2.1 s.2.2.2.2.1 s.2.2.2.2.2.1 s.2.2.2.2.2.2.1 s.2.2.2.2.2.2.2.1 s.2.2.2.2.2.2.2.2.1 s.2.2.2.2.2.2.2.2.2) (fun s => μ s.1 s.2.1 s.2.2.1 s.2.2.2.1 s.2.2.2.2.1 s.2.2.2.2.2.1 s.2.2.2.2.2.2.1 s.2.2.2.2.2.2.2.1 s.2.2.2.2.2.2.2.2.1 s.2.2.2.2.2.2.2.2.2) (fun n s hI hk => hs n s.1 s.2.1 s.2.2.1 s.2.2.2.1 s.2.2.2.2.1 s.2.2.2.2.2.1 s.2.2.2.2.2.2.1 s.2.2.2.2.2.2.2.1 s.2.2.2.2.2.2.2.2.1 s.2.2.2.2.2.2.2.2.2 hI (fun b1 b2 b3 b4 b5 b6 b7 b8 b9 b10 h9 hm => hk (b1, b2, b3, b4, b5, b6, b7, b8, b9, b10) h9 hm)) (a1, a2, a3, a4, a5, a6, a7, a8, a9, a10) h
theorem lp11 {A1 A2 A3 A4 A5 A6 A7 A8 A9 A10 A11 : Type} (W : Nat → A1 → A2 → A3 → A4 → A5 → A6 → A7 → A8 → A9 → A10 → A11 → Prop) (I : A1 → A2 → A3 → A4 → A5 → A6 → A7 → A8 → A9 → A10 → A11 → Prop) (μ : A1 → A2 → A3 → A4 → A5 → A6 → A7 → A8 → A9 → A10 → A11 → Nat) (hs : ∀ (n : Nat) (a1 : A1) (a2 : A2) (a3 : A3) (a4 : A4) (a5 : A5) (a6 : A6) (a7 : A7) (a8 : A8) (a9 : A9) (a10 : A10) (a11 : A11), I a1 a2 a3 a4 a5 a6 a7 a8 a9 a10 a11 → (∀ (b1 : A1) (b2 : A2) (b3 : A3) (b4 : A4) (b5 : A5) (b6 : A6) (b7 : A7) (b8 : A8) (b9 : A9) (b10 : A10) (b11 : A11), I b1 b2 b3 b4 b5 b6 b7 b8 b9 b10 b11 → μ b1 b2 b3 b4 b5 b6 b7 b8 b9 b10 b11 < μ a1 a2 a3 a4 a5 a6 a7 a8 a9 a10 a11 → W n b1 b2 b3 b4 b5 b6 b7 b8 b9 b10 b11) → W (n + 1) a1 a2 a3 a4 a5 a6 a7 a8 a9 a10 a11) (a1 : A1) (a2 : A2) (a3 : A3) (a4 : A4) (a5 : A5) (a6 : A6) (a7 : A7) (a8 : A8) (a9 : A9) (a10 : A10) (a11 : A11) (h : I a1 a2 a3 a4 a5 a6 a7 a8 a9 a10 a11) : ∃ n, W n a1 a2 a3 a4 a5 a6 a7 a8 a9 a10 a11 :=
  loop_m (σ := A1 × A2 × A3 × A4 × A5 × A6 × A7 × A8 × A9 × A10 × A11) (fun n s => W n s.1 s.2.1 s.2.2.1 s.2.2.2.1 s.2.2.2.2.1 s.2.2.2.2.2.1 s.2.2.2.2.2.2.1 s.2.2.2.2.2.2.2.1 s.2.2.2.2.2.2.2.2.1 s.2.2.2.2.2.2.2.2.2.1 s.2.2.2.2.2.2.2.2.2.2) (fun s => I s.1 s.2.1 s.2.2.1 s.2.2.2.1 s.2.2.2.2.1 s.2.2.2.2.2.1 s.2.2.2.2.2.2.1 s.2.2.2.2.2.2.2.1 s.2.2.2.2.2.2.2.2.1 s.2.2.2.2.2.2.2.2.2.1 s.2.2.2.2.2.2.2.2.2.2) (fun s => μ s.1 s.2.1 s.2.2.1 s.2.2.2.1 s.2.2.2.2.1 s.2.2.2.2.2.1 s.2.2.2.2.2.2.1 s.2.2.2.2.2.2.2.1 s.2.2.2.2.2.2.2.2.1 s.2.2.2.2.2.2.2.2.2.1 s.2.2.2.2.2.2.2.2.2.2) (fun n s hI hk => hs n s.1 s.2.1 s.2.2.1 s.2.2.2.1 s.2.2.2.2.1 s.2.2.2.2.2.1 s.2.2.2.2.2.2.1 s.2.2.2.2.2.2.2.1 s.2.2.2.2.2.2.2.2.1 s.2.2.2.2.2.2.2.2.2.1 s.2.2.2.2.2.2.2.2.2.2 hI (fun b1 b2 b3 b4 b5 b6 b7 b8 b9 b10 b11 h9 hm => hk (b1, b2, b3, b4, b5, b6, b7, b8, b9, b10, b11) h9 hm)) (a1, a2, a3, a4, a5, a6, a7, a8, a9, a10, a11) h
theorem lp12 {A1 A2 A3 A4 A5 A6 A7 A8 A9 A10 A11 A12 : Type} (W : Nat → A1 → A2 → A3 → A4 → A5 → A6 → A7 → A8 → A9 → A10 → A11 → A12 → Prop) (I : A1 → A2 → A3 → A4 → A5 → A6 → A7 → A8 → A9 → A10 → A11 → A12 → Prop) (μ : A1 → A2 → A3 → A4 → A5 → A6 → A7 → A8 → A9 → A10 → A11 → A12 → Nat) (hs : ∀ (n : Nat) (a1 : A1) (a2 : A2) (a3 : A3) (a4 : A4) (a5 : A5) (a6 : A6) (a7 : A7) (a8 : A8) (a9 : A9) (a10 : A10) (a11 : A11) (a12 : A12), I a1 a2 a3 a4 a5 a6 a7 a8 a9 a10 a11 a12 → (∀ (b1 : A1) (b2 : A2) (b3 : A3) (b4 : A4) (b5 : A5) (b6 : A6) (b7 : A7) (b8 : A8) (b9 : A9) (b10 : A10) (b11 : A11) (b12 : A12), I b1 b2 b3 b4 b5 b6 b7 b8 b9 b10 b11 b12 → μ b1 b2 b3 b4 b5 b6 b7 b8 b9 b10 b11 b12 < μ a1 a2 a3 a4 a5 a6 a7 a8 a9 a10 a11 a12 → W n b1 b2 b3 b4 b5 b6 b7 b8 b9 b10 b11 b12) → W (n + 1) a1 a2 a3 a4 a5 a6 a7 a8 a9 a10 a11 a12) (a1 : A1) (a2 : A2) (a3 : A3) (a4 : A4) (a5 : A5) (a6 : A6) (a7 : A7) (a8 : A8) (a9 : A9) (a10 : A10) (a11 : A11) (a12 : A12) (h : I a1 a2 a3 a4 a5 a6 a7 a8 a9 a10 a11 a12) : ∃ n, W n a1 a2 a3 a4 a5 a6 a7 a8 a9 a10 a11 a12 :=
  loop_m (σ := A1 × A2 × A3 × A4 × A5 × A6 × A7 × A8 × A9 × A10 × A11 × A12) (fun n s => W n s.1 s.2.1 s.2.2.1 s.2.2.2.1 s.2.2.2.2.1 s.2.2.2.2.2.1 s.2.2.2.2.2.2.1 s.2.2.2.2.2.2.2.1 s.2.2.2.2.2.2.2.2.1 s.2.2.2.2.2.2.2.2.2.1 s.2.2.2.2.2.2.2.2.2.2.1 s.2.2.2.2.2.2.2.2.2.2.2) (fun s => I s.1 s.2.1 s.2.2.1 s.2.2.2.1 s.2.2.2.2.1 s.2.2.2.2.2.1 s.2.2.2.2.2.2.1 s.2.2.2.2.2.2.2.1 s.2.2.2.2.2.2.2.2.1 s.2.2.2.2.2.2.2.2.2.1 s.2.2.2.2.2.2.2.2.2.2.1 s.2.2.2.2.2.2.2.2.2.2.2) (fun s => μ s.1 s.2.1 s.2.2.1 s.2.2.2.1 s.2.2.2.2.1 s.2.2.2.2.2.1 s.2.2.2.2.2.2.1 s.2.2.2.2.2.2.2.1 s.2.2.2.2.2.2.2.2.1 s.2.2.2.2.2.2.2.2.2.1 s.2.2.2.2.2.2.2.2.2.2.1 s.2.2.2.2.2.2.2.2.2.2.2) (fun n s hI hk => hs n s.1 s.2.1 s.2.2.1 s.2.2.2.1 s.2.2.2.2.1 s.2.2.2.2.2.1 s.2.2.2.2.2.2.1 s.2.2.2.2.2.2.2.1 s.2.2.2.2.2.2.2.2.1 s.2.2.2.2.2.2.2.2.2.1 s.2.2.2.2.2.2.2.2.2.2.1 s.2.2.2.2.2.2.2.2.2.2.2 hI (fun b1 b2 b3 b4 b5 b6 b7 b8 b9 b10 b11 b12 h9 hm => hk (b1, b2, b3, b4, b5, b6, b7, b8, b9, b10, b11, b12) h9 hm)) (a1, a2, a3, a4, a5, a6, a7, a8, a9, a10, a11, a12) h
theorem lp13 {A1 A2 A3 A4 A5 A6 A7 A8 A9 A10 A11 A12 A13 : Type} (W : Nat → A1 → A2 → A3 → A4 → A5 → A6 → A7 → A8 → A9 → A10 → A11 → A12 → A13 → Prop) (I : A1 → A2 → A3 → A4 → A5 → A6 → A7 → A8 → A9 → A10 → A11 → A12 → A13 → Prop) (μ : A1 → A2 → A3 → A4 → A5 → A6 → A7 → A8 → A9 → A10 → A11 → A12 → A13 → Nat) (hs : ∀ (n : Nat) (a1 : A1) (a2 : A2) (a3 : A3) (a4 : A4) (a5 : A5) (a6 : A6) (a7 : A7) (a8 : A8) (a9 : A9) (a10 : A10) (a11 : A11) (a12 : A12) (a13 : A13), I a1 a2 a3 a4 a5 a6 a7 a8 a9 a10 a11 a12 a13 → (∀ (b1 : A1) (b2 : A2) (b3 : A3) (b4 : A4) (b5 : A5) (b6 : A6) (b7 : A7) (b8 : A8) (b9 : A9) (b10 : A10) (b11 : A11) (b12 : A12) (b13 : A13), I b1 b2 b3 b4 b5 b6 b7 b8 b9 b10 b11 b12 b13 → μ b1 b2 b3 b4 b5 b6 b7 b8 b9 b10 b11 b12 b13 < μ a1 a2 a3 a4 a5 a6 a7 a8 a9 a10 a11 a12 a13 → W n b1 b2 b3 b4 b5 b6 b7 b8 b9 b10 b11 b12 b13) → W (n + 1) a1 a2 a3 a4 a5 a6 a7 a8 a9 a10 a11 a12 a13) (a1 : A1) (a2 : A2) (a3 : A3) (a4 : A4) (a5 : A5) (a6 : A6) (a7 : A7) (a8 : A8) (a9 : A9) (a10 : A10) (a11 : A11) (a12 : A12) (a13 : A13) (h : I a1 a2 a3 a4 a5 a6 a7 a8 a9 a10 a11 a12 a13) : ∃ n, W n a1 a2 a3 a4 a5 a6 a7 a8 a9 a10 a11 a12 a13 :=
  loop_m (σ := A1 × A2 × A3 × A4 × A5 × A6 × A7 × A8 × A9 × A10 × A11 × A12 × A13) (fun n s => W n s.1 s.2.1 s.2.2.1 s.2.2.2.1 s.2.2.2.2.1 s.2.2.2.2.2.1 s.2.2.2.2.2.2.1 s.2.2.2.2.2.2.2.1 s.2.2.2.2.2.2.2.2.1 s.2.2.2.2.2.2.2.2.2.1 s.2.2.2.2.2.2.2.2.2.2.1 s.2.2.2.2.2.2.2.2.2.2.2.1 s.2.2.2.2.2.2.2.2.2.2.2.2) (fun s => I s.1 s.2.1 s.2.2.1 s.2.2.2.1 s.2.2.2.2.1 s.2.2.2.2.2.1 s.2.2.2.2.2.2.1 s.2.2.2.2.2.2.2.1 s.2.2.2.2.2.2.2.2.1 s.2.2.2.2.2.2.2.2.2.1 s.2.2.2.2.2.2.2.2.2.2.1 s.2.2.2.2.2.2.2.2.2.2.2.1 s.2.2.2.2.2.2.2.2.2.2.2.2) (fun s => μ s.1 s.2.1 s.2.2.1 s.2.2.2.1 s.2.2.2.2.1 s.2.2.2.2.2.1 s.2.2.2.2.2.2.1 s.2.2.2.2.2.2.2.1 s.2.2.2.2.2.2.2.2.1 s.2.2.2.2.2.2.2.2.2.1 s.2.2.2.2.2.2.2.2.2.2.1 s.2.2.2.2.2.2.2.2.2.2.2.1 s.2.2.2.2.2.2.2.2.2.2.2.2) (fun n s hI hk => hs n s.1 s.2.1 s.2.2.1 s.2.2.2.1 s.2.2.2.2.1 s.2.2.2.2.2.1 s.2.2.2.2.2.2.1 s.2.2.2.2.2.2.2.1 s.2.2.2.2.2.2.2.2.1 s.2.2.2.2.2.2.2.2.2.1 s.2.2.2.2.2.2.2.2.2.2.1 s.2.2.2.2.2.2.2.2.2.2.2.1 s.2.2.2.2.2.2.2.2.2.2.2.2 hI (fun b1 b2 b3 b4 b5 b6 b7 b8 b9 b10 b11 b12 b13 h9 hm => hk (b1, b2, b3, b4, b5, b6, b7, b8, b9, b10, b11, b12, b13) h9 hm)) (a1, a2, a3, a4, a5, a6, a7, a8, a9, a10, a11, a12, a13) h
theorem lp14 {A1 A2 A3 A4 A5 A6 A7 A8 A9 A10 A11 A12 A13 A14 : Type} (W : Nat → A1 → A2 → A3 → A4 → A5 → A6 → A7 → A8 → A9 → A10 → A11 → A12 → A13 → A14 → Prop) (I : A1 → A2 → A3 → A4 → A5 → A6 → A7 → A8 → A9 → A10 → A11 → A12 → A13 → A14 → Prop) (μ : A1 → A2 → A3 → A4 → A5 → A6 → A7 → A8 → A9 → A10 → A11 → A12 → A13 → A14 → Nat) (hs : ∀ (n : Nat) (a1 : A1) (a2 : A2) (a3 : A3) (a4 : A4) (a5 : A5) (a6 : A6) (a7 : A7) (a8 : A8) (a9 : A9) (a10 : A10) (a11 : A11) (a12 : A12) (a13 : A13) (a14 : A14), I a1 a2 a3 a4 a5 a6 a7 a8 a9 a10 a11 a12 a13 a14 → (∀ (b1 : A1) (b2 : A2) (b3 : A3) (b4 : A4) (b5 : A5) (b6 : A6) (b7 : A7) (b8 : A8) (b9 : A9) (b10 : A10) (b11 : A11) (b12 : A12) (b13 : A13) (b14 : A14), I b1 b2 b3 b4 b5 b6 b7 b8 b9 b10 b11 b12 b13 b14 → μ b1 b2 b3 b4 b5 b6 b7 b8 b9 b10 b11 b12 b13 b14 < μ a1 a2 a3 a4 a5 a6 a7 a8 a9 a10 a11 a12 a13 a14 → W n b1 b2 b3 b4 b5 b6 b7 b8 b9 b10 b11 b12 b13 b14) → W (n + 1) a1 a2 a3 a4 a5 a6 a7 a8 a9 a10 a11 a12 a13 a14) (a1 : A1) (a2 : A2) (a3 : A3) (a4 : A4) (a5 : A5) (a6 : A6) (a7 : A7) (a8 : A8) (a9 : A9) (a10 : A10) (a11 : A11) (a12 : A12) (a13 : A13) (a14 : A14) (h : I a1 a2 a3 a4 a5 a6 a7 a8 a9 a10 a11 a12 a13 a14) : ∃ n, W n a1 a2 a3 a4 a5 a6 a7 a8 a9 a10 a11 a12 a13 a14 :=
  loop_m (σ := A1 × A2 × A3 × A4 × A5 × A6 × A7 × A8 × A9 × A10 × A11 × A12 × A13 × A14) (fun n s => W n s.1 s.2.1 s.2.2.1 s.2.2.2.1 s.2.2.2.2.1 s.2.2.2.2.2.1 s.2.2.2.2.2.2.1 s.2.2.2.2.2.2.2.1 s.2.2.2.2.2.2.2.2.1 s.2.2.2.2.2.2.2.2.2.1 s.2.2.2.2.2.2.2.2.2.2.1 s.2.2.2.2.2.2.2.2.2.2.2.1 s.2.2.2.2.2.2.2.2.2.2.2.2.1 s.2.2.2.2.2.2.2.2.2.2.2.2.2) (fun s => I s.1 s.2.1 s.2.2.1 s.2.2.2.1 s.2.2.2.2.1 s.2.2.2.2.2.1 s.2.2.2.2.2.2.1 s.2.2.2.2.2.2.2.1 s.2.2.2.2.2.2.2.2.1 s.2.2.2.2.2.2.2.2.2.1 s.2.2.2.2.2.2.2.2.2.2.1 s.2.2.2.2.2.2.2.2.2.2.2.1 s.2.2.2.2.2.2.2.2.2.2.2.2.1 s.2.2.2.2.2.2.2.2.2.2.2.2.2) (fun s => μ s.1 s.2.1 s.2.2.1 s.2.2.2.1 s.2.2.2.2.1 s.2.2.2.2.2.1 s.2.2.2.2.2.2.1 s.2.2.2.2.2.2.2.1 s.2.2.2.2.2.2.2.2.1 s.2.2.2.2.2.2.2.2.2.1 s.2.2.2.2.2.2.2.2.2.2.1 s.2.2.2.2.2.2.2.2.2.2.2.1 s.2.2.2.2.2.2.2.2.2.2.2.2.1 s.2.2.2.2.2.2.2.2.2.2.2.2.2) (fun n s hI hk => hs n s.1 s.2.1 s.2.2.1 s.2.2.2.1 s.2.2.2.2.1 s.2.2.2.2.2.1 s.2.2.2.2.2.2.1 s.2.2.2.2.2.2.2.1 s.2.2.2.2.2.2.2.2.1 s.2.2.2.2.2.2.2.2.2.1 s.2.2.2.2.2.2.2.2.2.2.1 s.2.2.2.2.2.2.2.2.2.2.2.1 s.2.2.2.2.2.2.2.2.2.2.2.2.1 s.2.2.2.2.2.2.2.2.2.2.2.2.2 hI (fun b1 b2 b3 b4 b5 b6 b7 b8 b9 b10 b11 b12 b13 b14 h9 hm => hk (b1, b2, b3, b4, b5, b6, b7, b8, b9, b10, b11, b12, b13, b14) h9 hm)) (a1, a2, a3, a4, a5, a6, a7, a8, a9, a10, a11, a12, a13, a14) h
theorem lp15 {A1 A2 A3 A4 A5 A6 A7 A8 A9 A10 A11 A12 A13 A14 A15 : Type} (W : Nat → A1 → A2 → A3 → A4 → A5 → A6 → A7 → A8 → A9 → A10 → A11 → A12 → A13 → A14 → A15 → Prop) (I : A1 → A2 → A3 → A4 → A5 → A6 → A7 → A8 → A9 → A10 → A11 → A12 → A13 → A14 → A15 → Prop) (μ : A1 → A2 → A3 → A4 → A5 → A6 → A7 → A8 → A9 → A10 → A11 → A12 → A13 → A14 → A15 → Nat) (hs : ∀ (n : Nat) (a1 : A1) (a2 : A2) (a3 : A3) (a4 : A4) (a5 : A5) (a6 : A6) (a7 : A7) (a8 : A8) (a9 : A9) (a10 : A10) (a11 : A11) (a12 : A12) (a13 : A13) (a14 : A14) (a15 : A15), I a1 a2 a3 a4 a5 a6 a7 a8 a9 a10 a11 a12 a13 a14 a15 → (∀ (b1 : A1) (b2 : A2) (b3 : A3) (b4 : A4) (b5 : A5) (b6 : A6) (b7 : A7) (b8 : A8) (b9 : A9) (b10 : A10) (b11 : A11) (b12 : A12) (b13 : A13) (b14 : A14) (b15 : A15), I b1 b2 b3 b4 b5 b6 b7 b8 b9 b10 b11 b12 b13 b14 b15 → μ b1 b2 b3 b4 b5 b6 b7 b8 b9 b10 b11 b12 b13 b14 b15 < μ a1 a2 a3 a4 a5 a6 a7 a8 a9 a10 a11 a12 a13 a14 a15 → W n b1 b2 b3 b4 b5 b6 b7 b8 b9 b10 b11 b12 b13 b14 b15) → W (n + 1) a1 a2 a3 a4 a5 a6 a7 a8 a9 a10 a11 a12 a13 a14 a15) (a1 : A1) (a2 : A2) (a3 : A3) (a4 : A4) (a5 : A5) (a6 : A6) (a7 : A7) (a8 : A8) (a9 : A9) (a10 : A10) (a11 : A11) (a12 : A12) (a13 : A13) (a14 : A14) (a15 : A15) (h : I a1 a2 a3 a4 a5 a6 a7 a8 a9 a10 a11 a12 a13 a14 a15) : ∃ n, W n a1 a2 a3 a4 a5 a6 a7 a8 a9 a10 a11 a12 a13 a14 a15 :=
  loop_m (σ := A1 × A2 × A3 × A4 × A5 × A6 × A7 × A8 × A9 × A10 × A11 × A12 × A13 × A14 × A15) (fun n s => W n s.1 s.2.1 s.2.2.1 s.2.2.2.1 s.2.2.2.2.1 s.2.2.2.2.2.1 s.2.2.2.2.2.2.1 s.2.2.2.2.2.2.2.1 s.2.2.2.2.2.2.2.2.1 s.2.2.2.2.2.2.2.2.2.1 s.2.2.2.2.2.2.2.2.2.2.1 s.2.2.2.2.2.2.2.2.2.2.2.1 s.2.2.2.2.2.2.2.2.2.2.2.2.1 s.2.2.2.2.2.2.2.2.2.2.2.2.2.1 s.2.2.2.2.2.2.2.2.2.2.2.2.2.2) (fun s => I s.1 s.2.1 s.2.2.1 s.2.2.2.1 s.2.2.2.2.1 s.2.2.2.2.2.1 s.2.2.2.2.2.2.1 s.2.2.2.2.2.2.2.1 s.2.2.2.2.2.2.2.2.1 s.2.2.2.2.2.2.2.2.2.1 s.2.2.2.2.2.2.2.2.2.2.1 s.2.2.2.2.2.2.2.2.2.2.2.1 s.2.2.2.2.2.2.2.2.2.2.2.2.1 s.2.2.2.2.2.2.2.2.2.2.2.2.2.1 s.2.2.2.2.2.2.2.2.2.2.2.2.2.2) (fun s => μ s.1 s.2.1 s.2.2.1 s.2.2.2.1 s.2.2.2.2.1 s.2.2.2.2.2.1 s.2.2.2.2.2.2.1 s.2.2.2.2.2.2.2.1 s.2.2.2.2.2.2.2.2.1 s.2.2.2.2.2.2.2.2.2.1 s.2.2.2.2.2.2.2.2.2.2.1 s.2.2.2.2.2.2.2.2.2.2.2.1 s.2.2.2.2.2.2.2.2.2.2.2.2.1 s.2.2.2.2.2.2.2.2.2.2.2.2.2.1 s.2.2.2.2.2.2.2.2.2.2.2.2.2.2) (fun n s hI hk => hs n s.1 s.2.1 s.2.2.1 s.2.2.2.1 s.2.2.2.2.1 s.2.2.2.2.2.1 s.2.2.2.2.2.2.1 s.2.2.2.2.2.2.2.1 s.2.2.2.2.2.2.2.2.1 s.2.2.2.2.2.2.2.2.2.1 s.2.2.2.2.2.2.2.2.2.2.1 s.2.2.2.2.2.2.2.2.2.2.2.1 s.2.2.2.2.2.2.2.2.2.2.2.2.1 s.2.2.2.2.2.2.2.2.2.2.2.2.2.1 s.2.2.2.2.2.2.2.2.2.2.2.2.2.2 hI (fun b1 b2 b3 b4 b5 b6 b7 b8 b9 b10 b11 b12 b13 b14 b15 h9 hm => hk (b1, b2, b3, b4, b5, b6, b7, b8, b9, b10, b11, b12, b13, b14, b15) h9 hm)) (a1, a2, a3, a4, a5, a6, a7, a8, a9, a10, a11, a12, a13, a14, a15) h
theorem lp16 {A1 A2 A3 A4 A5 A6 A7 A8 A9 A10 A11 A12 A13 A14 A15 A16 : Type} (W : Nat → A1 → A2 → A3 → A4 → A5 → A6 → A7 → A8 → A9 → A10 → A11 → A12 → A13 → A14 → A15 → A16 → Prop) (I : A1 → A2 → A3 → A4 → A5 → A6 → A7 → A8 → A9 → A10 → A11 → A12 → A13 → A14 → A15 → A16 → Prop) (μ : A1 → A2 → A3 → A4 → A5 → A6 → A7 → A8 → A9 → A10 → A11 → A12 → A13 → A14 → A15 → A16 → Nat) (hs : ∀ (n : Nat) (a1 : A1) (a2 : A2) (a3 : A3) (a4 : A4) (a5 : A5) (a6 : A6) (a7 : A7) (a8 : A8) (a9 : A9) (a10 : A10) (a11 : A11) (a12 : A12) (a13 : A13) (a14 : A14) (a15 : A15) (a16 : A16), I a1 a2 a3 a4 a5 a6 a7 a8 a9 a10 a11 a12 a13 a14 a15 a16 → (∀ (b1 : A1) (b2 : A2) (b3 : A3) (b4 : A4) (b5 : A5) (b6 : A6) (b7 : A7) (b8 : A8) (b9 : A9) (b10 : A10) (b11 : A11) (b12 : A12) (b13 : A13) (b14 : A14) (b15 : A15) (b16 : A16), I b1 b2 b3 b4 b5 b6 b7 b8 b9 b10 b11 b12 b13 b14 b15 b16 → μ b1 b2 b3 b4 b5 b6 b7 b8 b9 b10 b11 b12 b13 b14 b15 b16 < μ a1 a2 a3 a4 a5 a6 a7 a8 a9 a10 a11 a12 a13 a14 a15 a16 → W n b1 b2 b3 b4 b5 b6 b7 b8 b9 b10 b11 b12 b13 b14 b15 b16) → W (n + 1) a1 a2 a3 a4 a5 a6 a7 a8 a9 a10 a11 a12 a13 a14 a15 a16) (a1 : A1) (a2 : A2) (a3 : A3) (a4 : A4) (a5 : A5) (a6 : A6) (a7 : A7) (a8 : A8) (a9 : A9) (a10 : A10) (a11 : A11) (a12 : A12) (a13 : A13) (a14 : A14) (a15 : A15) (a16 : A16) (h : I a1 a2 a3 a4 a5 a6 a7 a8 a9 a10 a11 a12 a13 a14 a15 a16) : ∃ n, W n a1 a2 a3 a4 a5 a6 a7 a8 a9 a10 a11 a12 a13 a14 a15 a16 :=
  loop_m (σ := A1 × A2 × A3 × A4 × A5 × A6 × A7 × A8 × A9 × A10 × A11 × A12 × A13 × A14 × A15 × A16) (fun n s => W n s.1 s.2.1 s.2.2.1 s.2.2.2.1 s.2.2.2.2.1 s.2.2.2.2.2.1 s.2.2.2.2.2.2.1 s.2.2.2.2.2.2.2.1 s.2.2.2.2.2.2.2.2.1 s.2.2.2.2.2.2.2.2.2.1 s.2.2.2.2.2.2.2.2.2.2.1 s.2.2.2.2.2.2.2.2.2.2.2.1 s.2.2.2.2.2.2.2.2.2.2.2.2.1 s.2.2.2.2.2.2.2.2.2.2.2.2.2.1 s.2.2.2.2.2.2.2.2.2.2.2.2.2.2.1 s.2.2.2.2.2.2.2.2.2.2.2.2.2.2.2) (fun s => I s.1 s.2.1 s.2.2.1 s.2.2.2.1 s.2.2.2.2.1 s.2.2.2.2.2.1 s.2.2.2.2.2.2.1 s.2.2.2.2.2.2.2.1 s.2.2.2.2.2.2.2.2.1 s.2.2.2.2.2.2.2.2.2.1 s.2.2.2.2.2.2.2.2.2.2.1 s.2.2.2.2.2.2.2.2.2.2.2.1 s.2.2.2.2.2.2.2.2.2.2.2.2.1 s.2.2.2.2.2.2.2.2.2.2.2.2.2.1 s.2.2.2.2.2.2.2.2.2.2.2.2.2.2.1 s.2.2.2.2.2.2.2.2.2.2.2.2.2.2.2) (fun s => μ s.1 s.2.1 s.2.2.1 s.2.2.2.1 s.2.2.2.2.1 s.2.2.2.2.2.1 s.2.2.2.2.2.2.1 s.2.2.2.2.2.2.2.1 s.2.2.2.2.2.2.2.2.1 s.2.2.2.2.2.2.2.2.2.1 s.2.2.2.2.2.2.2.2.2.2.1 s.2.2.2.2.2.2.2.2.2.2.2.1 s.2.2.2.2.2.2.2.2.2.2.2.2.1 s.2.2.2.2.2.2.2.2.2.2.2.2.2.1 s.2.2.2.2.2.2.2.2.2.2.2.2.2.2.1 s.2.2.2.2.2.2.2.2.2.2.2.2.2.2.2) (fun n s hI hk => hs n s.1 s.2.1 s.2.2.1 s.2.2.2.1 s.2.2.2.2.1 s.2.2.2.2.2.1 s.2.2.2.2.2.2.1 s.2.2.2.2.2.2.2.1 s.2.2.2.2.2.2.2.2.1 s.2.2.2.2.2.2.2.2.2.1 s.2.2.2.2.2.2.2.2.2.2.1 s.2.2.2.2.2.2.2.2.2.2.2.1 s.2.2.2.2.2.2.2.2.2.2.2.2.1 s.2.2.2.2.2.2.2.2.2.2.2.2.2.1 s.2.2.2.2.2.2.2.2.2.2.2.2.2.2.1 s.2.2.2.2.2.2.2.2.2.2.2.2.2.2.2 hI (fun b1 b2 b3 b4 b5 b6 b7 b8 b9 b10 b11 b12 b13 b14 b15 b16 h9 hm => hk (b1, b2, b3, b4, b5, b6, b7, b8, b9, b10, b11, b12, b13, b14, b15, b16) h9 hm)) (a1, a2, a3, a4, a5, a6, a7, a8, a9, a10, a11, a12, a13, a14, a15, a16) h
theorem pk_least (P : Nat → Prop) (h : ∃ k, P k) : ∃ k, P k ∧ ∀ j, j < k → ¬ P j := by
  obtain ⟨k, hk⟩ := h
  induction k using Nat.strongRecOn with
  | ind k ih =>
    by_cases e : ∃ j, j < k ∧ P j
    · obtain ⟨j, hj, pj⟩ := e
      exact ih j hj pj
    · exact ⟨k, hk, fun j hj pj => e ⟨j, hj, pj⟩⟩
theorem rp1 {ρ A1 : Type} (W : Nat → (ρ → Prop) → A1 → Prop) (ok : A1 → Prop) (μ : A1 → Nat) (val : A1 → ρ)
    (hs : ∀ (d : Nat) (post : ρ → Prop) (a1 : A1), ok a1 → post (val a1) → (∀ (post' : ρ → Prop) (b1 : A1), ok b1 → μ b1 < μ a1 → post' (val b1) → W d post' b1) → W (d + 1) post a1) :
    ∀ (d : Nat) (post : ρ → Prop) (a1 : A1), ok a1 → μ a1 < d → post (val a1) → W d post a1 := by
  intro d
  induction d with
  | zero => intro post a1 _ h; omega
  | succ d ih =>
    intro post a1 ho hm hp
    exact hs d post a1 ho hp (fun post' b1 ho' hm' hp' => ih post' b1 ho' (by omega) hp')
theorem rp2 {ρ A1 A2 : Type} (W : Nat → (ρ → Prop) → A1 → A2 → Prop) (ok : A1 → A2 → Prop) (μ : A1 → A2 → Nat) (val : A1 → A2 → ρ)
    (hs : ∀ (d : Nat) (post : ρ → Prop) (a1 : A1) (a2 : A2), ok a1 a2 → post (val a1 a2) → (∀ (post' : ρ → Prop) (b1 : A1) (b2 : A2), ok b1 b2 → μ b1 b2 < μ a1 a2 → post' (val b1 b2) → W d post' b1 b2) → W (d + 1) post a1 a2) :
    ∀ (d : Nat) (post : ρ → Prop) (a1 : A1) (a2 : A2), ok a1 a2 → μ a1 a2 < d → post (val a1 a2) → W d post a1 a2 := by
  intro d
  induction d with
  | zero => intro post a1 a2 _ h; omega
  | succ d ih =>
    intro post a1 a2 ho hm hp
    exact hs d post a1 a2 ho hp (fun post' b1 b2 ho' hm' hp' => ih post' b1 b2 ho' (by omega) hp')
theorem rp3 {ρ A1 A2 A3 : Type} (W : Nat → (ρ → Prop) → A1 → A2 → A3 → Prop) (ok : A1 → A2 → A3 → Prop) (μ : A1 → A2 → A3 → Nat) (val : A1 → A2 → A3 → ρ)
    (hs : ∀ (d : Nat) (post : ρ → Prop) (a1 : A1) (a2 : A2) (a3 : A3), ok a1 a2 a3 → post (val a1 a2 a3) → (∀ (post' : ρ → Prop) (b1 : A1) (b2 : A2) (b3 : A3), ok b1 b2 b3 → μ b1 b2 b3 < μ a1 a2 a3 → post' (val b1 b2 b3) → W d post' b1 b2 b3) → W (d + 1) post a1 a2 a3) :
    ∀ (d : Nat) (post : ρ → Prop) (a1 : A1) (a2 : A2) (a3 : A3), ok a1 a2 a3 → μ a1 a2 a3 < d → post (val a1 a2 a3) → W d post a1 a2 a3 := by
  intro d
  induction d with
  | zero => intro post a1 a2 a3 _ h; omega
  | succ d ih =>
    intro post a1 a2 a3 ho hm hp
    exact hs d post a1 a2 a3 ho hp (fun post' b1 b2 b3 ho' hm' hp' => ih post' b1 b2 b3 ho' (by omega) hp')
theorem rp4 {ρ A1 A2 A3 A4 : Type} (W : Nat → (ρ → Prop) → A1 → A2 → A3 → A4 → Prop) (ok : A1 → A2 → A3 → A4 → Prop) (μ : A1 → A2 → A3 → A4 → Nat) (val : A1 → A2 → A3 → A4 → ρ)
    (hs : ∀ (d : Nat) (post : ρ → Prop) (a1 : A1) (a2 : A2) (a3 : A3) (a4 : A4), ok a1 a2 a3 a4 → post (val a1 a2 a3 a4) → (∀ (post' : ρ → Prop) (b1 : A1) (b2 : A2) (b3 : A3) (b4 : A4), ok b1 b2 b3 b4 → μ b1 b2 b3 b4 < μ a1 a2 a3 a4 → post' (val b1 b2 b3 b4) → W d post' b1 b2 b3 b4) → W (d + 1) post a1 a2 a3 a4) :
    ∀ (d : Nat) (post : ρ → Prop) (a1 : A1) (a2 : A2) (a3 : A3) (a4 : A4), ok a1 a2 a3 a4 → μ a1 a2 a3 a4 < d → post (val a1 a2 a3 a4) → W d post a1 a2 a3 a4 := by
  intro d
  induction d with
  | zero => intro post a1 a2 a3 a4 _ h; omega
  | succ d ih =>
    intro post a1 a2 a3 a4 ho hm hp
    exact hs d post a1 a2 a3 a4 ho hp (fun post' b1 b2 b3 b4 ho' hm' hp' => ih post' b1 b2 b3 b4 ho' (by omega) hp')
theorem rp5 {ρ A1 A2 A3 A4 A5 : Type} (W : Nat → (ρ → Prop) → A1 → A2 → A3 → A4 → A5 → Prop) (ok : A1 → A2 → A3 → A4 → A5 → Prop) (μ : A1 → A2 → A3 → A4 → A5 → Nat) (val : A1 → A2 → A3 → A4 → A5 → ρ)
    (hs : ∀ (d : Nat) (post : ρ → Prop) (a1 : A1) (a2 : A2) (a3 : A3) (a4 : A4) (a5 : A5), ok a1 a2 a3 a4 a5 → post (val a1 a2 a3 a4 a5) → (∀ (post' : ρ → Prop) (b1 : A1) (b2 : A2) (b3 : A3) (b4 : A4) (b5 : A5), ok b1 b2 b3 b4 b5 → μ b1 b2 b3 b4 b5 < μ a1 a2 a3 a4 a5 → post' (val b1 b2 b3 b4 b5) → W d post' b1 b2 b3 b4 b5) → W (d + 1) post a1 a2 a3 a4 a5) :
    ∀ (d : Nat) (post : ρ → Prop) (a1 : A1) (a2 : A2) (a3 : A3) (a4 : A4) (a5 : A5), ok a1 a2 a3 a4 a5 → μ a1 a2 a3 a4 a5 < d → post (val a1 a2 a3 a4 a5) → W d post a1 a2 a3 a4 a5 := by
  intro d
  induction d with
  | zero => intro post a1 a2 a3 a4 a5 _ h; omega
  | succ d ih =>
    intro post a1 a2 a3 a4 a5 ho hm hp
    exact hs d post a1 a2 a3 a4 a5 ho hp (fun post' b1 b2 b3 b4 b5 ho' hm' hp' => ih post' b1 b2 b3 b4 b5 ho' (by omega) hp')
theorem rp6 {ρ A1 A2 A3 A4 A5 A6 : Type} (W : Nat → (ρ → Prop) → A1 → A2 → A3 → A4 → A5 → A6 → Prop) (ok : A1 → A2 → A3 → A4 → A5 → A6 → Prop) (μ : A1 → A2 → A3 → A4 → A5 → A6 → Nat) (val : A1 → A2 → A3 → A4 → A5 → A6 → ρ)
    (hs : ∀ (d : Nat) (post : ρ → Prop) (a1 : A1) (a2 : A2) (a3 : A3) (a4 : A4) (a5 : A5) (a6 : A6), ok a1 a2 a3 a4 a5 a6 → post (val a1 a2 a3 a4 a5 a6) → (∀ (post' : ρ → Prop) (b1 : A1) (b2 : A2) (b3 : A3) (b4 : A4) (b5 : A5) (b6 : A6), ok b1 b2 b3 b4 b5 b6 → μ b1 b2 b3 b4 b5 b6 < μ a1 a2 a3 a4 a5 a6 → post' (val b1 b2 b3 b4 b5 b6) → W d post' b1 b2 b3 b4 b5 b6) → W (d + 1) post a1 a2 a3 a4 a5 a6) :
    ∀ (d : Nat) (post : ρ → Prop) (a1 : A1) (a2 : A2) (a3 : A3) (a4 : A4) (a5 : A5) (a6 : A6), ok a1 a2 a3 a4 a5 a6 → μ a1 a2 a3 a4 a5 a6 < d → post (val a1 a2 a3 a4 a5 a6) → W d post a1 a2 a3 a4 a5 a6 := by
  intro d
  induction d with
  | zero => intro post a1 a2 a3 a4 a5 a6 _ h; omega
  | succ d ih =>
    intro post a1 a2 a3 a4 a5 a6 ho hm hp
    exact hs d post a1 a2 a3 a4 a5 a6 ho hp (fun post' b1 b2 b3 b4 b5 b6 ho' hm' hp' => ih post' b1 b2 b3 b4 b5 b6 ho' (by omega) hp')
theorem rec_p {σ ρ : Type} (W : Nat → (ρ → Prop) → σ → Prop) (ok : σ → Prop) (μ : σ → Nat) (val : σ → ρ)
    (hs : ∀ d s post, ok s → post (val s) → (∀ s' post', ok s' → μ s' < μ s → post' (val s') → W d post' s') → W (d + 1) post s) :
    ∀ d s post, ok s → μ s < d → post (val s) → W d post s := by
  intro d
  induction d with
  | zero => intro s post _ h; omega
  | succ d ih =>
    intro s post ho hm hp
    exact hs d s post ho hp (fun s' post' ho' hm' hp' => ih s' post' ho' (by omega) hp')
theorem rec_q {σ ρ : Type} (W : Nat → (ρ → Prop) → σ → Prop) (ok : σ → Prop) (μ : σ → Nat) (Q : σ → ρ → Prop)
    (hs : ∀ d s post, ok s → (∀ r, Q s r → post r) → (∀ s' post', ok s' → μ s' < μ s → (∀ r, Q s' r → post' r) → W d post' s') → W (d + 1) post s) :
    ∀ d s post, ok s → μ s < d → (∀ r, Q s r → post r) → W d post s := by
  intro d
  induction d with
  | zero => intro s post _ h; omega
  | succ d ih =>
    intro s post ho hm hp
    exact hs d s post ho hp (fun s' post' ho' hm' hp' => ih s' post' ho' (by omega) hp')
def bx_sum (f : Nat → Int32) : Nat → Int32
  | 0 => 0
  | n + 1 => bx_sum f n + f n
theorem ek_u {A : Prop} {B : Nat → Prop} {k N : Nat} (hk : k < N) (h : B k) : (some k = none → A) ∧ (∀ y : Nat, some k = some y → (y < N ∧ B y)) :=
  ⟨fun z => absurd z (Option.some_ne_none k), fun _ e => (by cases e; exact ⟨hk, h⟩)⟩
theorem ek_nu {A : Prop} {B : Nat → Prop} (h : A) : ((none : Option Nat) = none → A) ∧ (∀ y : Nat, (none : Option Nat) = some y → B y) :=
  ⟨fun _ => h, fun _ e => (by cases e)⟩
theorem ek_if {c d A B : Prop} (e : c ↔ d) (f : d → A) (g : ¬ d → B) : (c → A) ∧ (¬ c → B) :=
  ⟨fun z => f (e.mp z), fun z => g (fun y => z (e.mpr y))⟩
theorem ek_v {α : Sort _} {P : α → Prop} {a b : α} (e : a = b) (h : P b) : P a := e ▸ h
theorem co_some {x : Option Nat} {A : Prop} {B : Nat → Prop} (i : Nat) (h : B i) (hx : x = some i := by rfl) : (x = none → A) ∧ (∀ y : Nat, x = some y → B y) := by
  subst hx
  exact ⟨fun e => (nomatch e), fun y e => Option.some.inj e ▸ h⟩
theorem co_none {x : Option Nat} {A : Prop} {B : Nat → Prop} (h : A) (hx : x = none := by rfl) : (x = none → A) ∧ (∀ y : Nat, x = some y → B y) := by
  subst hx
  exact ⟨fun _ => h, fun y e => (nomatch e)⟩
theorem co_any {x : Option Nat} {A : Prop} {B : Nat → Prop} (hn : x = none → A) (hs : ∀ i : Nat, x = some i → B i) : (x = none → A) ∧ (∀ y : Nat, x = some y → B y) := ⟨hn, hs⟩
theorem co_2 {P : Nat → Prop} (h0 : P 0) (h1 : P 1) {i : Nat} (hi : i < 2) : P i :=
  match i, hi with
  | 0, _ => h0
  | 1, _ => h1
theorem co_3 {P : Nat → Prop} (h0 : P 0) (h1 : P 1) (h2 : P 2) {i : Nat} (hi : i < 3) : P i :=
  match i, hi with
  | 0, _ => h0
  | 1, _ => h1
  | 2, _ => h2
theorem co_4 {P : Nat → Prop} (h0 : P 0) (h1 : P 1) (h2 : P 2) (h3 : P 3) {i : Nat} (hi : i < 4) : P i :=
  match i, hi with
  | 0, _ => h0
  | 1, _ => h1
  | 2, _ => h2
  | 3, _ => h3
theorem co_dec {N : Nat} {P : Nat → Prop} [DecidablePred P] (h : (List.range N).all (fun i => decide (P i)) = true) {i : Nat} (hi : i < N) : P i := by
  have := List.all_eq_true.mp h i (List.mem_range.mpr hi)
  exact of_decide_eq_true this
theorem co_tab {α : Type} {l : List α} {d : α} {P : α → Prop} (h : ∀ a, a ∈ l → P a) {i : Nat} (hi : i < l.length) : P (l.getD i d) := by
  rw [List.getD_eq_getElem?_getD, List.getElem?_eq_getElem hi]
  exact h _ (List.getElem_mem hi)
theorem pk_mu {x : Int32} {L : Nat} (h0 : ¬ x < 0) (h : ¬ nI L ≤ x) (hL : L < 2 ^ 31) : ∃ j : Nat, j < L ∧ x = nI j ∧ x + 1 = nI (j + 1) ∧ x.toNatClampNeg = j ∧ L - (x + 1).toNatClampNeg < L - x.toNatClampNeg := by
  obtain ⟨j, hj, rfl⟩ := nI_of h0
  have hl : j < L := Nat.not_le.mp fun q => h (nI_le q hj)
  refine ⟨j, hl, rfl, nI_1 j, nI_clamp hj, ?_⟩
  rw [nI_1, nI_clamp (by omega), nI_clamp hj]
  omega
theorem op_s {α : Type} {r : Option α} {A : Prop} {B : α → Prop} {y : α} (h : r = some y) (b : B y) : (r = none → A) ∧ ∀ z, r = some z → B z :=
  ⟨fun e => (by rw [h] at e; cases e), fun z e => (by rw [h] at e; cases e; exact b)⟩
def l_holds {α : Type} (a : Nat → Option Nat) (LP : List Nat) (p : Nat → α) (c : Nat) (b : Nat → α) : Prop :=
  ∀ j, j < c → ∃ y, a j = some y ∧ y ∈ LP ∧ p y = b j
theorem l_holds_0 {α : Type} {a : Nat → Option Nat} {LP : List Nat} {p b : Nat → α} : l_holds a LP p 0 b := fun j h => absurd h (Nat.not_lt_zero j)
theorem l_in_new (LP : List Nat) (q : Nat) : q ∈ LP ++ [q] := List.mem_append.mpr (Or.inr (List.mem_singleton.mpr rfl))
def l_sum (b : Nat → Int32) : Nat → Int32
  | 0 => 0
  | k + 1 => l_sum b k + b k
theorem sb_shr0 (x : Int32) : x >>> ((0 : Int32) &&& 31) = x := by
  rw [show ((0 : Int32) &&& 31) = 0 by decide]
  simp
theorem sb_shl0 (x : Int32) : x <<< ((0 : Int32) &&& 31) = x := by
  rw [show ((0 : Int32) &&& 31) = 0 by decide]
  simp
theorem sb_cl0 : (0 : Int32).toNatClampNeg = 0 := by decide
theorem sb_m1 {p : Nat} (h : 0 < p) : nI p + (-1) = nI (p - 1) := by
  obtain ⟨q, rfl⟩ : ∃ q, p = q + 1 := ⟨p - 1, by omega⟩
  exact pk_m1 q
def sb_b (c : Nat) : Int32 := (nI c).toInt8.toInt32
theorem sb_byte : ∀ c, c < 256 → sb_b c &&& 255 = nI c ∧ ((nI c).toUInt32 % 65536).toInt32 = nI c ∧ nI c ≤ 255 := by decide +kernel
def sb_Fit (a : Nat → Int32) : Prop := ∀ j, fits .byte (.int (a j)) = true
def sb_Lat (t : Nat → Nat) (n : Nat) (a : Nat → Int32) : Prop := ∀ j, j < n → t j < 256 ∧ a j = sb_b (t j)
theorem sb_fitB (c : Nat) : fits .byte (.int (sb_b c)) = true := pk_fb _
theorem sb_fit0 : sb_Fit (fun _ => 0) := fun _ => by
  show fits .byte (.int 0) = true
  decide
theorem sb_fitU {a : Nat → Int32} {k : Nat} {x : Int32} (h : sb_Fit a) (hx : fits .byte (.int x) = true) : sb_Fit (upd a k x) := by
  intro j
  by_cases e : j = k
  · subst e
    rw [pk_us]
    exact hx
  · rw [pk_un e]
    exact h j
def sb_cat (t : Nat → Nat) (n : Nat) (s : Nat → Nat) : Nat → Nat := fun j => if j < n then t j else s (j - n)
theorem sb_cat_lo {t s : Nat → Nat} {n j : Nat} (h : j < n) : sb_cat t n s j = t j := if_pos h
theorem sb_cat_hi {t s : Nat → Nat} {n j : Nat} : sb_cat t n s (n + j) = s j := by
  show (if n + j < n then t (n + j) else s (n + j - n)) = s j
  rw [if_neg (by omega), Nat.add_sub_cancel_left]
theorem sb_latPut {t s : Nat → Nat} {n w : Nat} {a a' : Nat → Int32} (h : sb_Lat t n a) (hk : ∀ j, j < n → a' j = a j) (hs : ∀ i, i < w → s i < 256 ∧ a' (n + i) = sb_b (s i)) : sb_Lat (sb_cat t n s) (n + w) a' := by
  intro j hj
  by_cases e : j < n
  · rw [sb_cat_lo e, hk j e]
    exact h j e
  · obtain ⟨i, rfl⟩ : ∃ i, j = n + i := ⟨j - n, by omega⟩
    rw [sb_cat_hi]
    exact hs i (by omega)
theorem sb_latKeep {t : Nat → Nat} {n : Nat} {a a' : Nat → Int32} (h : sb_Lat t n a) (hk : ∀ j, j < n → a' j = a j) : sb_Lat t n a' := fun j hj => by
  rw [hk j hj]
  exact h j hj
def sb_cap (q m : Nat) : Nat := if q ≤ m then m else if 2 * m + 2 < q then q else 2 * m + 2
def sb_Room (q m mc ms : Nat) : Prop := q ≤ m ∨ (1 ≤ mc ∧ sb_cap q m ≤ ms ∧ sb_cap q m ≤ 65536)
theorem sb_cap_ge (q m : Nat) : q ≤ sb_cap q m := by
  unfold sb_cap
  split
  · omega
  · split <;> omega
theorem sb_cap_gem (q m : Nat) : m ≤ sb_cap q m := by
  unfold sb_cap
  split
  · omega
  · split <;> omega
theorem sb_cap_le {q m mc ms : Nat} (hm : m ≤ 65536) (hr : sb_Room q m mc ms) : sb_cap q m ≤ 65536 := by
  rcases hr with h | h
  · rw [sb_cap, if_pos h]
    exact hm
  · exact h.2.2
theorem sb_at {P : Int32 → Prop} {x y : Int32} (e : x = y) (h : P y) : P x := e ▸ h
def sb_dg (w : Nat) : Nat := if w < 10 then 1 else if w < 100 then 2 else if w < 1000 then 3 else if w < 10000 then 4 else if w < 100000 then 5 else if w < 1000000 then 6 else if w < 10000000 then 7 else if w < 100000000 then 8 else if w < 1000000000 then 9 else 10
def sb_dec (v : Nat) : Nat → Nat := fun i => 48 + v / 10 ^ (sb_dg v - 1 - i) % 10
theorem sb_dg_in (w : Nat) : 1 ≤ sb_dg w ∧ sb_dg w ≤ 10 := by
  unfold sb_dg
  constructor <;> (repeat' split) <;> omega
theorem sb_dg100 {w : Nat} (h : 100 ≤ w) (hw : w < 2 ^ 31) : sb_dg w = sb_dg (w / 100) + 2 := by
  rw [sb_dg, sb_dg, if_neg (show ¬ w < 10 by omega), if_neg (show ¬ w < 100 by omega)]
  by_cases h3 : w < 1000
  · rw [if_pos h3, if_pos (show w / 100 < 10 by omega)]
  rw [if_neg h3, if_neg (show ¬ w / 100 < 10 by omega)]
  by_cases h4 : w < 10000
  · rw [if_pos h4, if_pos (show w / 100 < 100 by omega)]
  rw [if_neg h4, if_neg (show ¬ w / 100 < 100 by omega)]
  by_cases h5 : w < 100000
  · rw [if_pos h5, if_pos (show w / 100 < 1000 by omega)]
  rw [if_neg h5, if_neg (show ¬ w / 100 < 1000 by omega)]
  by_cases h6 : w < 1000000
  · rw [if_pos h6, if_pos (show w / 100 < 10000 by omega)]
  rw [if_neg h6, if_neg (show ¬ w / 100 < 10000 by omega)]
  by_cases h7 : w < 10000000
  · rw [if_pos h7, if_pos (show w / 100 < 100000 by omega)]
  rw [if_neg h7, if_neg (show ¬ w / 100 < 100000 by omega)]
  by_cases h8 : w < 100000000
  · rw [if_pos h8, if_pos (show w / 100 < 1000000 by omega)]
  rw [if_neg h8, if_neg (show ¬ w / 100 < 1000000 by omega)]
  by_cases h9 : w < 1000000000
  · rw [if_pos h9, if_pos (show w / 100 < 10000000 by omega)]
  rw [if_neg h9, if_neg (show ¬ w / 100 < 10000000 by omega)]
  rw [if_pos (show w / 100 < 100000000 by omega)]
theorem sb_negT {w : Nat} (h : w < 2 ^ 31) : (-nI w).toInt = -(w : Int) := by
  rw [Int32.toInt_neg, nI_toInt h]
  exact Int.bmod_eq_of_le (by omega) (by omega)
theorem sb_nle {a b : Nat} (ha : a < 2 ^ 31) (hb : b < 2 ^ 31) : -nI a ≤ -nI b ↔ b ≤ a := by
  rw [Int32.le_iff_toInt_le, sb_negT ha, sb_negT hb]
  omega
theorem sb_nlt {a b : Nat} (ha : a < 2 ^ 31) (hb : b < 2 ^ 31) : -nI a < -nI b ↔ b < a := by
  rw [Int32.lt_iff_toInt_lt, sb_negT ha, sb_negT hb]
  omega
theorem sb_cmp {A B : Prop} {x : Int32} (v c : Nat) (f : c ≤ v → A) (g : v < c → B) (hv : v < 2 ^ 31) (hx : x = -nI c := by rfl) (hc : c < 2 ^ 31 := by omega) : (-nI v ≤ x → A) ∧ (¬ -nI v ≤ x → B) := by
  subst hx
  rw [sb_nle hv hc]
  exact ⟨f, fun z => g (by omega)⟩
theorem sb_ndiv {w : Nat} (hw : w < 2 ^ 31) : (-nI w) / 100 = -nI (w / 100) := by
  apply Int32.toInt_inj.mp
  have h100 : (100 : Int32).toInt = 100 := by decide
  rw [Int32.toInt_div, sb_negT hw, h100, sb_negT (by omega), Int.neg_tdiv, Int.tdiv_eq_ediv_of_nonneg (by omega), Int.bmod_eq_of_le (by omega) (by omega)]
  omega
theorem sb_nrem {w : Nat} (hw : w < 2 ^ 31) : (-nI (w / 100)) * 100 - (-nI w) = nI (w % 100) := by
  have h := pk_rem (a := w) (d := 100) hw (by decide) (by decide)
  rw [pk_div hw (by decide) (by decide)] at h
  rw [← h]
  show (-nI (w / 100)) * nI 100 - (-nI w) = nI w - nI (w / 100) * nI 100
  rw [Int32.neg_mul, Int32.sub_neg, Int32.add_comm, ← Int32.sub_eq_add_neg]
end
section
/-! Words as codes: first code of a length, length, concatenation. -/
def ww_f (K : Nat) : Nat → Nat
  | 0 => 0
  | n + 1 => ww_f K n * K + 1
def ww_g (K w : Nat) : Nat → Nat
  | 0 => 0
  | n + 1 => if ww_f K (n + 1) ≤ w then n + 1 else ww_g K w n
def ww_n (K w : Nat) : Nat := ww_g K w w
def ww_c (K u v : Nat) : Nat := u * K ^ ww_n K v + v
theorem ww_f1 (K : Nat) : ∀ n, ww_f K (n + 1) = ww_f K n + K ^ n
  | 0 => by simp [ww_f]
  | n + 1 => by
    have h := ww_f1 K n
    show ww_f K (n + 1) * K + 1 = ww_f K (n + 1) + K ^ (n + 1)
    have e : ww_f K (n + 1) * K = ww_f K n * K + K ^ (n + 1) := by rw [h, Nat.add_mul, Nat.pow_succ]
    have e2 : ww_f K (n + 1) = ww_f K n * K + 1 := rfl
    omega
theorem ww_fa (K m : Nat) : ∀ n, ww_f K (m + n) = ww_f K m * K ^ n + ww_f K n
  | 0 => by simp [ww_f]
  | n + 1 => by
    have h := ww_fa K m n
    show ww_f K (m + n) * K + 1 = ww_f K m * K ^ (n + 1) + (ww_f K n * K + 1)
    rw [h, Nat.add_mul, Nat.pow_succ, Nat.mul_assoc]
    omega
theorem ww_pos {K : Nat} (hK : 2 ≤ K) (n : Nat) : 0 < K ^ n := Nat.pow_pos (by omega)
theorem ww_fs {K : Nat} (hK : 2 ≤ K) (n : Nat) : ww_f K n < ww_f K (n + 1) := by
  rw [ww_f1]; have := ww_pos hK n; omega
theorem ww_fle {K : Nat} (hK : 2 ≤ K) {m n : Nat} (h : m ≤ n) : ww_f K m ≤ ww_f K n := by
  induction n with
  | zero => have : m = 0 := by omega
            rw [this]; exact Nat.le_refl _
  | succ n ih =>
    rcases Nat.lt_or_ge n m with z | z
    · have : m = n + 1 := by omega
      rw [this]; exact Nat.le_refl _
    · have := ih z; have := ww_fs hK n; omega
theorem ww_flt {K : Nat} (hK : 2 ≤ K) {m n : Nat} (h : m < n) : ww_f K m < ww_f K n :=
  Nat.lt_of_lt_of_le (ww_fs hK m) (ww_fle hK h)
theorem ww_fn {K : Nat} (hK : 2 ≤ K) : ∀ n, n ≤ ww_f K n
  | 0 => Nat.zero_le _
  | n + 1 => by have := ww_fn hK n; have := ww_fs hK n; omega
theorem ww_g1 {K : Nat} (hK : 2 ≤ K) (w : Nat) : ∀ m, ww_f K (ww_g K w m) ≤ w ∧ ww_g K w m ≤ m ∧ ∀ j, j ≤ m → ww_f K j ≤ w → j ≤ ww_g K w m
  | 0 => ⟨Nat.zero_le _, Nat.le_refl _, fun j hj _ => hj⟩
  | m + 1 => by
    have ih := ww_g1 hK w m
    by_cases h : ww_f K (m + 1) ≤ w
    · have e : ww_g K w (m + 1) = m + 1 := by simp only [ww_g]; rw [if_pos h]
      rw [e]; exact ⟨h, Nat.le_refl _, fun j hj _ => hj⟩
    · have e : ww_g K w (m + 1) = ww_g K w m := by simp only [ww_g]; rw [if_neg h]
      rw [e]
      refine ⟨ih.1, by omega, fun j hj h2 => ih.2.2 j ?_ h2⟩
      rcases Nat.lt_or_ge j (m + 1) with z | z
      · omega
      · have : j = m + 1 := by omega
        rw [this] at h2; exact absurd h2 h
theorem ww_n1 {K : Nat} (hK : 2 ≤ K) (w : Nat) : ww_f K (ww_n K w) ≤ w := (ww_g1 hK w w).1
theorem ww_n2 {K : Nat} (hK : 2 ≤ K) (w : Nat) : w < ww_f K (ww_n K w + 1) := by
  rcases Nat.lt_or_ge w (ww_f K (ww_n K w + 1)) with h | h
  · exact h
  · have h1 := ww_fn hK (ww_n K w + 1)
    have h2 := (ww_g1 hK w w).2.2 (ww_n K w + 1) (by omega) h
    have h3 : ww_n K w = ww_g K w w := rfl
    omega
theorem ww_nu {K : Nat} (hK : 2 ≤ K) {w n : Nat} (h1 : ww_f K n ≤ w) (h2 : w < ww_f K (n + 1)) : ww_n K w = n := by
  have a := ww_n1 hK w
  have b := ww_n2 hK w
  rcases Nat.lt_trichotomy (ww_n K w) n with z | z | z
  · have := ww_fle hK (show ww_n K w + 1 ≤ n by omega); omega
  · exact z
  · have := ww_fle hK (show n + 1 ≤ ww_n K w by omega); omega
theorem ww_nle {K : Nat} (hK : 2 ≤ K) {w n : Nat} : ww_n K w ≤ n ↔ w < ww_f K (n + 1) := by
  have a := ww_n1 hK w
  have b := ww_n2 hK w
  constructor
  · intro h; have := ww_fle hK (show ww_n K w + 1 ≤ n + 1 by omega); omega
  · intro h
    rcases Nat.lt_or_ge n (ww_n K w) with z | z
    · have := ww_fle hK (show n + 1 ≤ ww_n K w by omega); omega
    · exact z
theorem ww_nlt {K : Nat} (hK : 2 ≤ K) {w n : Nat} : ww_n K w < n ↔ w < ww_f K n := by
  cases n with
  | zero => exact ⟨fun h => by omega, fun h => by simp [ww_f] at h⟩
  | succ n => rw [← ww_nle hK]; omega
theorem ww_nm {K : Nat} (hK : 2 ≤ K) {u v : Nat} (h : u ≤ v) : ww_n K u ≤ ww_n K v := by
  rw [ww_nle hK]; have := ww_n2 hK v; omega
theorem ww_n0 (K : Nat) : ww_n K 0 = 0 := rfl
theorem ww_n00 {K : Nat} (hK : 2 ≤ K) {w : Nat} (h : ww_n K w = 0) : w = 0 := by
  have b := ww_n2 hK w
  rw [h] at b
  have : ww_f K (0 + 1) = 1 := by simp [ww_f]
  omega
theorem ww_cn {K : Nat} (hK : 2 ≤ K) (u v : Nat) : ww_n K (ww_c K u v) = ww_n K u + ww_n K v := by
  have a1 := ww_n1 hK u
  have a2 := ww_n2 hK u
  have b1 := ww_n1 hK v
  have b2 := ww_n2 hK v
  unfold ww_c
  generalize ww_n K u = m at *
  generalize ww_n K v = n at *
  have e1 := ww_fa K m n
  have e2 := ww_fa K (m + 1) n
  have e3 := ww_f1 K n
  have e4 : m + 1 + n = m + n + 1 := by omega
  rw [e4] at e2
  have c1 : ww_f K m * K ^ n ≤ u * K ^ n := Nat.mul_le_mul_right _ a1
  have c2 : (u + 1) * K ^ n ≤ ww_f K (m + 1) * K ^ n := Nat.mul_le_mul_right _ a2
  rw [Nat.add_mul, Nat.one_mul] at c2
  refine ww_nu hK ?_ ?_
  · omega
  · omega
theorem ww_ca {K : Nat} (hK : 2 ≤ K) (u v w : Nat) : ww_c K (ww_c K u v) w = ww_c K u (ww_c K v w) := by
  show (u * K ^ ww_n K v + v) * K ^ ww_n K w + w = u * K ^ ww_n K (ww_c K v w) + (v * K ^ ww_n K w + w)
  rw [ww_cn hK, Nat.pow_add, Nat.add_mul, Nat.mul_assoc]
  omega
theorem ww_c0 (K u : Nat) : ww_c K u 0 = u := by
  show u * K ^ ww_n K 0 + 0 = u
  rw [ww_n0, Nat.pow_zero]; omega
theorem ww_0c (K v : Nat) : ww_c K 0 v = v := by
  show 0 * K ^ ww_n K v + v = v
  rw [Nat.zero_mul]; omega
theorem ww_cl {K : Nat} (hK : 2 ≤ K) {u u' : Nat} (v : Nat) (h : u < u') : ww_c K u v < ww_c K u' v := by
  have := Nat.mul_lt_mul_of_pos_right h (ww_pos hK (ww_n K v))
  unfold ww_c; omega
theorem ww_cr {K : Nat} (hK : 2 ≤ K) (u : Nat) {v v' : Nat} (h : v < v') : ww_c K u v < ww_c K u v' := by
  have e := ww_nm hK (Nat.le_of_lt h)
  have := Nat.mul_le_mul_left u (Nat.pow_le_pow_right (show 0 < K by omega) e)
  unfold ww_c; omega
theorem ww_cle {K : Nat} (hK : 2 ≤ K) {u u' : Nat} (v : Nat) (h : u ≤ u') : ww_c K u v ≤ ww_c K u' v := by
  rcases Nat.lt_or_ge u u' with z | z
  · exact Nat.le_of_lt (ww_cl hK v z)
  · rw [Nat.le_antisymm h z]; exact Nat.le_refl _
theorem ww_cre {K : Nat} (hK : 2 ≤ K) (u : Nat) {v v' : Nat} (h : v ≤ v') : ww_c K u v ≤ ww_c K u v' := by
  rcases Nat.lt_or_ge v v' with z | z
  · exact Nat.le_of_lt (ww_cr hK u z)
  · rw [Nat.le_antisymm h z]; exact Nat.le_refl _
/-- what the two halves are, by division -/
theorem ww_dv {K : Nat} (hK : 2 ≤ K) (u v : Nat) : (ww_c K u v - ww_f K (ww_n K u + ww_n K v)) / K ^ ww_n K v = u - ww_f K (ww_n K u) ∧ (ww_c K u v - ww_f K (ww_n K u + ww_n K v)) % K ^ ww_n K v = v - ww_f K (ww_n K v) := by
  have a1 := ww_n1 hK u
  have b1 := ww_n1 hK v
  have b2 := ww_n2 hK v
  have e1 := ww_fa K (ww_n K u) (ww_n K v)
  have e3 := ww_f1 K (ww_n K v)
  have c1 : ww_f K (ww_n K u) * K ^ ww_n K v ≤ u * K ^ ww_n K v := Nat.mul_le_mul_right _ a1
  have e : ww_c K u v - ww_f K (ww_n K u + ww_n K v) = (v - ww_f K (ww_n K v)) + K ^ ww_n K v * (u - ww_f K (ww_n K u)) := by
    unfold ww_c
    rw [Nat.mul_sub, Nat.mul_comm (K ^ ww_n K v) u, Nat.mul_comm (K ^ ww_n K v) (ww_f K (ww_n K u))]
    omega
  have p := ww_pos hK (ww_n K v)
  rw [e, Nat.add_mul_div_left _ _ p, Nat.add_mul_mod_self_left]
  have hl : v - ww_f K (ww_n K v) < K ^ ww_n K v := by omega
  rw [Nat.div_eq_of_lt hl, Nat.mod_eq_of_lt hl]
  exact ⟨by omega, rfl⟩
theorem ww_cx {K : Nat} (hK : 2 ≤ K) {u v u' v' : Nat} (h : ww_c K u v = ww_c K u' v') (hn : ww_n K v = ww_n K v') : u = u' ∧ v = v' := by
  have l : ww_n K u = ww_n K u' := by
    have := congrArg (ww_n K) h
    rw [ww_cn hK, ww_cn hK] at this; omega
  have d := ww_dv hK u v
  have d' := ww_dv hK u' v'
  rw [h, l, hn] at d
  have a1 := ww_n1 hK u
  have a2 := ww_n1 hK u'
  have b1 := ww_n1 hK v
  have b2 := ww_n1 hK v'
  rw [l] at a1
  rw [hn] at b1
  have x1 := d.1.symm.trans d'.1
  have x2 := d.2.symm.trans d'.2
  exact ⟨by omega, by omega⟩
theorem ww_cx' {K : Nat} (hK : 2 ≤ K) {u v u' v' : Nat} (h : ww_c K u v = ww_c K u' v') (hn : ww_n K u = ww_n K u') : u = u' ∧ v = v' := by
  refine ww_cx hK h ?_
  have := congrArg (ww_n K) h
  rw [ww_cn hK, ww_cn hK] at this; omega
def ww_p (K w n : Nat) : Nat := (w - ww_f K (ww_n K w)) / K ^ (ww_n K w - n) + ww_f K n
def ww_s (K w n : Nat) : Nat := (w - ww_f K (ww_n K w)) % K ^ n + ww_f K n
theorem ww_pc {K : Nat} (hK : 2 ≤ K) (u v : Nat) : ww_p K (ww_c K u v) (ww_n K u) = u := by
  unfold ww_p
  have e : ww_n K u + ww_n K v - ww_n K u = ww_n K v := by omega
  rw [ww_cn hK, e, (ww_dv hK u v).1]
  have := ww_n1 hK u; omega
theorem ww_sc {K : Nat} (hK : 2 ≤ K) (u v : Nat) : ww_s K (ww_c K u v) (ww_n K v) = v := by
  unfold ww_s
  rw [ww_cn hK, (ww_dv hK u v).2]
  have := ww_n1 hK v; omega
theorem ww_sp {K : Nat} (hK : 2 ≤ K) {w m n : Nat} (h : ww_n K w = m + n) : ∃ u v, w = ww_c K u v ∧ ww_n K u = m ∧ ww_n K v = n := by
  have a1 := ww_n1 hK w
  have a2 := ww_n2 hK w
  rw [h] at a1 a2
  have e1 := ww_fa K m n
  have e2 := ww_f1 K (m + n)
  have f1 := ww_f1 K m
  have f2 := ww_f1 K n
  have p := ww_pos hK n
  have dm := Nat.div_add_mod (w - ww_f K (m + n)) (K ^ n)
  have ml := Nat.mod_lt (w - ww_f K (m + n)) p
  have dl : (w - ww_f K (m + n)) / K ^ n < K ^ m := by
    rw [Nat.div_lt_iff_lt_mul p, ← Nat.pow_add]; omega
  generalize (w - ww_f K (m + n)) / K ^ n = q at *
  generalize (w - ww_f K (m + n)) % K ^ n = r at *
  have nu : ww_n K (q + ww_f K m) = m := ww_nu hK (by omega) (by omega)
  have nv : ww_n K (r + ww_f K n) = n := ww_nu hK (by omega) (by omega)
  refine ⟨q + ww_f K m, r + ww_f K n, ?_, nu, nv⟩
  unfold ww_c
  rw [nv, Nat.add_mul, Nat.mul_comm q]
  omega
/-- Levi -/
theorem ww_lv {K : Nat} (hK : 2 ≤ K) {a b c d : Nat} (h : ww_c K a b = ww_c K c d) (hl : ww_n K a ≤ ww_n K c) : ∃ t, c = ww_c K a t ∧ b = ww_c K t d := by
  obtain ⟨p, s, e, e1, e2⟩ := ww_sp hK (w := c) (m := ww_n K a) (n := ww_n K c - ww_n K a) (by omega)
  rw [e, ww_ca hK] at h
  have x := ww_cx' hK h e1.symm
  exact ⟨s, by rw [x.1]; exact e, x.2⟩
/-- a letter at the end -/
theorem ww_n1c {K : Nat} (hK : 2 ≤ K) {x : Nat} (h1 : 1 ≤ x) (h2 : x ≤ K) : ww_n K x = 1 :=
  ww_nu hK (by simp [ww_f]; omega) (by simp [ww_f]; omega)
theorem ww_cx1 {K : Nat} (hK : 2 ≤ K) (u : Nat) {x : Nat} (h1 : 1 ≤ x) (h2 : x ≤ K) : ww_c K u x = u * K + x := by
  unfold ww_c; rw [ww_n1c hK h1 h2, Nat.pow_one]
theorem ww_let {K : Nat} (hK : 2 ≤ K) {x : Nat} (h : ww_n K x = 1) : 1 ≤ x ∧ x ≤ K := by
  have a := ww_n1 hK x
  have b := ww_n2 hK x
  rw [h] at a b
  simp [ww_f] at a b
  omega
theorem ww_last {K : Nat} (hK : 2 ≤ K) {w : Nat} (h : 0 < ww_n K w) : ∃ u x, w = ww_c K u x ∧ 1 ≤ x ∧ x ≤ K ∧ ww_n K w = ww_n K u + 1 := by
  obtain ⟨u, x, e, e1, e2⟩ := ww_sp hK (w := w) (m := ww_n K w - 1) (n := 1) (by omega)
  exact ⟨u, x, e, (ww_let hK e2).1, (ww_let hK e2).2, by omega⟩
theorem ww_first {K : Nat} (hK : 2 ≤ K) {w : Nat} (h : 0 < ww_n K w) : ∃ x u, w = ww_c K x u ∧ 1 ≤ x ∧ x ≤ K ∧ ww_n K w = ww_n K u + 1 := by
  obtain ⟨x, u, e, e1, e2⟩ := ww_sp hK (w := w) (m := 1) (n := ww_n K w - 1) (by omega)
  exact ⟨x, u, e, (ww_let hK e1).1, (ww_let hK e1).2, by omega⟩
end
section
/-! Steps, connectedness inside a set of words, local peaks. -/
def rw_st (K : Nat) (E : Nat → Nat → Prop) (u v : Nat) : Prop := ∃ a p q b, E p q ∧ u = ww_c K a (ww_c K p b) ∧ v = ww_c K a (ww_c K q b)
def rw_cn (K : Nat) (E : Nat → Nat → Prop) (P : Nat → Prop) (u v : Nat) : Prop :=
  ∀ S : Nat → Nat → Prop, (∀ x, S x x) → (∀ x y, S x y → S y x) → (∀ x y z, S x y → S y z → S x z) → (∀ x y, rw_st K E x y → P x → P y → S x y) → S u v
section
variable {K : Nat} {E E' : Nat → Nat → Prop} {P P' : Nat → Prop} {u v w : Nat}
theorem rw_rf : rw_cn K E P u u := fun _ r _ _ _ => r u
theorem rw_sy (h : rw_cn K E P u v) : rw_cn K E P v u := fun S r s t g => s _ _ (h S r s t g)
theorem rw_tr (h : rw_cn K E P u v) (h' : rw_cn K E P v w) : rw_cn K E P u w := fun S r s t g => t _ _ _ (h S r s t g) (h' S r s t g)
theorem rw_s1 (h : rw_st K E u v) (hu : P u) (hv : P v) : rw_cn K E P u v := fun _ _ _ _ g => g _ _ h hu hv
theorem rw_eq (h : u = v) : rw_cn K E P u v := by rw [h]; exact rw_rf
theorem rw_e1 {p q : Nat} (h : E p q) (hu : P p) (hv : P q) : rw_cn K E P p q :=
  rw_s1 ⟨0, p, q, 0, h, by rw [ww_c0, ww_0c], by rw [ww_c0, ww_0c]⟩ hu hv
/-- regroup a context in a context -/
theorem rw_as (hK : 2 ≤ K) (a a' p b' b : Nat) : ww_c K a (ww_c K (ww_c K a' (ww_c K p b')) b) = ww_c K (ww_c K a a') (ww_c K p (ww_c K b' b)) := by
  rw [ww_ca hK, ww_ca hK, ww_ca hK]
theorem rw_stx (hK : 2 ≤ K) (a b : Nat) (h : rw_st K E u v) : rw_st K E (ww_c K a (ww_c K u b)) (ww_c K a (ww_c K v b)) := by
  obtain ⟨a', p, q, b', e, e1, e2⟩ := h
  exact ⟨ww_c K a a', p, q, ww_c K b' b, e, by rw [e1, rw_as hK], by rw [e2, rw_as hK]⟩
theorem rw_cx (hK : 2 ≤ K) (a b : Nat) (hP : ∀ x, P x → P' (ww_c K a (ww_c K x b))) (h : rw_cn K E P u v) : rw_cn K E P' (ww_c K a (ww_c K u b)) (ww_c K a (ww_c K v b)) :=
  fun S r s t g => h (fun x y => S (ww_c K a (ww_c K x b)) (ww_c K a (ww_c K y b))) (fun _ => r _) (fun _ _ => s _ _) (fun _ _ _ => t _ _ _) (fun _ _ st px py => g _ _ (rw_stx hK a b st) (hP _ px) (hP _ py))
theorem rw_mo (hE : ∀ p q, E p q → E' p q) (hP : ∀ x, P x → P' x) (h : rw_cn K E P u v) : rw_cn K E' P' u v :=
  fun S r s t g => h S r s t (fun x y ⟨a, p, q, b, e, e1, e2⟩ px py => g x y ⟨a, p, q, b, hE p q e, e1, e2⟩ (hP _ px) (hP _ py))
theorem rw_tle (hK : 2 ≤ K) (a b : Nat) {x y : Nat} (h : x ≤ y) : ww_c K a (ww_c K x b) ≤ ww_c K a (ww_c K y b) := ww_cre hK a (ww_cle hK b h)
theorem rw_tlt (hK : 2 ≤ K) (a b : Nat) {x y : Nat} (h : x < y) : ww_c K a (ww_c K x b) < ww_c K a (ww_c K y b) := ww_cr hK a (ww_cl hK b h)
theorem rw_sub (hK : 2 ≤ K) (hE : ∀ p q, E p q → rw_cn K E' (fun z => z ≤ p ∨ z ≤ q) p q) (hP : ∀ x y, P y → x ≤ y → P x) (h : rw_cn K E P u v) : rw_cn K E' P u v := by
  refine h (rw_cn K E' P) (fun _ => rw_rf) (fun _ _ => rw_sy) (fun _ _ _ => rw_tr) ?_
  rintro x y ⟨a, p, q, b, e, rfl, rfl⟩ px py
  refine rw_cx hK a b (P := fun z => z ≤ p ∨ z ≤ q) (fun z hz => ?_) (hE p q e)
  rcases hz with hz | hz
  · exact hP _ _ px (rw_tle hK a b hz)
  · exact hP _ _ py (rw_tle hK a b hz)
end
section
variable {K L : Nat} {R : Nat → Nat → Prop}
/-- all critical pairs of two rules are connected below their peak -/
def kb_cr (K L : Nat) (E : Nat → Nat → Prop) (f r g s : Nat) : Prop :=
  ∀ x y z, f = ww_c K x y → g = ww_c K y z → 0 < ww_n K x → 0 < ww_n K y → 0 < ww_n K z → ww_n K x + ww_n K y + ww_n K z ≤ L → rw_cn K E (fun w => w < ww_c K x (ww_c K y z)) (ww_c K r z) (ww_c K x s)
theorem rw_pk1 (hK : 2 ≤ K) (hd : ∀ l r, R l r → r < l) (hf : ∀ l r s, R l r → R l s → r = s)
    (ha : ∀ l r m s a b, R l r → R m s → l = ww_c K a (ww_c K m b) → a = 0 ∧ b = 0)
    (hc : ∀ f r g s, R f r → R g s → kb_cr K L R f r g s)
    {w a l r b c m s d : Nat} (h1 : R l r) (h2 : R m s) (e1 : w = ww_c K a (ww_c K l b)) (e2 : w = ww_c K c (ww_c K m d)) (hw : ww_n K w ≤ L) (hac : ww_n K a ≤ ww_n K c) :
    rw_cn K R (fun z => z < w) (ww_c K a (ww_c K r b)) (ww_c K c (ww_c K s d)) := by
  obtain ⟨t, ec, f2⟩ := ww_lv hK (e1.symm.trans e2) hac
  rcases Nat.lt_or_ge (ww_n K t) (ww_n K l) with z | z
  · obtain ⟨y, el, g2⟩ := ww_lv hK f2.symm (Nat.le_of_lt z)
    have hy : 0 < ww_n K y := by
      have := congrArg (ww_n K) el
      rw [ww_cn hK] at this; omega
    rcases Nat.lt_or_ge (ww_n K y) (ww_n K m) with q | q
    · obtain ⟨z', em, eb⟩ := ww_lv hK g2.symm (Nat.le_of_lt q)
      have hz : 0 < ww_n K z' := by
        have := congrArg (ww_n K) em
        rw [ww_cn hK] at this; omega
      rcases Nat.eq_zero_or_pos (ww_n K t) with t0 | t0
      · have t0 := ww_n00 hK t0
        rw [t0, ww_0c] at el
        have x := ha m s l r 0 z' h2 h1 (by rw [ww_0c, el]; exact em)
        rw [x.2] at hz
        exact absurd hz (by rw [ww_n0]; omega)
      · have ew : w = ww_c K a (ww_c K (ww_c K t (ww_c K y z')) d) := by
          rw [e2, ec, em]
          simp only [ww_ca hK]
        have hl : ww_n K t + ww_n K y + ww_n K z' ≤ L := by
          have := congrArg (ww_n K) ew
          simp only [ww_cn hK] at this
          omega
        have k := rw_cx hK a d (P' := fun z => z < w) (fun x hx => by
          show ww_c K a (ww_c K x d) < w
          rw [ew]; exact rw_tlt hK a d hx) (hc l r m s h1 h2 t y z' el em t0 hy hz hl)
        have x1 : ww_c K a (ww_c K r b) = ww_c K a (ww_c K (ww_c K r z') d) := by rw [eb, ww_ca hK]
        have x2 : ww_c K c (ww_c K s d) = ww_c K a (ww_c K (ww_c K t s) d) := by rw [ec, ww_ca hK, ww_ca hK]
        rw [x1, x2]; exact k
    · obtain ⟨z', ey, ed⟩ := ww_lv hK g2 q
      have x := ha l r m s t z' h1 h2 (by rw [el, ey])
      have t0 := x.1
      have z0 := x.2
      subst t0; subst z0
      rw [ww_c0] at ey; rw [ww_0c] at el ed; rw [ww_c0] at ec
      subst ey; subst el; subst ec; subst ed
      rw [hf _ _ _ h1 h2]
      exact rw_rf
  · obtain ⟨s', et, eb⟩ := ww_lv hK f2 z
    have ru : ww_c K a (ww_c K r b) = ww_c K (ww_c K a (ww_c K r s')) (ww_c K m d) := by
      rw [eb, ww_ca hK, ww_ca hK]
    have rv : ww_c K c (ww_c K s d) = ww_c K a (ww_c K l (ww_c K s' (ww_c K s d))) := by
      rw [ec, et, ww_ca hK, ww_ca hK]
    have rm : ww_c K (ww_c K a (ww_c K r s')) (ww_c K s d) = ww_c K a (ww_c K r (ww_c K s' (ww_c K s d))) := by
      rw [ww_ca hK, ww_ca hK]
    have b1 : ww_c K a (ww_c K r b) < w := by rw [e1]; exact rw_tlt hK a b (hd _ _ h1)
    have b2 : ww_c K c (ww_c K s d) < w := by rw [e2]; exact rw_tlt hK c d (hd _ _ h2)
    have b3 : ww_c K (ww_c K a (ww_c K r s')) (ww_c K s d) < w := by
      refine Nat.lt_trans (rw_tlt hK _ d (hd _ _ h2)) ?_
      rw [← ru]; exact b1
    refine rw_tr (v := ww_c K (ww_c K a (ww_c K r s')) (ww_c K s d)) (rw_s1 ⟨ww_c K a (ww_c K r s'), m, s, d, h2, ru, rfl⟩ b1 b3) (rw_sy (rw_s1 ⟨a, l, r, ww_c K s' (ww_c K s d), h1, rv, rm⟩ b2 b3))
theorem rw_pk (hK : 2 ≤ K) (hd : ∀ l r, R l r → r < l) (hf : ∀ l r s, R l r → R l s → r = s)
    (ha : ∀ l r m s a b, R l r → R m s → l = ww_c K a (ww_c K m b) → a = 0 ∧ b = 0)
    (hc : ∀ f r g s, R f r → R g s → kb_cr K L R f r g s)
    {w u v : Nat} (h1 : rw_st K R w u) (h2 : rw_st K R w v) (hw : ww_n K w ≤ L) :
    rw_cn K R (fun z => z < w) u v := by
  obtain ⟨a, l, r, b, hr, e1, rfl⟩ := h1
  obtain ⟨c, m, s, d, hs, e2, rfl⟩ := h2
  rcases Nat.le_total (ww_n K a) (ww_n K c) with z | z
  · exact rw_pk1 hK hd hf ha hc hr hs e1 e2 hw z
  · exact rw_sy (rw_pk1 hK hd hf ha hc hs hr e2 e1 hw z)
/-- one value along all steps -/
theorem rw_cf (hK : 2 ≤ K) (hd : ∀ l r, R l r → r < l) (hf : ∀ l r s, R l r → R l s → r = s)
    (ha : ∀ l r m s a b, R l r → R m s → l = ww_c K a (ww_c K m b) → a = 0 ∧ b = 0)
    (hc : ∀ f r g s, R f r → R g s → kb_cr K L R f r g s)
    {nf : Nat → Nat} (hn : ∀ w, ww_n K w ≤ L → (∃ v, rw_st K R w v) → ∃ v, rw_st K R w v ∧ nf w = nf v) :
    ∀ w, ww_n K w ≤ L → ∀ v, rw_st K R w v → nf v = nf w := by
  intro w
  induction w using Nat.strongRecOn with
  | ind w ih =>
    intro hw v hv
    obtain ⟨v0, h0, e0⟩ := hn w hw ⟨v, hv⟩
    rw [e0]
    refine rw_pk hK hd hf ha hc hv h0 hw (fun x y => nf x = nf y) (fun _ => rfl) (fun _ _ h => h.symm) (fun _ _ _ h h' => h.trans h') ?_
    intro x y st hx hy
    have lx : ww_n K x ≤ L := Nat.le_trans (ww_nm hK (Nat.le_of_lt hx)) hw
    exact (ih x hx lx y st).symm
theorem rw_lt (hK : 2 ≤ K) (hd : ∀ l r, R l r → r < l) {u v : Nat} (h : rw_st K R u v) : v < u := by
  obtain ⟨a, l, r, b, hr, rfl, rfl⟩ := h
  exact rw_tlt hK a b (hd _ _ hr)
/-- a word may be replaced by its normal form inside a word -/
theorem rw_nx (hK : 2 ≤ K) (hd : ∀ l r, R l r → r < l) {nf : Nat → Nat}
    (hn : ∀ w, ww_n K w ≤ L → (∃ v, rw_st K R w v) → ∃ v, rw_st K R w v ∧ nf w = nf v)
    (h0 : ∀ w, ww_n K w ≤ L → ¬ (∃ v, rw_st K R w v) → nf w = w)
    (hs : ∀ w, ww_n K w ≤ L → ∀ v, rw_st K R w v → nf v = nf w) (a b : Nat) :
    ∀ u, ww_n K (ww_c K a (ww_c K u b)) ≤ L → nf (ww_c K a (ww_c K u b)) = nf (ww_c K a (ww_c K (nf u) b)) := by
  intro u
  induction u using Nat.strongRecOn with
  | ind u ih =>
    intro hu
    have lu : ww_n K u ≤ L := by
      rw [ww_cn hK, ww_cn hK] at hu; omega
    rcases Classical.em (∃ v, rw_st K R u v) with hv | hv
    · obtain ⟨v, st, e⟩ := hn u lu hv
      have lt := rw_lt hK hd st
      have lv : ww_n K (ww_c K a (ww_c K v b)) ≤ L := Nat.le_trans (ww_nm hK (Nat.le_of_lt (rw_tlt hK a b lt))) hu
      rw [e, ← ih v lt lv]
      exact (hs _ hu _ (rw_stx hK a b st)).symm
    · rw [h0 u lu hv]
end
/-! The relation of the reference: closed equivalences. -/
def rl_cl (K L : Nat) (Q : Nat → Nat → Prop) (S : Nat → Nat → Prop) : Prop :=
  (∀ x, S x x) ∧ (∀ x y, S x y → S y x) ∧ (∀ x y z, S x y → S y z → S x z) ∧ (∀ p q, Q p q → S p q) ∧
  (∀ x u v, 1 ≤ x → x ≤ K → ww_n K u < L → ww_n K v < L → S u v → S (ww_c K x u) (ww_c K x v) ∧ S (ww_c K u x) (ww_c K v x))
def rl_r (K L : Nat) (Q : Nat → Nat → Prop) (u v : Nat) : Prop := ∀ S : Nat → Nat → Prop, rl_cl K L Q S → S u v
def rl_m (K L : Nat) (Q : Nat → Nat → Prop) (w m : Nat) : Prop := rl_r K L Q w m ∧ ∀ v, rl_r K L Q w v → m ≤ v
section
variable {K L L' : Nat} {Q Q' : Nat → Nat → Prop} {u v w : Nat}
theorem rl_rf : rl_r K L Q u u := fun _ h => h.1 u
theorem rl_sy (h : rl_r K L Q u v) : rl_r K L Q v u := fun S hS => hS.2.1 _ _ (h S hS)
theorem rl_tr (h : rl_r K L Q u v) (h' : rl_r K L Q v w) : rl_r K L Q u w := fun S hS => hS.2.2.1 _ _ _ (h S hS) (h' S hS)
theorem rl_q (h : Q u v) : rl_r K L Q u v := fun _ hS => hS.2.2.2.1 _ _ h
theorem rl_self (K L : Nat) (Q : Nat → Nat → Prop) : rl_cl K L Q (rl_r K L Q) :=
  ⟨fun _ => rl_rf, fun _ _ => rl_sy, fun _ _ _ => rl_tr, fun _ _ => rl_q,
   fun x u v h1 h2 hu hv h => ⟨fun S hS => (hS.2.2.2.2 x u v h1 h2 hu hv (h S hS)).1, fun S hS => (hS.2.2.2.2 x u v h1 h2 hu hv (h S hS)).2⟩⟩
theorem rl_mono (hL : L ≤ L') (hQ : ∀ p q, Q p q → rl_r K L' Q' p q) (h : rl_r K L Q u v) : rl_r K L' Q' u v := by
  intro S hS
  refine h S ⟨hS.1, hS.2.1, hS.2.2.1, fun p q e => hQ p q e S hS, fun x u v h1 h2 hu hv => hS.2.2.2.2 x u v h1 h2 (by omega) (by omega)⟩
theorem rl_cxr (hK : 2 ≤ K) {S : Nat → Nat → Prop} (hS : rl_cl K L Q S) : ∀ n b u v, ww_n K b = n → S u v → ww_n K (ww_c K u b) ≤ L → ww_n K (ww_c K v b) ≤ L → S (ww_c K u b) (ww_c K v b) := by
  intro n
  induction n with
  | zero => intro b u v hb h _ _; rw [ww_n00 hK hb, ww_c0, ww_c0]; exact h
  | succ n ih =>
    intro b u v hb h hu hv
    obtain ⟨x, b', e, h1, h2, hn⟩ := ww_first hK (w := b) (by omega)
    rw [e, ← ww_ca hK] at hu hv
    rw [e, ← ww_ca hK, ← ww_ca hK]
    have nx := ww_n1c hK h1 h2
    have lu := hu
    have lv := hv
    rw [ww_cn hK, ww_cn hK, nx] at lu lv
    exact ih b' _ _ (by omega) (hS.2.2.2.2 x u v h1 h2 (by omega) (by omega) h).2 hu hv
theorem rl_cxl (hK : 2 ≤ K) {S : Nat → Nat → Prop} (hS : rl_cl K L Q S) : ∀ n a u v, ww_n K a = n → S u v → ww_n K (ww_c K a u) ≤ L → ww_n K (ww_c K a v) ≤ L → S (ww_c K a u) (ww_c K a v) := by
  intro n
  induction n with
  | zero => intro a u v ha h _ _; rw [ww_n00 hK ha, ww_0c, ww_0c]; exact h
  | succ n ih =>
    intro a u v ha h hu hv
    obtain ⟨a', x, e, h1, h2, hn⟩ := ww_last hK (w := a) (by omega)
    rw [e, ww_ca hK] at hu hv
    rw [e, ww_ca hK, ww_ca hK]
    have nx := ww_n1c hK h1 h2
    have lu := hu
    have lv := hv
    rw [ww_cn hK, ww_cn hK, nx] at lu lv
    exact ih a' _ _ (by omega) (hS.2.2.2.2 x u v h1 h2 (by omega) (by omega) h).1 hu hv
theorem rl_cx (hK : 2 ≤ K) (a b : Nat) (h : rl_r K L Q u v) (hu : ww_n K (ww_c K a (ww_c K u b)) ≤ L) (hv : ww_n K (ww_c K a (ww_c K v b)) ≤ L) : rl_r K L Q (ww_c K a (ww_c K u b)) (ww_c K a (ww_c K v b)) := by
  have S := rl_self K L Q
  have h1 := hu
  have h2 := hv
  rw [ww_cn hK] at h1 h2
  exact rl_cxl hK S _ a _ _ rfl (rl_cxr hK S _ b u v rfl h (by omega) (by omega)) hu hv
theorem rl_un {m m' : Nat} (h : rl_m K L Q w m) (h' : rl_m K L Q w m') : m = m' := Nat.le_antisymm (h.2 _ h'.1) (h'.2 _ h.1)
theorem rl_me {m m' : Nat} (h : rl_m K L Q u m) (h' : rl_m K L Q v m') : rl_r K L Q u v ↔ m = m' := by
  constructor
  · intro e
    exact Nat.le_antisymm (h.2 _ (rl_tr e h'.1)) (h'.2 _ (rl_tr (rl_sy e) h.1))
  · intro e; subst e; exact rl_tr h.1 (rl_sy h'.1)
theorem rl_mi {m : Nat} (h : rl_m K L Q w m) : rl_m K L Q m m := ⟨rl_rf, fun _ hv => h.2 _ (rl_tr h.1 hv)⟩
theorem rl_mle {m : Nat} (h : rl_m K L Q w m) : m ≤ w := h.2 _ rl_rf
/-- a complete set of rules gives the least words -/
theorem rl_kb (hK : 2 ≤ K) {R : Nat → Nat → Prop} (hd : ∀ l r, R l r → r < l) (hso : ∀ l r, R l r → rl_r K L Q l r)
    {nf : Nat → Nat} (hn : ∀ w, ww_n K w ≤ L → (∃ v, rw_st K R w v) → ∃ v, rw_st K R w v ∧ nf w = nf v)
    (h0 : ∀ w, ww_n K w ≤ L → ¬ (∃ v, rw_st K R w v) → nf w = w)
    (hs : ∀ w, ww_n K w ≤ L → ∀ v, rw_st K R w v → nf v = nf w)
    (hq : ∀ p q, Q p q → ww_n K p ≤ L ∧ ww_n K q ≤ L ∧ nf p = nf q) :
    ∀ w, ww_n K w ≤ L → rl_m K L Q w (nf w) := by
  have le : ∀ w, ww_n K w ≤ L → nf w ≤ w ∧ rl_r K L Q w (nf w) := by
    intro w
    induction w using Nat.strongRecOn with
    | ind w ih =>
      intro hw
      rcases Classical.em (∃ v, rw_st K R w v) with hv | hv
      · obtain ⟨v, st, e⟩ := hn w hw hv
        have lt := rw_lt hK hd st
        have lv := Nat.le_trans (ww_nm hK (Nat.le_of_lt lt)) hw
        have i := ih v lt lv
        rw [e]
        refine ⟨by omega, rl_tr ?_ i.2⟩
        obtain ⟨a, l, r, b, hr, e1, e2⟩ := st
        rw [e1, e2]
        rw [e1] at hw; rw [e2] at lv
        exact rl_cx hK a b (hso l r hr) hw lv
      · rw [h0 w hw hv]; exact ⟨Nat.le_refl _, rl_rf⟩
  have cl : rl_cl K L Q (fun u v => u = v ∨ (ww_n K u ≤ L ∧ ww_n K v ≤ L ∧ nf u = nf v)) := by
    refine ⟨fun _ => Or.inl rfl, ?_, ?_, fun p q e => Or.inr (hq p q e), ?_⟩
    · rintro x y (h | h)
      · exact Or.inl h.symm
      · exact Or.inr ⟨h.2.1, h.1, h.2.2.symm⟩
    · rintro x y z (h | h) (h' | h')
      · exact Or.inl (h.trans h')
      · rw [h]; exact Or.inr h'
      · rw [← h']; exact Or.inr h
      · exact Or.inr ⟨h.1, h'.2.1, h.2.2.trans h'.2.2⟩
    · rintro x u v h1 h2 hu hv (h | h)
      · rw [h]; exact ⟨Or.inl rfl, Or.inl rfl⟩
      · have nx := ww_n1c hK h1 h2
        have key : ∀ a b, ww_n K (ww_c K a (ww_c K u b)) ≤ L → ww_n K (ww_c K a (ww_c K v b)) ≤ L → nf (ww_c K a (ww_c K u b)) = nf (ww_c K a (ww_c K v b)) := by
          intro a b l1 l2
          rw [rw_nx hK hd hn h0 hs a b u l1, rw_nx hK hd hn h0 hs a b v l2, h.2.2]
        have k1 := key x 0
        have k2 := key 0 x
        rw [ww_c0, ww_c0] at k1
        rw [ww_0c, ww_0c] at k2
        have n1 : ww_n K (ww_c K x u) ≤ L := by rw [ww_cn hK]; omega
        have n2 : ww_n K (ww_c K x v) ≤ L := by rw [ww_cn hK]; omega
        have n3 : ww_n K (ww_c K u x) ≤ L := by rw [ww_cn hK]; omega
        have n4 : ww_n K (ww_c K v x) ≤ L := by rw [ww_cn hK]; omega
        exact ⟨Or.inr ⟨n1, n2, k1 n1 n2⟩, Or.inr ⟨n3, n4, k2 n3 n4⟩⟩
  intro w hw
  refine ⟨(le w hw).2, fun v hv => ?_⟩
  rcases hv _ cl with e | e
  · rw [← e]; exact (le w hw).1
  · rw [e.2.2]; exact (le v e.2.1).1
end
end
section
/-! Counting (rows of the second large example, turned). -/
noncomputable def cq_b (P : Prop) : Nat := @ite Nat P (Classical.propDecidable P) 1 0
theorem cq_bt {P : Prop} (h : P) : cq_b P = 1 := by unfold cq_b; rw [if_pos h]
theorem cq_bf {P : Prop} (h : ¬ P) : cq_b P = 0 := by unfold cq_b; rw [if_neg h]
theorem cq_ble (P : Prop) : cq_b P ≤ 1 := by
  rcases Classical.em P with h | h
  · rw [cq_bt h]; omega
  · rw [cq_bf h]; omega
theorem cq_bm {P Q : Prop} (h : P → Q) : cq_b P ≤ cq_b Q := by
  rcases Classical.em P with hp | hp
  · rw [cq_bt hp, cq_bt (h hp)]; omega
  · rw [cq_bf hp]; omega
noncomputable def cq_n (P : Nat → Prop) : Nat → Nat
  | 0 => 0
  | k + 1 => cq_n P k + cq_b (P k)
theorem cq_mono {P Q : Nat → Prop} : ∀ {N : Nat}, (∀ k, k < N → P k → Q k) → cq_n P N ≤ cq_n Q N
  | 0, _ => Nat.le_refl _
  | N + 1, h => by
    have a := cq_mono (P := P) (Q := Q) (N := N) (fun k hk => h k (by omega))
    have b := cq_bm (h N (by omega))
    simp only [cq_n]; omega
theorem cq_lt {P Q : Nat → Prop} {a : Nat} (hp : ¬ P a) (hq : Q a) : ∀ {N : Nat}, (∀ k, k < N → P k → Q k) → a < N → cq_n P N < cq_n Q N
  | 0, _, h => by omega
  | N + 1, h, ha => by
    simp only [cq_n]
    rcases Nat.lt_or_ge a N with z | z
    · have x := cq_lt hp hq (N := N) (fun k hk => h k (by omega)) z
      have b := cq_bm (h N (by omega))
      omega
    · have e : a = N := by omega
      subst e
      have x := cq_mono (P := P) (Q := Q) (N := a) (fun k hk => h k (by omega))
      rw [cq_bt hq, cq_bf hp]; omega
theorem cq_le (P : Nat → Prop) : ∀ N, cq_n P N ≤ N
  | 0 => Nat.le_refl _
  | N + 1 => by have := cq_le P N; have := cq_ble (P N); simp only [cq_n]; omega
theorem cq_eq {P Q : Nat → Prop} {N : Nat} (h : ∀ k, k < N → (P k ↔ Q k)) : cq_n P N = cq_n Q N :=
  Nat.le_antisymm (cq_mono fun k hk => (h k hk).mp) (cq_mono fun k hk => (h k hk).mpr)
/-- one more at most -/
theorem cq_add {P Q : Nat → Prop} (a : Nat) : ∀ {N : Nat}, (∀ k, k < N → k ≠ a → Q k → P k) → cq_n Q N ≤ cq_n P N + 1
  | 0, _ => by simp only [cq_n]; omega
  | N + 1, h => by
    simp only [cq_n]
    rcases Classical.em (N = a) with z | z
    · have x := cq_mono (P := Q) (Q := P) (N := N) (fun k hk => h k (by omega) (by omega))
      have := cq_ble (Q N)
      omega
    · have x := cq_add (P := P) (Q := Q) a (N := N) (fun k hk => h k (by omega))
      have b := cq_bm (h N (by omega) z)
      omega
theorem cq_dis {P Q : Nat → Prop} : ∀ {N : Nat}, (∀ k, k < N → P k → ¬ Q k) → cq_n P N + cq_n Q N ≤ N
  | 0, _ => by simp only [cq_n]; omega
  | N + 1, h => by
    have a := cq_dis (P := P) (Q := Q) (N := N) (fun k hk => h k (by omega))
    simp only [cq_n]
    rcases Classical.em (P N) with z | z
    · rw [cq_bf (h N (by omega) z)]; have := cq_ble (P N); omega
    · rw [cq_bf z]; have := cq_ble (Q N); omega
theorem cq_pos {P : Nat → Prop} {a : Nat} (h : P a) : ∀ {N : Nat}, a < N → 0 < cq_n P N
  | 0, ha => by omega
  | N + 1, ha => by
    simp only [cq_n]
    rcases Nat.lt_or_ge a N with z | z
    · have := cq_pos h z; omega
    · have e : a = N := by omega
      rw [← e, cq_bt h]; omega
theorem cq_up {P : Nat → Prop} {m n : Nat} (h : m ≤ n) : cq_n P m ≤ cq_n P n := by
  induction n with
  | zero => have : m = 0 := by omega
            rw [this]; exact Nat.le_refl _
  | succ n ih =>
    rcases Nat.lt_or_ge n m with z | z
    · have : m = n + 1 := by omega
      rw [this]; exact Nat.le_refl _
    · have := ih z; simp only [cq_n]; omega
theorem cq_st {P : Nat → Prop} {m n : Nat} (h : m < n) (hm : P m) : cq_n P m < cq_n P n := by
  have a := cq_up (P := P) (show m + 1 ≤ n by omega)
  have : cq_n P (m + 1) = cq_n P m + 1 := by simp only [cq_n]; rw [cq_bt hm]
  omega
theorem cq_sj {P : Nat → Prop} {i : Nat} : ∀ {N : Nat}, i < cq_n P N → ∃ w, w < N ∧ P w ∧ cq_n P w = i
  | 0, h => by simp only [cq_n] at h; omega
  | N + 1, h => by
    rcases Nat.lt_or_ge i (cq_n P N) with z | z
    · obtain ⟨w, h1, h2, h3⟩ := cq_sj z
      exact ⟨w, by omega, h2, h3⟩
    · simp only [cq_n] at h
      rcases Classical.em (P N) with y | y
      · rw [cq_bt y] at h; exact ⟨N, by omega, y, by omega⟩
      · rw [cq_bf y] at h; omega
theorem cq_z {P : Nat → Prop} : ∀ {N : Nat}, (∀ k, k < N → ¬ P k) → cq_n P N = 0
  | 0, _ => rfl
  | N + 1, h => by
    simp only [cq_n]
    rw [cq_z (N := N) (fun k hk => h k (by omega)), cq_bf (h N (by omega))]
end
section
/-! The completion's ghost state: rules, next, fresh, agenda (two columns and its height). -/
abbrev GC : Type := (Nat → Option Nat) × (Nat → Nat) × (Nat → Bool) × (Nat → Nat) × (Nat → Nat) × Nat
def gc_r (c : GC) : Nat → Option Nat := c.1
def gc_x (c : GC) : Nat → Nat := c.2.1
def gc_f (c : GC) : Nat → Bool := c.2.2.1
def gc_1 (c : GC) : Nat → Nat := c.2.2.2.1
def gc_2 (c : GC) : Nat → Nat := c.2.2.2.2.1
def gc_t (c : GC) : Nat := c.2.2.2.2.2
def gu {α : Type} (f : Nat → α) (k : Nat) (v : α) : Nat → α := fun j => if j = k then v else f j
theorem gu_s {α : Type} {f : Nat → α} {k : Nat} {v : α} : gu f k v k = v := if_pos rfl
theorem gu_n {α : Type} {f : Nat → α} {k j : Nat} {v : α} (h : j ≠ k) : gu f k v j = f j := if_neg h
def gc_R (c : GC) (l r : Nat) : Prop := gc_r c l = some r
def gc_A (c : GC) (p q : Nat) : Prop := ∃ i, i < gc_t c ∧ gc_1 c i = p ∧ gc_2 c i = q
def gc_E (c : GC) (p q : Nat) : Prop := gc_R c p q ∨ gc_A c p q
noncomputable def gc_nR (c : GC) : Nat := cq_n (fun w => gc_r c w ≠ none) 127
noncomputable def gc_nF (c : GC) : Nat := cq_n (fun w => gc_f c w = true) 127
noncomputable def gc_nI (c : GC) : Nat := cq_n (fun w => gc_x c w = w) 127
def kb_I (K T L : Nat) (Q : Nat → Nat → Prop) (c : GC) : Prop :=
  (∀ l r, gc_R c l r → r < l ∧ ww_n K l ≤ L ∧ rl_r K L Q l r) ∧
  (∀ l r m s a b, gc_R c l r → gc_R c m s → l = ww_c K a (ww_c K m b) → a = 0 ∧ b = 0) ∧
  (∀ w, ww_n K w ≤ T → (gc_x c w = w ∧ ∀ v, ¬ rw_st K (gc_R c) w v) ∨ (gc_x c w ≠ w ∧ rw_st K (gc_R c) w (gc_x c w))) ∧
  (∀ p q, gc_A c p q → ww_n K p ≤ L ∧ ww_n K q ≤ L ∧ rl_r K L Q p q) ∧
  (∀ w, gc_f c w = true → gc_r c w ≠ none) ∧
  (∀ f r g s, gc_R c f r → gc_R c g s → gc_f c f = false → gc_f c g = false → kb_cr K L (gc_E c) f r g s) ∧
  (∀ p q, Q p q → rw_cn K (gc_E c) (fun w => ww_n K w ≤ L) p q)
/-- reached by next -/
def kb_w (nx : Nat → Nat) (w r : Nat) : Prop := ∀ P : Nat → Prop, P w → (∀ z, P z → P (nx z)) → P r
section
variable {K T L : Nat} {Q : Nat → Nat → Prop} {c c0 c' : GC}
theorem kb_fun {l r s : Nat} (h : gc_R c l r) (h' : gc_R c l s) : r = s := Option.some.inj ((show gc_r c l = some r from h).symm.trans h')
theorem kb_xle (hK : 2 ≤ K) (h : kb_I K T L Q c) {w : Nat} (hw : ww_n K w ≤ T) : gc_x c w ≤ w := by
  rcases h.2.2.1 w hw with e | e
  · omega
  · exact Nat.le_of_lt (rw_lt hK (fun l r z => (h.1 l r z).1) e.2)
theorem kb_step (hK : 2 ≤ K) (h : kb_I K T L Q c) (hL : L ≤ T) {w v : Nat} (hw : ww_n K w ≤ L) (st : rw_st K (gc_R c) w v) : v < w ∧ rl_r K L Q w v := by
  have lt := rw_lt hK (fun l r z => (h.1 l r z).1) st
  refine ⟨lt, ?_⟩
  obtain ⟨a, l, r, b, hr, rfl, rfl⟩ := st
  exact rl_cx hK a b (h.1 l r hr).2.2 hw (Nat.le_trans (ww_nm hK (Nat.le_of_lt lt)) hw)
theorem kb_rch (hK : 2 ≤ K) (h : kb_I K T L Q c) (hL : L ≤ T) {w r : Nat} (hw : ww_n K w ≤ L) (hr : kb_w (gc_x c) w r) :
    r ≤ w ∧ ww_n K r ≤ L ∧ rl_r K L Q w r ∧ rw_cn K (gc_R c) (fun z => z ≤ w) w r := by
  refine hr (fun z => z ≤ w ∧ ww_n K z ≤ L ∧ rl_r K L Q w z ∧ rw_cn K (gc_R c) (fun x => x ≤ w) w z) ⟨Nat.le_refl _, hw, rl_rf, rw_rf⟩ ?_
  rintro z ⟨h1, h2, h3, h4⟩
  rcases h.2.2.1 z (by omega) with e | e
  · rw [e.1]; exact ⟨h1, h2, h3, h4⟩
  · have s := kb_step hK h hL h2 e.2
    have l1 : gc_x c z ≤ w := by omega
    exact ⟨l1, Nat.le_trans (ww_nm hK l1) hw, rl_tr h3 s.2, rw_tr h4 (rw_s1 e.2 h1 l1)⟩
/-- the state without the agenda's top -/
def gc_pop (c : GC) : GC := (gc_r c, gc_x c, gc_f c, gc_1 c, gc_2 c, gc_t c - 1)
theorem kb_popA {p q : Nat} (h : gc_A (gc_pop c) p q) : gc_A c p q := by
  obtain ⟨i, hi, h1, h2⟩ := h
  exact ⟨i, by have : gc_t (gc_pop c) = gc_t c - 1 := rfl
               omega, h1, h2⟩
theorem kb_popE {p q : Nat} (h : gc_E c p q) : gc_E (gc_pop c) p q ∨ (p = gc_1 c (gc_t c - 1) ∧ q = gc_2 c (gc_t c - 1)) := by
  rcases h with h | ⟨i, hi, h1, h2⟩
  · exact Or.inl (Or.inl h)
  · rcases Nat.lt_or_ge i (gc_t c - 1) with z | z
    · exact Or.inl (Or.inr ⟨i, z, h1, h2⟩)
    · have e : i = gc_t c - 1 := by omega
      subst e
      exact Or.inr ⟨h1.symm, h2.symm⟩
/-- the general change of the equations under the invariant's last two parts -/
theorem kb_tr (hK : 2 ≤ K) {E E' : Nat → Nat → Prop} (hE : ∀ p q, E p q → rw_cn K E' (fun z => z ≤ p ∨ z ≤ q) p q) {f r g s : Nat} (h : kb_cr K L E f r g s) : kb_cr K L E' f r g s :=
  fun x y z e1 e2 h1 h2 h3 h4 => rw_sub hK hE (fun _ _ a b => Nat.lt_of_le_of_lt b a) (h x y z e1 e2 h1 h2 h3 h4)
theorem kb_trq (hK : 2 ≤ K) {E E' : Nat → Nat → Prop} (hE : ∀ p q, E p q → rw_cn K E' (fun z => z ≤ p ∨ z ≤ q) p q) {p q : Nat} (h : rw_cn K E (fun w => ww_n K w ≤ L) p q) : rw_cn K E' (fun w => ww_n K w ≤ L) p q :=
  rw_sub hK hE (fun _ _ a b => Nat.le_trans (ww_nm hK b) a) h
theorem kb_pop (hK : 2 ≤ K) (h : kb_I K T L Q c) (hp : rw_cn K (gc_R c) (fun z => z ≤ gc_1 c (gc_t c - 1) ∨ z ≤ gc_2 c (gc_t c - 1)) (gc_1 c (gc_t c - 1)) (gc_2 c (gc_t c - 1))) : kb_I K T L Q (gc_pop c) := by
  have hE : ∀ p q, gc_E c p q → rw_cn K (gc_E (gc_pop c)) (fun z => z ≤ p ∨ z ≤ q) p q := by
    intro p q e
    rcases kb_popE e with e | ⟨rfl, rfl⟩
    · exact rw_e1 e (Or.inl (Nat.le_refl _)) (Or.inr (Nat.le_refl _))
    · exact rw_mo (fun _ _ e => Or.inl e) (fun _ e => e) hp
  exact ⟨h.1, h.2.1, h.2.2.1, fun p q e => h.2.2.2.1 p q (kb_popA e), h.2.2.2.2.1,
    fun f r g s h1 h2 h3 h4 => kb_tr hK hE (h.2.2.2.2.2.1 f r g s h1 h2 h3 h4), fun p q e => kb_trq hK hE (h.2.2.2.2.2.2 p q e)⟩
/-- while words with the new left side are visited -/
def kb_V (K l0 r0 : Nat) (c0 : GC) (V : Nat → Prop) (c : GC) : Prop :=
  (∀ w, V w → ∃ a b, w = ww_c K a (ww_c K l0 b) ∧ gc_x c w = ww_c K a (ww_c K r0 b)) ∧
  (∀ w, ¬ V w → gc_x c w = gc_x c0 w) ∧
  (gc_r c l0 = some r0 ∧ (∀ w, w ≠ l0 → V w → gc_r c w = none) ∧ (∀ w, w ≠ l0 → ¬ V w → gc_r c w = gc_r c0 w)) ∧
  (gc_f c l0 = true ∧ (∀ w, w ≠ l0 → gc_f c w = true → gc_f c0 w = true ∧ (V w → gc_r c0 w = none)) ∧ (∀ w, w ≠ l0 → gc_f c w = false → gc_f c0 w = false ∨ gc_r c w = none)) ∧
  (∀ p q, gc_A c0 p q → gc_A c p q) ∧
  (∀ p q, gc_A c p q → gc_A c0 p q ∨ gc_R c0 p q) ∧
  (∀ w r, w ≠ l0 → V w → gc_R c0 w r → gc_A c w r) ∧
  gc_t c + gc_nR c ≤ gc_t c0 + gc_nR c0 + 1 ∧
  gc_nF c ≤ gc_nF c0 + 1
/-- the start of an installation -/
def gc_ins (c : GC) (l0 r0 : Nat) : GC := (gu (gc_r c) l0 (some r0), gc_x c, gu (gc_f c) l0 true, gc_1 c, gc_2 c, gc_t c)
theorem kb_V0 {l0 r0 : Nat} : kb_V K l0 r0 c (fun _ => False) (gc_ins c l0 r0) := by
  refine ⟨fun _ h => h.elim, fun _ _ => rfl, ⟨gu_s, fun _ _ h => h.elim, fun w h _ => gu_n h⟩, ⟨gu_s, fun w h e => ⟨?_, fun h => h.elim⟩, fun w h e => Or.inl ?_⟩, fun _ _ h => h, fun _ _ h => Or.inl h, fun _ _ _ h => h.elim, ?_, ?_⟩
  · have : gc_f (gc_ins c l0 r0) w = gc_f c w := gu_n h
    rw [← this]; exact e
  · have : gc_f (gc_ins c l0 r0) w = gc_f c w := gu_n h
    rw [← this]; exact e
  · have : gc_nR (gc_ins c l0 r0) ≤ gc_nR c + 1 := by
      refine cq_add l0 (fun k _ hk h => ?_)
      have e : gc_r (gc_ins c l0 r0) k = gc_r c k := gu_n hk
      rw [← e]; exact h
    show gc_t c + _ ≤ _
    omega
  · refine cq_add l0 (fun k _ hk h => ?_)
    have e : gc_f (gc_ins c l0 r0) k = gc_f c k := gu_n hk
    rw [← e]; exact h
/-- a visit that finds no rule -/
def gc_v1 (c : GC) (w y : Nat) : GC := (gc_r c, gu (gc_x c) w y, gc_f c, gc_1 c, gc_2 c, gc_t c)
theorem kb_V1 {l0 r0 : Nat} {V : Nat → Prop} (h : kb_V K l0 r0 c0 V c) {w a b : Nat} (hw : w = ww_c K a (ww_c K l0 b)) (hr : w ≠ l0 → gc_r c w = none) :
    kb_V K l0 r0 c0 (fun z => V z ∨ z = w) (gc_v1 c w (ww_c K a (ww_c K r0 b))) := by
  obtain ⟨h1, h2, ⟨h3, h4, h5⟩, ⟨h6, h7, h8⟩, h9, h10, h11, h12, h13⟩ := h
  refine ⟨fun z hz => ?_, fun z hz => ?_, ⟨h3, fun z hz hv => ?_, fun z hz hv => h5 z hz (fun q => hv (Or.inl q))⟩, ⟨h6, fun z hz e => ⟨(h7 z hz e).1, fun hv => ?_⟩, h8⟩, h9, h10, fun z r hz hv e => ?_, h12, h13⟩
  · rcases Classical.em (z = w) with e | e
    · subst e; exact ⟨a, b, hw, gu_s⟩
    · obtain ⟨a', b', e1, e2⟩ := h1 z (hz.elim id (fun q => absurd q e))
      exact ⟨a', b', e1, (gu_n e).trans e2⟩
  · have e : z ≠ w := fun q => hz (Or.inr q)
    exact (gu_n e).trans (h2 z (fun q => hz (Or.inl q)))
  · rcases hv with hv | hv
    · exact h4 z hz hv
    · subst hv; exact hr hz
  · rcases Classical.em (V z) with q | q
    · exact (h7 z hz e).2 q
    · have e2 : z = w := hv.elim (fun p => absurd p q) id
      subst e2
      exact (h5 z hz q).symm.trans (hr hz)
  · rcases Classical.em (V z) with q | q
    · exact h11 z r hz q e
    · have e2 : z = w := hv.elim (fun p => absurd p q) id
      subst e2
      have e3 : gc_r c0 z = none := (h5 z hz q).symm.trans (hr hz)
      rw [show gc_r c0 z = some r from e] at e3
      cases e3
/-- a visit that sends a rule back -/
def gc_v2 (c : GC) (w y r : Nat) : GC := (gu (gc_r c) w none, gu (gc_x c) w y, gu (gc_f c) w false, gu (gc_1 c) (gc_t c) w, gu (gc_2 c) (gc_t c) r, gc_t c + 1)
theorem kb_v2A {w y r p q : Nat} : gc_A (gc_v2 c w y r) p q ↔ gc_A c p q ∨ (p = w ∧ q = r) := by
  constructor
  · rintro ⟨i, hi, h1, h2⟩
    rcases Nat.lt_or_ge i (gc_t c) with z | z
    · refine Or.inl ⟨i, z, ?_, ?_⟩
      · rw [← h1]; exact (gu_n (by omega)).symm
      · rw [← h2]; exact (gu_n (by omega)).symm
    · have e : i = gc_t c := by
        have : gc_t (gc_v2 c w y r) = gc_t c + 1 := rfl
        omega
      subst e
      refine Or.inr ⟨?_, ?_⟩
      · rw [← h1]; exact gu_s
      · rw [← h2]; exact gu_s
  · rintro (⟨i, hi, h1, h2⟩ | ⟨rfl, rfl⟩)
    · exact ⟨i, Nat.lt_succ_of_lt hi, (gu_n (by omega)).trans h1, (gu_n (by omega)).trans h2⟩
    · exact ⟨gc_t c, Nat.lt_succ_self _, gu_s, gu_s⟩
theorem kb_V2 {l0 r0 : Nat} {V : Nat → Prop} (h : kb_V K l0 r0 c0 V c) {w a b r : Nat} (hw : w = ww_c K a (ww_c K l0 b)) (hl : w ≠ l0) (hr : gc_R c w r) (h127 : w < 127) :
    kb_V K l0 r0 c0 (fun z => V z ∨ z = w) (gc_v2 c w (ww_c K a (ww_c K r0 b)) r) := by
  obtain ⟨h1, h2, ⟨h3, h4, h5⟩, ⟨h6, h7, h8⟩, h9, h10, h11, h12, h13⟩ := h
  have hV : ¬ V w := fun q => by
    have := h4 w hl q
    rw [show gc_r c w = some r from hr] at this; cases this
  have hr0 : gc_R c0 w r := (h5 w hl hV).symm.trans hr
  refine ⟨fun z hz => ?_, fun z hz => ?_, ⟨(gu_n (Ne.symm hl)).trans h3, fun z hz hv => ?_, fun z hz hv => ?_⟩, ⟨(gu_n (Ne.symm hl)).trans h6, fun z hz e => ?_, fun z hz e => ?_⟩, fun p q e => kb_v2A.mpr (Or.inl (h9 p q e)), fun p q e => ?_, fun z s hz hv e => ?_, ?_, ?_⟩
  · rcases Classical.em (z = w) with e | e
    · subst e; exact ⟨a, b, hw, gu_s⟩
    · obtain ⟨a', b', e1, e2⟩ := h1 z (hz.elim id (fun q => absurd q e))
      exact ⟨a', b', e1, (gu_n e).trans e2⟩
  · have e : z ≠ w := fun q => hz (Or.inr q)
    exact (gu_n e).trans (h2 z (fun q => hz (Or.inl q)))
  · rcases Classical.em (z = w) with e | e
    · subst e; exact gu_s
    · exact (gu_n e).trans (h4 z hz (hv.elim id (fun q => absurd q e)))
  · have e : z ≠ w := fun q => hv (Or.inr q)
    exact (gu_n e).trans (h5 z hz (fun q => hv (Or.inl q)))
  · rcases Classical.em (z = w) with e2 | e2
    · subst e2
      have : gc_f (gc_v2 c z (ww_c K a (ww_c K r0 b)) r) z = false := gu_s
      rw [this] at e; cases e
    · have e3 : gc_f (gc_v2 c w (ww_c K a (ww_c K r0 b)) r) z = gc_f c z := gu_n e2
      rw [e3] at e
      exact ⟨(h7 z hz e).1, fun hv => (h7 z hz e).2 (hv.elim id (fun q => absurd q e2))⟩
  · rcases Classical.em (z = w) with e2 | e2
    · subst e2; exact Or.inr gu_s
    · have e3 : gc_f (gc_v2 c w (ww_c K a (ww_c K r0 b)) r) z = gc_f c z := gu_n e2
      rw [e3] at e
      exact (h8 z hz e).imp id (fun q => (gu_n e2).trans q)
  · rcases kb_v2A.mp e with e | ⟨rfl, rfl⟩
    · exact h10 p q e
    · exact Or.inr hr0
  · rcases Classical.em (z = w) with e2 | e2
    · subst e2
      exact kb_v2A.mpr (Or.inr ⟨rfl, kb_fun e hr0⟩)
    · exact kb_v2A.mpr (Or.inl (h11 z s hz (hv.elim id (fun q => absurd q e2)) e))
  · have lt : gc_nR (gc_v2 c w (ww_c K a (ww_c K r0 b)) r) < gc_nR c := by
      refine cq_lt (a := w) (fun q => q gu_s) (fun q => by
        rw [show gc_r c w = some r from hr] at q; cases q) (fun k _ hk => ?_) h127
      rcases Classical.em (k = w) with e2 | e2
      · subst e2; exact absurd gu_s hk
      · have e3 : gc_r (gc_v2 c w (ww_c K a (ww_c K r0 b)) r) k = gc_r c k := gu_n e2
        rw [← e3]; exact hk
    show gc_t c + 1 + _ ≤ _
    omega
  · refine Nat.le_trans (cq_mono (fun k _ hk => ?_)) h13
    rcases Classical.em (k = w) with e2 | e2
    · subst e2
      have : gc_f (gc_v2 c k (ww_c K a (ww_c K r0 b)) r) k = false := gu_s
      rw [this] at hk; cases hk
    · have e3 : gc_f (gc_v2 c w (ww_c K a (ww_c K r0 b)) r) k = gc_f c k := gu_n e2
      rw [← e3]; exact hk
/-- all words are visited: the invariant stands again -/
theorem kb_Vz (hK : 2 ≤ K) (hL : L ≤ T) (h : kb_I K T L Q c) {l0 r0 : Nat} {V : Nat → Prop}
    (hi : gc_x c l0 = l0) (hlt : r0 < l0) (hl : ww_n K l0 ≤ L) (hq : rl_r K L Q l0 r0)
    (hp : rw_cn K (fun x y => gc_R c x y ∨ (x = l0 ∧ y = r0)) (fun z => z ≤ gc_1 c (gc_t c - 1) ∨ z ≤ gc_2 c (gc_t c - 1)) (gc_1 c (gc_t c - 1)) (gc_2 c (gc_t c - 1)))
    (hV : kb_V K l0 r0 (gc_pop c) V c') (hVz : ∀ a b, ww_n K (ww_c K a (ww_c K l0 b)) ≤ T → V (ww_c K a (ww_c K l0 b))) (h127 : l0 < 127) (ht : 0 < gc_t c) :
    kb_I K T L Q c' ∧ gc_t c' + gc_nR c' + gc_nI c' < gc_t c + gc_nR c + gc_nI c ∧ gc_nF c' + gc_nI c' ≤ gc_nF c + gc_nI c := by
  obtain ⟨h1, h2, ⟨h3, h4, h5⟩, ⟨h6, h7, h8⟩, h9, h10, h11, h12, h13⟩ := hV
  have irr : ∀ v, ¬ rw_st K (gc_R c) l0 v := by
    rcases h.2.2.1 l0 (by omega) with e | e
    · exact e.2
    · exact absurd hi e.1
  have nol : gc_r c l0 = none := by
    rcases Option.eq_none_or_eq_some (gc_r c l0) with e | ⟨r, e⟩
    · exact e
    · exact absurd ⟨0, l0, r, 0, e, by rw [ww_c0, ww_0c], rfl⟩ (irr (ww_c K 0 (ww_c K r 0)))
  have rc : ∀ l r, gc_R c' l r → (l = l0 ∧ r = r0) ∨ (l ≠ l0 ∧ ¬ V l ∧ gc_R c l r) := by
    intro l r e
    rcases Classical.em (l = l0) with z | z
    · subst z; exact Or.inl ⟨rfl, Option.some.inj ((show gc_r c' l = some r from e).symm.trans h3)⟩
    · have nv : ¬ V l := fun q => by
        have := h4 l z q
        rw [show gc_r c' l = some r from e] at this; cases this
      exact Or.inr ⟨z, nv, (h5 l z nv).symm.trans e⟩
  have cr : ∀ l r, gc_R c l r → gc_E c' l r := by
    intro l r e
    have z : l ≠ l0 := fun q => by
      subst q; rw [show gc_r c l = some r from e] at nol; cases nol
    rcases Classical.em (V l) with q | q
    · exact Or.inr (h11 l r z q e)
    · exact Or.inl ((h5 l z q).trans e)
  have hE : ∀ p q, gc_E c p q → rw_cn K (gc_E c') (fun z => z ≤ p ∨ z ≤ q) p q := by
    intro p q e
    rcases kb_popE e with e | ⟨rfl, rfl⟩
    · refine rw_e1 ?_ (Or.inl (Nat.le_refl _)) (Or.inr (Nat.le_refl _))
      rcases e with e | e
      · exact cr p q e
      · exact Or.inr (h9 p q e)
    · refine rw_mo (fun x y e => ?_) (fun _ e => e) hp
      rcases e with e | ⟨rfl, rfl⟩
      · exact cr x y e
      · exact Or.inl h3
  have vle : ∀ w, V w → gc_x c' w < w := by
    intro w hw
    obtain ⟨a, b, e1, e2⟩ := h1 w hw
    rw [e2, e1]; exact rw_tlt hK a b hlt
  refine ⟨⟨?_, ?_, ?_, ?_, ?_, ?_, ?_⟩, ?_, ?_⟩
  · intro l r e
    rcases rc l r e with ⟨rfl, rfl⟩ | ⟨_, _, e⟩
    · exact ⟨hlt, hl, hq⟩
    · exact h.1 l r e
  · intro l r m s a b e1 e2 e
    rcases rc l r e1 with ⟨rfl, rfl⟩ | ⟨z, nv, d1⟩
    · rcases rc m s e2 with ⟨rfl, rfl⟩ | ⟨_, _, d2⟩
      · have := congrArg (ww_n K) e
        rw [ww_cn hK, ww_cn hK] at this
        exact ⟨ww_n00 hK (by omega), ww_n00 hK (by omega)⟩
      · exact absurd ⟨a, m, s, b, d2, e, rfl⟩ (irr _)
    · rcases rc m s e2 with ⟨rfl, rfl⟩ | ⟨_, _, d2⟩
      · refine absurd ?_ nv
        have := (h.1 l r d1).2.1
        rw [e] at this ⊢
        exact hVz a b (by omega)
      · exact h.2.1 l r m s a b d1 d2 e
  · intro w hw
    rcases Classical.em (V w) with z | z
    · obtain ⟨a, b, e1, e2⟩ := h1 w z
      have := vle w z
      exact Or.inr ⟨by omega, ⟨a, l0, r0, b, h3, e1, e2⟩⟩
    · have ex : gc_x c' w = gc_x c w := h2 w z
      rw [ex]
      rcases h.2.2.1 w hw with e | e
      · refine Or.inl ⟨e.1, ?_⟩
        rintro v ⟨a, l, r, b, d1, d2, d3⟩
        rcases rc l r d1 with ⟨rfl, rfl⟩ | ⟨_, _, d⟩
        · exact z (by rw [d2]; exact hVz a b (by rw [← d2]; exact hw))
        · exact e.2 v ⟨a, l, r, b, d, d2, d3⟩
      · refine Or.inr ⟨e.1, ?_⟩
        obtain ⟨a, l, r, b, d1, d2, d3⟩ := e.2
        refine ⟨a, l, r, b, ?_, d2, d3⟩
        have zl : l ≠ l0 := fun q => by
          subst q; rw [show gc_r c l = some r from d1] at nol; cases nol
        have nv : ¬ V l := fun q => by
          obtain ⟨a', b', e1, _⟩ := h1 l q
          refine z ?_
          rw [d2, e1, rw_as hK]
          refine hVz _ _ ?_
          rw [← rw_as hK, ← e1, ← d2]; exact hw
        exact (h5 l zl nv).trans d1
  · intro p q e
    rcases h10 p q e with e | e
    · exact h.2.2.2.1 p q (kb_popA e)
    · have d := h.1 p q e
      exact ⟨d.2.1, Nat.le_trans (ww_nm hK (Nat.le_of_lt d.1)) d.2.1, d.2.2⟩
  · intro w hw
    rcases Classical.em (w = l0) with z | z
    · subst z; rw [h3]; exact fun q => by cases q
    · have d := h7 w z hw
      have d2 := h.2.2.2.2.1 w d.1
      have nv : ¬ V w := fun q => d2 (d.2 q)
      rw [h5 w z nv]; exact d2
  · intro f r g s e1 e2 f1 f2
    rcases rc f r e1 with ⟨rfl, rfl⟩ | ⟨z1, _, d1⟩
    · rw [h6] at f1; cases f1
    · rcases rc g s e2 with ⟨rfl, rfl⟩ | ⟨z2, _, d2⟩
      · rw [h6] at f2; cases f2
      · have k1 : gc_f c f = false := by
          rcases h8 f z1 f1 with q | q
          · exact q
          · rw [show gc_r c' f = some r from e1] at q; cases q
        have k2 : gc_f c g = false := by
          rcases h8 g z2 f2 with q | q
          · exact q
          · rw [show gc_r c' g = some s from e2] at q; cases q
        exact kb_tr hK hE (h.2.2.2.2.2.1 f r g s d1 d2 k1 k2)
  · intro p q e
    exact kb_trq hK hE (h.2.2.2.2.2.2 p q e)
  · have lt : gc_nI c' < gc_nI c := by
      refine cq_lt (P := fun w => gc_x c' w = w) (Q := fun w => gc_x c w = w) (a := l0) ?_ hi (fun k _ hk => ?_) h127
      · have := hVz 0 0 (by rw [ww_0c, ww_c0]; omega)
        rw [ww_0c, ww_c0] at this
        have := vle l0 this
        omega
      · rcases Classical.em (V k) with z | z
        · have := vle k z; omega
        · exact (h2 k z).symm.trans hk
    have e1 : gc_t (gc_pop c) = gc_t c - 1 := rfl
    have e2 : gc_nR (gc_pop c) = gc_nR c := rfl
    omega
  · have lt : gc_nI c' < gc_nI c := by
      refine cq_lt (P := fun w => gc_x c' w = w) (Q := fun w => gc_x c w = w) (a := l0) ?_ hi (fun k _ hk => ?_) h127
      · have := hVz 0 0 (by rw [ww_0c, ww_c0]; omega)
        rw [ww_0c, ww_c0] at this
        have := vle l0 this
        omega
      · rcases Classical.em (V k) with z | z
        · have := vle k z; omega
        · exact (h2 k z).symm.trans hk
    have e2 : gc_nF (gc_pop c) = gc_nF c := rfl
    omega
/-- critical pairs of one rule with all are on the agenda -/
theorem kb_ovl (h : kb_I K T L Q c) {f : Nat} {r : Nat} (hf : gc_R c f r) (hr : gc_r c' = gc_r c) (hx : gc_x c' = gc_x c) (hfr : gc_f c' = gu (gc_f c) f false)
    (hE : ∀ p q, gc_A c p q → gc_A c' p q) (hA : ∀ p q, gc_A c' p q → ww_n K p ≤ L ∧ ww_n K q ≤ L ∧ rl_r K L Q p q)
    (hc : ∀ g s, gc_R c g s → kb_cr K L (gc_E c') f r g s ∧ kb_cr K L (gc_E c') g s f r) : kb_I K T L Q c' := by
  have hR : ∀ l r, gc_R c' l r ↔ gc_R c l r := fun l r => by unfold gc_R; rw [hr]
  have eR : gc_R c' = gc_R c := by funext l r; exact propext (hR l r)
  have hE' : ∀ p q, gc_E c p q → gc_E c' p q := fun p q e => e.imp (fun e => (hR p q).mpr e) (hE p q)
  refine ⟨by rw [eR]; exact h.1, by rw [eR]; exact h.2.1, by rw [eR, hx]; exact h.2.2.1, hA, ?_, ?_, fun p q e => rw_mo hE' (fun _ e => e) (h.2.2.2.2.2.2 p q e)⟩
  · intro w hw
    rw [hfr] at hw
    rw [hr]
    rcases Classical.em (w = f) with z | z
    · subst z; rw [gu_s] at hw; cases hw
    · rw [gu_n z] at hw; exact h.2.2.2.2.1 w hw
  · intro f' r' g s e1 e2 f1 f2
    rw [eR] at e1 e2
    rw [hfr] at f1 f2
    rcases Classical.em (f' = f) with z | z
    · subst z; rw [kb_fun e1 hf]; exact (hc g s e2).1
    · rcases Classical.em (g = f) with y | y
      · subst y; rw [kb_fun e2 hf]; exact (hc f' r' e1).2
      · rw [gu_n z] at f1; rw [gu_n y] at f2
        intro x y z e1' e2' q1 q2 q3 q4
        exact rw_mo hE' (fun _ e => e) (h.2.2.2.2.2.1 f' r' g s e1 e2 f1 f2 x y z e1' e2' q1 q2 q3 q4)
/-- what a complete state gives -/
def kb_nf (K L : Nat) (nx nf : Nat → Nat) : Prop := ∀ w, ww_n K w ≤ L → nf w = if nx w = w then w else nf (nx w)
theorem kb_fin (hK : 2 ≤ K) (hL : L ≤ T) (h : kb_I K T L Q c) (ht : gc_t c = 0) (hf : ∀ w, gc_f c w = false) (hQ : ∀ p q, Q p q → ww_n K p ≤ L ∧ ww_n K q ≤ L)
    {nf : Nat → Nat} (hn : kb_nf K L (gc_x c) nf) : ∀ w, ww_n K w ≤ L → rl_m K L Q w (nf w) := by
  have eE : ∀ p q, gc_E c p q → gc_R c p q := fun p q e => e.elim id (fun ⟨i, hi, _⟩ => by omega)
  have hd : ∀ l r, gc_R c l r → r < l := fun l r e => (h.1 l r e).1
  have n1 : ∀ w, ww_n K w ≤ L → (∃ v, rw_st K (gc_R c) w v) → ∃ v, rw_st K (gc_R c) w v ∧ nf w = nf v := by
    intro w hw ⟨v, hv⟩
    rcases h.2.2.1 w (by omega) with e | e
    · exact absurd hv (e.2 v)
    · exact ⟨_, e.2, by rw [hn w hw, if_neg e.1]⟩
  have n0 : ∀ w, ww_n K w ≤ L → ¬ (∃ v, rw_st K (gc_R c) w v) → nf w = w := by
    intro w hw hv
    rcases h.2.2.1 w (by omega) with e | e
    · rw [hn w hw, if_pos e.1]
    · exact absurd ⟨_, e.2⟩ hv
  have cf := rw_cf hK (R := gc_R c) (L := L) hd (fun _ _ _ => kb_fun) h.2.1
    (fun f r g s e1 e2 x y z a1 a2 a3 a4 a5 a6 => rw_mo eE (fun _ e => e) (h.2.2.2.2.2.1 f r g s e1 e2 (hf f) (hf g) x y z a1 a2 a3 a4 a5 a6)) n1
  refine rl_kb hK hd (fun l r e => (h.1 l r e).2.2) n1 n0 cf (fun p q e => ⟨(hQ p q e).1, (hQ p q e).2, ?_⟩)
  refine h.2.2.2.2.2.2 p q e (fun x y => nf x = nf y) (fun _ => rfl) (fun _ _ h => h.symm) (fun _ _ _ h h' => h.trans h') ?_
  rintro x y ⟨a, l, r, b, d1, d2, d3⟩ hx hy
  exact (cf x hx y ⟨a, l, r, b, eE _ _ d1, d2, d3⟩).symm
/-- a word that is not least while its proper factors are -/
def rl_red (K : Nat) (ls : Nat → Nat) (w : Nat) : Prop := ls w ≠ w ∧ ∀ a f b, w = ww_c K a (ww_c K f b) → ww_n K f < ww_n K w → ls f = f
theorem kb_rul (hK : 2 ≤ K) (hL : L ≤ T) (h : kb_I K T L Q c) {nf : Nat → Nat} (hn : kb_nf K L (gc_x c) nf) (hle : ∀ w, ww_n K w ≤ L → nf w ≤ w) {w : Nat} (hw : ww_n K w ≤ L) : gc_r c w ≠ none ↔ rl_red K nf w := by
  have hd : ∀ l r, gc_R c l r → r < l := fun l r e => (h.1 l r e).1
  have red : ∀ z, ww_n K z ≤ L → (nf z ≠ z ↔ ∃ v, rw_st K (gc_R c) z v) := by
    intro z hz
    rcases h.2.2.1 z (by omega) with e | e
    · constructor
      · intro q; exact absurd (by rw [hn z hz, if_pos e.1]) q
      · rintro ⟨v, hv⟩; exact absurd hv (e.2 v)
    · constructor
      · intro _; exact ⟨_, e.2⟩
      · intro _
        have lt := rw_lt hK hd e.2
        have l2 := hle _ (Nat.le_trans (ww_nm hK (Nat.le_of_lt lt)) hz)
        rw [hn z hz, if_neg e.1]; omega
  constructor
  · intro q
    obtain ⟨r, e⟩ := Option.ne_none_iff_exists'.mp q
    refine ⟨(red w hw).mpr ⟨_, 0, w, r, 0, e, by rw [ww_c0, ww_0c], rfl⟩, fun a f b ew hf => ?_⟩
    have lf : ww_n K f ≤ L := by omega
    rcases Classical.em (nf f = f) with z | z
    · exact z
    · obtain ⟨v, a', l, s, b', d1, d2, d3⟩ := (red f lf).mp z
      have x := h.2.1 w r l s _ _ e d1 (by rw [ew, d2, rw_as hK])
      have := congrArg (ww_n K) ew
      rw [ww_cn hK, ww_cn hK] at this
      have y1 := congrArg (ww_n K) x.1
      have y2 := congrArg (ww_n K) x.2
      rw [ww_cn hK, ww_n0] at y1 y2
      omega
  · rintro ⟨q1, q2⟩
    obtain ⟨v, a, l, s, b, d1, d2, d3⟩ := (red w hw).mp q1
    have ll : ww_n K l ≤ ww_n K w := by rw [d2, ww_cn hK, ww_cn hK]; omega
    rcases Nat.lt_or_ge (ww_n K l) (ww_n K w) with z | z
    · have e := q2 a l b d2 z
      exact absurd e ((red l (by omega)).mpr ⟨_, 0, l, s, 0, d1, by rw [ww_c0, ww_0c], rfl⟩)
    · have := congrArg (ww_n K) d2
      rw [ww_cn hK, ww_cn hK] at this
      have a0 := ww_n00 hK (w := a) (by omega)
      have b0 := ww_n00 hK (w := b) (by omega)
      rw [a0, b0, ww_c0, ww_0c] at d2
      rw [d2, show gc_r c l = some s from d1]
      exact fun q => by cases q
end
end
section
/-! The two alphabets; the component's tables and its word methods. -/
def tb_K (K T : Nat) : Prop := (K = 2 ∧ T = 6) ∨ (K = 3 ∧ T = 4)
def tb_X (K : Nat) (a_power a_first a_sizes : Nat → Int32) : Prop :=
  (∀ n, n < 16 → a_power n = nI (K ^ n)) ∧ (∀ n, n < 16 → a_first n = nI (ww_f K n)) ∧ (∀ w, w < 127 → a_sizes w = nI (ww_n K w))
section
variable {K T : Nat}
theorem tb_2 (h : tb_K K T) : 2 ≤ K := by rcases h with h | h <;> omega
theorem tb_3 (h : tb_K K T) : K ≤ 3 := by rcases h with h | h <;> omega
theorem tb_T (h : tb_K K T) : 4 ≤ T ∧ T ≤ 6 := by rcases h with h | h <;> omega
theorem tb_pw (h : tb_K K T) {n : Nat} (hn : n < 16) : K ^ n < 2 ^ 31 := by
  have a : K ^ n ≤ 3 ^ n := Nat.pow_le_pow_left (tb_3 h) n
  have b : 3 ^ n ≤ 3 ^ 15 := Nat.pow_le_pow_right (by decide) (by omega)
  have c : 3 ^ 15 < 2 ^ 31 := by decide
  omega
theorem tb_f15 (h : tb_K K T) : ww_f K 15 ≤ 7174453 ∧ 32767 ≤ ww_f K 15 := by
  rcases h with ⟨rfl, rfl⟩ | ⟨rfl, rfl⟩
  · exact ⟨by decide, by decide⟩
  · exact ⟨by decide, by decide⟩
theorem tb_f (h : tb_K K T) {n : Nat} (hn : n ≤ 15) : ww_f K n < 2 ^ 31 := by
  have := ww_fle (tb_2 h) hn; have := (tb_f15 h).1; omega
theorem tb_w (h : tb_K K T) {w : Nat} (hw : w < ww_f K 15) : w < 2 ^ 31 := by
  have := (tb_f15 h).1; omega
theorem tb_n (h : tb_K K T) {w : Nat} (hw : w < ww_f K 15) : ww_n K w ≤ 14 := (ww_nle (tb_2 h)).mpr hw
theorem tb_ln (h : tb_K K T) {w : Nat} (hw : ww_n K w ≤ 14) : w < ww_f K 15 := (ww_nle (tb_2 h)).mp hw
theorem tb_f7 (h : tb_K K T) : 127 ≤ ww_f K 7 ∧ ww_f K 4 ≤ 127 ∧ ww_f K (T + 1) ≤ 127 := by
  rcases h with ⟨rfl, rfl⟩ | ⟨rfl, rfl⟩
  · exact ⟨by decide, by decide, by decide⟩
  · exact ⟨by decide, by decide, by decide⟩
theorem tb_n6 (h : tb_K K T) {w : Nat} (hw : w < 127) : ww_n K w ≤ 6 := (ww_nle (tb_2 h)).mpr (Nat.lt_of_lt_of_le hw (tb_f7 h).1)
theorem tb_127 (h : tb_K K T) {w : Nat} (hw : ww_n K w ≤ T) : w < 127 := by
  have := (ww_nle (tb_2 h)).mp hw; have := (tb_f7 h).2.2; omega
theorem tb_big (h : tb_K K T) {w : Nat} (hw : w < 127) : w < ww_f K 15 := by
  have := (tb_f15 h).2; omega
end
section
variable {K T : Nat} {a_power a_first a_sizes : Nat → Int32}
theorem xt_p (hX : tb_X K a_power a_first a_sizes) {n : Nat} (hn : n < 16) : a_power (nI n).toNatClampNeg = nI (K ^ n) := by
  rw [nI_clamp (by omega)]; exact hX.1 n hn
theorem xt_f (hX : tb_X K a_power a_first a_sizes) {n : Nat} (hn : n < 16) : a_first (nI n).toNatClampNeg = nI (ww_f K n) := by
  rw [nI_clamp (by omega)]; exact hX.2.1 n hn
theorem xt_s (hX : tb_X K a_power a_first a_sizes) {w : Nat} (hw : w < 127) : a_sizes (nI w).toNatClampNeg = nI (ww_n K w) := by
  rw [nI_clamp (by omega)]; exact hX.2.2 w hw
theorem xt_p0 (hK : tb_K K T) (hX : tb_X K a_power a_first a_sizes) {n : Nat} (hn : n < 16) : ¬ a_power (nI n).toNatClampNeg = 0 := by
  rw [xt_p hX hn]; exact nI_ne0 (ww_pos (tb_2 hK) n) (tb_pw hK hn)
end
section
variable {K T : Nat} {f_letters f_topLevel f_capacity f_level f_equations f_taken f_rules f_confluence f_agendaTop f_queueSize f_chainLength : Int32} {a_power a_first a_sizes a_buffer a_equationSide a_ruleRight a_next a_fresh a_ruleLeft a_normalForm a_agendaOne a_agendaTwo a_distance a_queue a_chainWord a_chainEquation a_chainSide a_chainPlace : Nat → Int32}
theorem xl_lenL (hK : tb_K K T) (hX : tb_X K a_power a_first a_sizes) {post : Int32 → Prop} {w : Nat} (hw : w < ww_f K 15) (hp : post (nI (ww_n K w))) :
    ∀ d i, i + d = 14 → 4 ≤ i → ww_f K i ≤ w → ∀ n, d < n → wX_lengthOf_24 post (nI w) f_letters f_topLevel f_capacity f_level f_equations f_taken f_rules f_confluence f_agendaTop f_queueSize f_chainLength a_power a_first a_sizes a_buffer a_equationSide a_ruleRight a_next a_fresh a_ruleLeft a_normalForm a_agendaOne a_agendaTwo a_distance a_queue a_chainWord a_chainEquation a_chainSide a_chainPlace n (nI i) (nI (i + 1)) := by
  have h2 := tb_2 hK
  have h31 := tb_w hK hw
  intro d
  induction d with
  | zero =>
    intro i hi h4 hf n hn
    obtain ⟨m, rfl⟩ : ∃ m, n = m + 1 := ⟨n - 1, by omega⟩
    have e : i = 14 := by omega
    subst e
    have hl : nI w < a_first (nI (14 + 1)).toNatClampNeg := by rw [xt_f hX (by omega)]; exact nI_lt hw (tb_f hK (by omega))
    exact br_f (nI_ge (b := 16) (by omega) (by decide)) ⟨vp_in_nI (by omega) (by decide), br_t hl (by rw [← ww_nu h2 hf hw]; exact hp)⟩
  | succ d ih =>
    intro i hi h4 hf n hn
    obtain ⟨m, rfl⟩ : ∃ m, n = m + 1 := ⟨n - 1, by omega⟩
    rcases Nat.lt_or_ge w (ww_f K (i + 1)) with z | z
    · have hl : nI w < a_first (nI (i + 1)).toNatClampNeg := by rw [xt_f hX (by omega)]; exact nI_lt z (tb_f hK (by omega))
      exact br_f (nI_ge (b := 16) (by omega) (by decide)) ⟨vp_in_nI (by omega) (by decide), br_t hl (by rw [← ww_nu h2 hf z]; exact hp)⟩
    · have hl : ¬ nI w < a_first (nI (i + 1)).toNatClampNeg := by rw [xt_f hX (by omega)]; exact nI_nlt z h31
      exact br_f (nI_ge (b := 16) (by omega) (by decide)) ⟨vp_in_nI (by omega) (by decide), br_f hl (nm_r (nI_1 (i + 1)) (ih (i + 1) (by omega) (by omega) z m (by omega)))⟩
theorem xl_len (hK : tb_K K T) (hX : tb_X K a_power a_first a_sizes) {post : Int32 → Prop} {w : Nat} (hw : w < ww_f K 15) (hp : post (nI (ww_n K w))) : wpX_lengthOf post (f_letters, f_topLevel, f_capacity, f_level, f_equations, f_taken, f_rules, f_confluence, f_agendaTop, f_queueSize, f_chainLength, a_power, a_first, a_sizes, a_buffer, a_equationSide, a_ruleRight, a_next, a_fresh, a_ruleLeft, a_normalForm, a_agendaOne, a_agendaTwo, a_distance, a_queue, a_chainWord, a_chainEquation, a_chainSide, a_chainPlace) (nI w) := by
  have h31 := tb_w hK hw
  unfold wpX_lengthOf
  rcases Nat.lt_or_ge w 127 with z | z
  · exact br_f (nI_pos h31) (br_f (nI_ge (b := 127) z (by decide)) ⟨vp_in_nI z (by decide), by rw [xt_s hX z]; exact hp⟩)
  · exact br_f (nI_pos h31) (br_t (nI_le (a := 127) z h31) ⟨11, xl_lenL hK hX hw hp 10 4 rfl (by decide) (Nat.le_trans (tb_f7 hK).2.1 z) 11 (by decide)⟩)
theorem xl_join (hK : tb_K K T) (hX : tb_X K a_power a_first a_sizes) {post : Int32 → Prop} {u v : Nat} (hv : v < ww_f K 15) (hp : post (nI (ww_c K u v))) : wpX_join post (f_letters, f_topLevel, f_capacity, f_level, f_equations, f_taken, f_rules, f_confluence, f_agendaTop, f_queueSize, f_chainLength, a_power, a_first, a_sizes, a_buffer, a_equationSide, a_ruleRight, a_next, a_fresh, a_ruleLeft, a_normalForm, a_agendaOne, a_agendaTwo, a_distance, a_queue, a_chainWord, a_chainEquation, a_chainSide, a_chainPlace) (nI u) (nI v) := by
  unfold wpX_join
  have hn := tb_n hK hv
  refine xl_len hK hX hv ⟨vp_in_nI (by omega) (by decide), ?_⟩
  rw [xt_p hX (by omega), pk_mul, nI_add]
  exact hp
theorem xl_pre (hK : tb_K K T) (hX : tb_X K a_power a_first a_sizes) {post : Int32 → Prop} {w u v : Nat} (hw : w < ww_f K 15) (e : w = ww_c K u v) (hp : post (nI u)) : wpX_prefix post (f_letters, f_topLevel, f_capacity, f_level, f_equations, f_taken, f_rules, f_confluence, f_agendaTop, f_queueSize, f_chainLength, a_power, a_first, a_sizes, a_buffer, a_equationSide, a_ruleRight, a_next, a_fresh, a_ruleLeft, a_normalForm, a_agendaOne, a_agendaTwo, a_distance, a_queue, a_chainWord, a_chainEquation, a_chainSide, a_chainPlace) (nI w) (nI (ww_n K u)) := by
  unfold wpX_prefix
  have h2 := tb_2 hK
  have hn := tb_n hK hw
  have hl : ww_n K w = ww_n K u + ww_n K v := by rw [e, ww_cn h2]
  refine xl_len hK hX hw (br_f (nI_pos (by omega)) (br_t (nI_le (by omega) (by omega)) ?_))
  have hs : nI (ww_n K w) - nI (ww_n K u) = nI (ww_n K v) := by rw [pk_sub (by omega)]; exact congrArg nI (by omega)
  rw [hs]
  refine ⟨vp_in_nI (by omega) (by decide), vp_in_nI (by omega) (by decide), xt_p0 hK hX (by omega), vp_in_nI (by omega) (by decide), ?_⟩
  have l1 := ww_n1 h2 w
  rw [xt_f hX (by omega), xt_f hX (by omega), xt_p hX (by omega), pk_sub l1, pk_div (by have := tb_w hK hw; omega) (ww_pos h2 _) (tb_pw hK (by omega)), nI_add]
  have := ww_pc h2 u v
  rw [← e] at this
  unfold ww_p at this
  have e2 : ww_n K w - ww_n K u = ww_n K v := by omega
  rw [e2] at this
  rw [this]; exact hp
theorem xl_suf (hK : tb_K K T) (hX : tb_X K a_power a_first a_sizes) {post : Int32 → Prop} {w u v : Nat} (hw : w < ww_f K 15) (e : w = ww_c K u v) (hp : post (nI v)) : wpX_suffix post (f_letters, f_topLevel, f_capacity, f_level, f_equations, f_taken, f_rules, f_confluence, f_agendaTop, f_queueSize, f_chainLength, a_power, a_first, a_sizes, a_buffer, a_equationSide, a_ruleRight, a_next, a_fresh, a_ruleLeft, a_normalForm, a_agendaOne, a_agendaTwo, a_distance, a_queue, a_chainWord, a_chainEquation, a_chainSide, a_chainPlace) (nI w) (nI (ww_n K v)) := by
  unfold wpX_suffix
  have h2 := tb_2 hK
  have hn := tb_n hK hw
  have hl : ww_n K w = ww_n K u + ww_n K v := by rw [e, ww_cn h2]
  refine xl_len hK hX hw (br_f (nI_pos (by omega)) (br_t (nI_le (by omega) (by omega)) ?_))
  refine ⟨vp_in_nI (by omega) (by decide), vp_in_nI (by omega) (by decide), xt_p0 hK hX (by omega), vp_in_nI (by omega) (by decide), ?_⟩
  have l1 := ww_n1 h2 w
  rw [xt_f hX (by omega), xt_f hX (by omega), xt_p hX (by omega), pk_sub l1, pk_rem (by have := tb_w hK hw; omega) (ww_pos h2 _) (tb_pw hK (by omega)), nI_add]
  have := ww_sc h2 u v
  rw [← e] at this
  unfold ww_s at this
  rw [this]; exact hp
theorem xl_repl (hK : tb_K K T) (hX : tb_X K a_power a_first a_sizes) {post : Int32 → Prop} {w a f b y : Nat} (hw : w < ww_f K 15) (hy : y < ww_f K 15) (e : w = ww_c K a (ww_c K f b)) (hp : post (nI (ww_c K a (ww_c K y b)))) : wpX_replace post (f_letters, f_topLevel, f_capacity, f_level, f_equations, f_taken, f_rules, f_confluence, f_agendaTop, f_queueSize, f_chainLength, a_power, a_first, a_sizes, a_buffer, a_equationSide, a_ruleRight, a_next, a_fresh, a_ruleLeft, a_normalForm, a_agendaOne, a_agendaTwo, a_distance, a_queue, a_chainWord, a_chainEquation, a_chainSide, a_chainPlace) (nI w) (nI (ww_n K a)) (nI (ww_n K f)) (nI y) := by
  unfold wpX_replace
  have h2 := tb_2 hK
  have hn := tb_n hK hw
  have hl : ww_n K w = ww_n K a + (ww_n K f + ww_n K b) := by rw [e, ww_cn h2, ww_cn h2]
  have hs : nI (ww_n K w) - nI (ww_n K a) - nI (ww_n K f) = nI (ww_n K b) := by
    rw [pk_sub (by omega), pk_sub (by omega)]; exact congrArg nI (by omega)
  refine xl_len hK hX hw (nm_r hs (br_t (nI_pos' (by omega)) ?_))
  refine xl_pre hK hX hw e (xl_suf hK hX (u := ww_c K a f) hw (by rw [ww_ca h2]; exact e) (xl_join hK hX hy ⟨vp_in_nI (by omega) (by decide), ?_⟩))
  rw [xt_p hX (by omega), pk_mul, nI_add]
  have : ww_c K a y * K ^ ww_n K b + b = ww_c K a (ww_c K y b) := by rw [← ww_ca h2]; rfl
  rw [this]; exact hp
theorem xl_ovl (hK : tb_K K T) (hX : tb_X K a_power a_first a_sizes) {post : Int32 → Prop} {f g x y y' z : Nat} (hf : f < ww_f K 15) (hg : g < ww_f K 15) (ef : f = ww_c K x y) (eg : g = ww_c K y' z) (hl : ww_n K y' = ww_n K y) (h1 : y = y' → post 1) (h0 : y ≠ y' → post 0) : wpX_overlaps post (f_letters, f_topLevel, f_capacity, f_level, f_equations, f_taken, f_rules, f_confluence, f_agendaTop, f_queueSize, f_chainLength, a_power, a_first, a_sizes, a_buffer, a_equationSide, a_ruleRight, a_next, a_fresh, a_ruleLeft, a_normalForm, a_agendaOne, a_agendaTwo, a_distance, a_queue, a_chainWord, a_chainEquation, a_chainSide, a_chainPlace) (nI f) (nI g) (nI (ww_n K y)) := by
  unfold wpX_overlaps
  have h2 := tb_2 hK
  have by1 : y < 2 ^ 31 := by
    refine tb_w hK (tb_ln hK ?_)
    have := tb_n hK hf; rw [ef, ww_cn h2] at this; omega
  have by2 : y' < 2 ^ 31 := by
    refine tb_w hK (tb_ln hK ?_)
    have := tb_n hK hg; rw [eg, ww_cn h2] at this; omega
  refine xl_suf hK hX hf ef ?_
  rw [← hl]
  exact xl_pre hK hX hg eg (pk_eq y y' h1 h0)
theorem xl_rf (hK : tb_K K T) (hX : tb_X K a_power a_first a_sizes) {post : Int32 → Prop} {r g y z : Nat} (hg : g < ww_f K 15) (eg : g = ww_c K y z) (hp : post (nI (ww_c K r z))) : wpX_resultFirst post (f_letters, f_topLevel, f_capacity, f_level, f_equations, f_taken, f_rules, f_confluence, f_agendaTop, f_queueSize, f_chainLength, a_power, a_first, a_sizes, a_buffer, a_equationSide, a_ruleRight, a_next, a_fresh, a_ruleLeft, a_normalForm, a_agendaOne, a_agendaTwo, a_distance, a_queue, a_chainWord, a_chainEquation, a_chainSide, a_chainPlace) (nI r) (nI g) (nI (ww_n K y)) := by
  unfold wpX_resultFirst
  have h2 := tb_2 hK
  have hn := tb_n hK hg
  have hl : ww_n K g = ww_n K y + ww_n K z := by rw [eg, ww_cn h2]
  have hs : nI (ww_n K g) - nI (ww_n K y) = nI (ww_n K z) := by rw [pk_sub (by omega)]; exact congrArg nI (by omega)
  exact xl_len hK hX hg (nm_r hs (xl_suf hK hX hg eg (xl_join hK hX (tb_ln hK (by omega)) hp)))
theorem xl_rs (hK : tb_K K T) (hX : tb_X K a_power a_first a_sizes) {post : Int32 → Prop} {f x y s : Nat} (hf : f < ww_f K 15) (hs' : s < ww_f K 15) (ef : f = ww_c K x y) (hp : post (nI (ww_c K x s))) : wpX_resultSecond post (f_letters, f_topLevel, f_capacity, f_level, f_equations, f_taken, f_rules, f_confluence, f_agendaTop, f_queueSize, f_chainLength, a_power, a_first, a_sizes, a_buffer, a_equationSide, a_ruleRight, a_next, a_fresh, a_ruleLeft, a_normalForm, a_agendaOne, a_agendaTwo, a_distance, a_queue, a_chainWord, a_chainEquation, a_chainSide, a_chainPlace) (nI f) (nI s) (nI (ww_n K y)) := by
  unfold wpX_resultSecond
  have h2 := tb_2 hK
  have hn := tb_n hK hf
  have hl : ww_n K f = ww_n K x + ww_n K y := by rw [ef, ww_cn h2]
  have hs : nI (ww_n K f) - nI (ww_n K y) = nI (ww_n K x) := by rw [pk_sub (by omega)]; exact congrArg nI (by omega)
  exact xl_len hK hX hf (nm_r hs (xl_pre hK hX hf ef (xl_join hK hX hs' hp)))
theorem xl_wc {L : Nat} (hK : tb_K K T) (hX : tb_X K a_power a_first a_sizes) (hL : L ≤ 14) {post : Int32 → Prop} (hp : post (nI (ww_f K (L + 1)))) : wpX_wordCount post (f_letters, f_topLevel, f_capacity, nI L, f_equations, f_taken, f_rules, f_confluence, f_agendaTop, f_queueSize, f_chainLength, a_power, a_first, a_sizes, a_buffer, a_equationSide, a_ruleRight, a_next, a_fresh, a_ruleLeft, a_normalForm, a_agendaOne, a_agendaTwo, a_distance, a_queue, a_chainWord, a_chainEquation, a_chainSide, a_chainPlace) := by
  unfold wpX_wordCount; dsimp only
  rw [nI_1]
  exact ⟨vp_in_nI (by omega) (by decide), by rw [xt_f hX (by omega)]; exact hp⟩
end
end
section
/-! The component's completion over the ghost state: rewriting, push, installing a rule. -/
def ge_o : Option Nat → Int32
  | none => -1
  | some r => nI r
def ge_b : Bool → Int32
  | false => 0
  | true => 1
def gx (c : GC) (a_ruleRight a_next a_fresh a_agendaOne a_agendaTwo : Nat → Int32) (f_agendaTop : Int32) : Prop :=
  (∀ w, w < 127 → a_ruleRight w = ge_o (gc_r c w)) ∧ (∀ w, w < 127 → a_next w = nI (gc_x c w)) ∧ (∀ w, w < 127 → a_fresh w = ge_b (gc_f c w)) ∧
  (∀ i, i < gc_t c → a_agendaOne i = nI (gc_1 c i)) ∧ (∀ i, i < gc_t c → a_agendaTwo i = nI (gc_2 c i)) ∧ f_agendaTop = nI (gc_t c)
theorem ge_up {α : Type} {e : α → Int32} {a : Nat → Int32} {g : Nat → α} {N k : Nat} {x : Int32} {y : α} (h : ∀ j, j < N → a j = e (g j)) (hx : x = e y) : ∀ j, j < N → upd a k x j = e (gu g k y j) := by
  intro j hj
  rcases Classical.em (j = k) with z | z
  · subst z; rw [pk_us, gu_s]; exact hx
  · rw [pk_un z, gu_n z]; exact h j hj
/-- pushed at the top -/
def gc_push (c : GC) (p q : Nat) : GC := (gc_r c, gc_x c, gc_f c, gu (gc_1 c) (gc_t c) p, gu (gc_2 c) (gc_t c) q, gc_t c + 1)
theorem gc_pushA {c : GC} {w r p q : Nat} : gc_A (gc_push c w r) p q ↔ gc_A c p q ∨ (p = w ∧ q = r) := by
  constructor
  · rintro ⟨i, hi, h1, h2⟩
    rcases Nat.lt_or_ge i (gc_t c) with z | z
    · refine Or.inl ⟨i, z, ?_, ?_⟩
      · rw [← h1]; exact (gu_n (by omega)).symm
      · rw [← h2]; exact (gu_n (by omega)).symm
    · have e : i = gc_t c := by
        have : gc_t (gc_push c w r) = gc_t c + 1 := rfl
        omega
      subst e
      refine Or.inr ⟨?_, ?_⟩
      · rw [← h1]; exact gu_s
      · rw [← h2]; exact gu_s
  · rintro (⟨i, hi, h1, h2⟩ | ⟨rfl, rfl⟩)
    · exact ⟨i, Nat.lt_succ_of_lt hi, (gu_n (by omega)).trans h1, (gu_n (by omega)).trans h2⟩
    · exact ⟨gc_t c, Nat.lt_succ_self _, gu_s, gu_s⟩
theorem ge_ag {a : Nat → Int32} {g : Nat → Nat} {t p : Nat} (h : ∀ i, i < t → a i = nI (g i)) : ∀ i, i < t + 1 → upd a t (nI p) i = nI (gu g t p i) := by
  intro i hi
  rcases Classical.em (i = t) with z | z
  · subst z; rw [pk_us, gu_s]
  · rw [pk_un z, gu_n z]; exact h i (by omega)
section
variable {K T L : Nat} {Q : Nat → Nat → Prop} {c c0 cI : GC} {nx : Nat → Nat} {f_letters f_topLevel f_capacity f_level f_equations f_taken f_rules f_confluence f_agendaTop f_queueSize f_chainLength : Int32} {a_power a_first a_sizes a_buffer a_equationSide a_ruleRight a_next a_fresh a_ruleLeft a_normalForm a_agendaOne a_agendaTwo a_distance a_queue a_chainWord a_chainEquation a_chainSide a_chainPlace : Nat → Int32}
theorem gx_push (h : gx c a_ruleRight a_next a_fresh a_agendaOne a_agendaTwo f_agendaTop) (p q : Nat) : gx (gc_push c p q) a_ruleRight a_next a_fresh (upd a_agendaOne (gc_t c) (nI p)) (upd a_agendaTwo (gc_t c) (nI q)) (nI (gc_t c + 1)) :=
  ⟨h.1, h.2.1, h.2.2.1, ge_ag h.2.2.2.1, ge_ag h.2.2.2.2.1, rfl⟩
theorem xk_push (h : gx c a_ruleRight a_next a_fresh a_agendaOne a_agendaTwo f_agendaTop) (ht : gc_t c < 2048) {post : SX → Prop} {p q : Nat}
    (hp : post (f_letters, f_topLevel, f_capacity, f_level, f_equations, f_taken, f_rules, f_confluence, nI (gc_t c + 1), f_queueSize, f_chainLength, a_power, a_first, a_sizes, a_buffer, a_equationSide, a_ruleRight, a_next, a_fresh, a_ruleLeft, a_normalForm, upd a_agendaOne (gc_t c) (nI p), upd a_agendaTwo (gc_t c) (nI q), a_distance, a_queue, a_chainWord, a_chainEquation, a_chainSide, a_chainPlace)) : wpX_push post (f_letters, f_topLevel, f_capacity, f_level, f_equations, f_taken, f_rules, f_confluence, f_agendaTop, f_queueSize, f_chainLength, a_power, a_first, a_sizes, a_buffer, a_equationSide, a_ruleRight, a_next, a_fresh, a_ruleLeft, a_normalForm, a_agendaOne, a_agendaTwo, a_distance, a_queue, a_chainWord, a_chainEquation, a_chainSide, a_chainPlace) (nI p) (nI q) := by
  obtain ⟨_, _, _, _, _, e⟩ := h
  subst e
  unfold wpX_push; dsimp only
  refine br_f (nI_ge (b := 2048) ht (by decide)) ⟨vp_in_nI ht (by decide), ?_⟩
  rw [nI_clamp (by omega)]
  exact nm_e ⟨vp_in_nI ht (by decide), nm_e (nm_r (nI_1 _) hp)⟩
theorem xk_rwL (hx : ∀ w, w < 127 → a_next w = nI (nx w)) {s : Nat} (hs : s < 127) (hle : ∀ w, w ≤ s → nx w ≤ w) {post : Int32 → Prop} (hp : ∀ r, nx r = r → kb_w nx s r → post (nI r)) :
    ∀ d j w, j + d = s → w + j ≤ s → kb_w nx s w → ∀ n, d < n → wX_rewrite_4 post (nI s) f_letters f_topLevel f_capacity f_level f_equations f_taken f_rules f_confluence f_agendaTop f_queueSize f_chainLength a_power a_first a_sizes a_buffer a_equationSide a_ruleRight a_next a_fresh a_ruleLeft a_normalForm a_agendaOne a_agendaTwo a_distance a_queue a_chainWord a_chainEquation a_chainSide a_chainPlace n (nI w) (nI j) := by
  intro d
  induction d with
  | zero =>
    intro j w hj hw hr n hn
    obtain ⟨m, rfl⟩ : ∃ m, n = m + 1 := ⟨n - 1, by omega⟩
    have e : w = 0 := by omega
    subst e
    have := hle 0 (by omega)
    exact br_t (nI_le (by omega) (by omega)) (hp 0 (by omega) hr)
  | succ d ih =>
    intro j w hj hw hr n hn
    obtain ⟨m, rfl⟩ : ∃ m, n = m + 1 := ⟨n - 1, by omega⟩
    have e : a_next (nI w).toNatClampNeg = nI (nx w) := by rw [nI_clamp (by omega)]; exact hx w (by omega)
    have l := hle w (by omega)
    refine br_f (nI_ge (by omega) (by omega)) ⟨vp_in_nI (by omega) (by decide), ?_⟩
    rcases Classical.em (nx w = w) with z | z
    · exact br_t (by rw [e, z]) (hp w z hr)
    · refine br_f (by rw [e, nI_eq (by omega) (by omega)]; exact z) ⟨vp_in_nI (by omega) (by decide), nm_r e (nm_r (nI_1 j) ?_)⟩
      exact ih (j + 1) (nx w) (by omega) (by omega) (fun P h0 h1 => h1 _ (hr P h0 h1)) m (by omega)
theorem xk_rw (hx : ∀ w, w < 127 → a_next w = nI (nx w)) {s : Nat} (hs : s < 127) (hle : ∀ w, w ≤ s → nx w ≤ w) {post : Int32 → Prop} (hp : ∀ r, nx r = r → kb_w nx s r → post (nI r)) : wpX_rewrite post (f_letters, f_topLevel, f_capacity, f_level, f_equations, f_taken, f_rules, f_confluence, f_agendaTop, f_queueSize, f_chainLength, a_power, a_first, a_sizes, a_buffer, a_equationSide, a_ruleRight, a_next, a_fresh, a_ruleLeft, a_normalForm, a_agendaOne, a_agendaTwo, a_distance, a_queue, a_chainWord, a_chainEquation, a_chainSide, a_chainPlace) (nI s) := by
  unfold wpX_rewrite
  exact ⟨s + 1, xk_rwL hx hs hle hp s 0 s (by omega) (by omega) (fun _ h _ => h) (s + 1) (by omega)⟩
/-- rewriting under the invariant -/
theorem xk_rwI (hK : tb_K K T) (hL : L ≤ T) (hI : kb_I K T L Q cI) (hx : ∀ w, w < 127 → a_next w = nI (gc_x cI w)) {s : Nat} (hs : ww_n K s ≤ L) {post : Int32 → Prop}
    (hp : ∀ r, gc_x cI r = r → r ≤ s → ww_n K r ≤ L → r < 127 → rl_r K L Q s r → rw_cn K (gc_R cI) (fun z => z ≤ s) s r → post (nI r)) : wpX_rewrite post (f_letters, f_topLevel, f_capacity, f_level, f_equations, f_taken, f_rules, f_confluence, f_agendaTop, f_queueSize, f_chainLength, a_power, a_first, a_sizes, a_buffer, a_equationSide, a_ruleRight, a_next, a_fresh, a_ruleLeft, a_normalForm, a_agendaOne, a_agendaTwo, a_distance, a_queue, a_chainWord, a_chainEquation, a_chainSide, a_chainPlace) (nI s) := by
  have h2 := tb_2 hK
  refine xk_rw hx (tb_127 hK (by omega)) (fun w hw => kb_xle h2 hI (Nat.le_trans (ww_nm h2 hw) (by omega))) (fun r e hr => ?_)
  have k := kb_rch h2 hI hL hs hr
  exact hp r e k.1 k.2.1 (tb_127 hK (by omega)) k.2.2.1 k.2.2.2
theorem gx_v1 (h : gx c a_ruleRight a_next a_fresh a_agendaOne a_agendaTwo f_agendaTop) (w y : Nat) : gx (gc_v1 c w y) a_ruleRight (upd a_next w (nI y)) a_fresh a_agendaOne a_agendaTwo f_agendaTop :=
  ⟨h.1, ge_up (e := nI) h.2.1 rfl, h.2.2⟩
theorem gx_v2 (h : gx c a_ruleRight a_next a_fresh a_agendaOne a_agendaTwo f_agendaTop) (w y r : Nat) : gx (gc_v2 c w y r) (upd a_ruleRight w (-1)) (upd a_next w (nI y)) (upd a_fresh w (vp_nar .boolean 0)) (upd a_agendaOne (gc_t c) (nI w)) (upd a_agendaTwo (gc_t c) (nI r)) (nI (gc_t c + 1)) :=
  ⟨ge_up (e := ge_o) (y := none) h.1 rfl, ge_up (e := nI) h.2.1 rfl, ge_up (e := ge_b) (y := false) h.2.2.1 rfl, ge_ag h.2.2.2.1, ge_ag h.2.2.2.2.1, rfl⟩
theorem gx_ins (h : gx c a_ruleRight a_next a_fresh a_agendaOne a_agendaTwo f_agendaTop) (l r : Nat) : gx (gc_ins c l r) (upd a_ruleRight l (nI r)) a_next (upd a_fresh l (vp_nar .boolean 1)) a_agendaOne a_agendaTwo f_agendaTop :=
  ⟨ge_up (e := ge_o) (y := some r) h.1 rfl, h.2.1, ge_up (e := ge_b) (y := true) h.2.2.1 rfl, h.2.2.2.1, h.2.2.2.2.1, h.2.2.2.2.2⟩
theorem xk_rr (h : gx c a_ruleRight a_next a_fresh a_agendaOne a_agendaTwo f_agendaTop) {w : Nat} (hw : w < 127) : a_ruleRight (nI w).toNatClampNeg = ge_o (gc_r c w) := by
  rw [nI_clamp (by omega)]; exact h.1 w hw
theorem ge_n : ge_o none < 0 := by decide
theorem ge_s {r : Nat} (hr : r < 127) : ¬ ge_o (some r) < 0 := nI_pos (by omega)
end
section
variable {K T L : Nat} {Q : Nat → Nat → Prop} {c0 : GC} {l0 r0 : Nat} {f_letters f_topLevel f_capacity f_level f_equations f_taken f_rules f_confluence f_queueSize f_chainLength : Int32} {a_power a_first a_sizes a_buffer a_equationSide a_ruleLeft a_normalForm a_distance a_queue a_chainWord a_chainEquation a_chainSide a_chainPlace : Nat → Int32}
theorem xk_48 (hK : tb_K K T) (hX : tb_X K a_power a_first a_sizes) (hr : ∀ w r, gc_r c0 w = some r → r < 127) (hB : gc_t c0 + gc_nR c0 + 1 < 2048) {bf h af : Nat} (hlen : ww_n K h + ww_n K l0 + af ≤ T)
    {post : SX → Prop} {J8 : (Int32 → Int32 → Int32 → Int32 → Int32 → Int32 → Int32 → Int32 → Int32 → Int32 → Int32 → Int32 → (Nat → Int32) → (Nat → Int32) → (Nat → Int32) → (Nat → Int32) → (Nat → Int32) → (Nat → Int32) → (Nat → Int32) → (Nat → Int32) → (Nat → Int32) → (Nat → Int32) → (Nat → Int32) → (Nat → Int32) → (Nat → Int32) → (Nat → Int32) → (Nat → Int32) → (Nat → Int32) → (Nat → Int32) → (Nat → Int32) → Prop)} : ∀ d t, t + d = ww_f K (af + 1) → ww_f K af ≤ t → ∀ n, d < n →
    ∀ (c : GC) (V : Nat → Prop) (f_agendaTop : Int32) (a_ruleRight a_next a_fresh a_agendaOne a_agendaTwo : Nat → Int32), gx c a_ruleRight a_next a_fresh a_agendaOne a_agendaTwo f_agendaTop → kb_V K l0 r0 c0 V c →
    (∀ (c' : GC) (V' : Nat → Prop) (f_agendaTop : Int32) (a_ruleRight a_next a_fresh a_agendaOne a_agendaTwo : Nat → Int32), gx c' a_ruleRight a_next a_fresh a_agendaOne a_agendaTwo f_agendaTop → kb_V K l0 r0 c0 V' c' → (∀ z, V z → V' z) →
      (∀ y, ww_n K y = af → t ≤ y → V' (ww_c K h (ww_c K l0 y))) → J8 (nI (h + 1)) f_letters f_topLevel f_capacity f_level f_equations f_taken f_rules f_confluence f_agendaTop f_queueSize f_chainLength a_power a_first a_sizes a_buffer a_equationSide a_ruleRight a_next a_fresh a_ruleLeft a_normalForm a_agendaOne a_agendaTwo a_distance a_queue a_chainWord a_chainEquation a_chainSide a_chainPlace) →
    wX_redirect_48 post J8 (nI l0) (nI r0) (nI bf) (nI af) (nI h) (nI (ww_c K h l0)) (nI (ww_c K h r0)) n (nI t) f_letters f_topLevel f_capacity f_level f_equations f_taken f_rules f_confluence f_agendaTop f_queueSize f_chainLength a_power a_first a_sizes a_buffer a_equationSide a_ruleRight a_next a_fresh a_ruleLeft a_normalForm a_agendaOne a_agendaTwo a_distance a_queue a_chainWord a_chainEquation a_chainSide a_chainPlace := by
  have h2 := tb_2 hK
  have hT := tb_T hK
  intro d
  induction d with
  | zero =>
    intro t ht hf n hn c V f_agendaTop a_ruleRight a_next a_fresh a_agendaOne a_agendaTwo hg hV hc
    obtain ⟨m, rfl⟩ : ∃ m, n = m + 1 := ⟨n - 1, by omega⟩
    have e1 : a_first (nI af + 1).toNatClampNeg = nI (ww_f K (af + 1)) := by rw [nI_1]; exact xt_f hX (by omega)
    refine And.intro (by rw [nI_1]; exact vp_in_nI (by omega) (by decide)) (br_t (by rw [e1]; exact nI_le (by omega) (by have := tb_f hK (n := af + 1) (by omega); omega)) (nm_r (nI_1 h) ?_))
    refine hc c V _ _ _ _ _ _ hg hV (fun _ z => z) (fun y hy hty => ?_)
    have := ww_n2 h2 y
    rw [hy] at this; omega
  | succ d ih =>
    intro t ht hf n hn c V f_agendaTop a_ruleRight a_next a_fresh a_agendaOne a_agendaTwo hg hV hc
    obtain ⟨m, rfl⟩ : ∃ m, n = m + 1 := ⟨n - 1, by omega⟩
    have e1 : a_first (nI af + 1).toNatClampNeg = nI (ww_f K (af + 1)) := by rw [nI_1]; exact xt_f hX (by omega)
    have nt : ww_n K t = af := ww_nu h2 hf (by omega)
    have eW : nI (ww_c K h l0) * a_power (nI af).toNatClampNeg + nI t = nI (ww_c K h (ww_c K l0 t)) := by
      rw [xt_p hX (by omega), pk_mul, nI_add, ← ww_ca h2, ← nt]; rfl
    have eW2 : nI (ww_c K h r0) * a_power (nI af).toNatClampNeg + nI t = nI (ww_c K h (ww_c K r0 t)) := by
      rw [xt_p hX (by omega), pk_mul, nI_add, ← ww_ca h2, ← nt]; rfl
    have W127 : ww_c K h (ww_c K l0 t) < 127 := tb_127 hK (by rw [ww_cn h2, ww_cn h2]; omega)
    have l127 : l0 < 127 := tb_127 hK (by omega)
    have cl : (nI (ww_c K h (ww_c K l0 t))).toNatClampNeg = ww_c K h (ww_c K l0 t) := nI_clamp (by omega)
    have fin : ∀ (V' : Nat → Prop), (∀ z, V z → V' z) → V' (ww_c K h (ww_c K l0 t)) → (∀ (c'' : GC) (V'' : Nat → Prop) (f_agendaTop : Int32) (a_ruleRight a_next a_fresh a_agendaOne a_agendaTwo : Nat → Int32), gx c'' a_ruleRight a_next a_fresh a_agendaOne a_agendaTwo f_agendaTop → kb_V K l0 r0 c0 V'' c'' → (∀ z, V' z → V'' z) →
      (∀ y, ww_n K y = af → t + 1 ≤ y → V'' (ww_c K h (ww_c K l0 y))) → J8 (nI (h + 1)) f_letters f_topLevel f_capacity f_level f_equations f_taken f_rules f_confluence f_agendaTop f_queueSize f_chainLength a_power a_first a_sizes a_buffer a_equationSide a_ruleRight a_next a_fresh a_ruleLeft a_normalForm a_agendaOne a_agendaTwo a_distance a_queue a_chainWord a_chainEquation a_chainSide a_chainPlace) := by
      intro V' v1 v2 c'' V'' f_agendaTop a_ruleRight a_next a_fresh a_agendaOne a_agendaTwo g1 g2 g3 g4
      refine hc c'' V'' _ _ _ _ _ _ g1 g2 (fun z hz => g3 z (v1 z hz)) (fun y hy hty => ?_)
      rcases Nat.lt_or_ge t y with q | q
      · exact g4 y hy q
      · have : y = t := by omega
        rw [this]; exact g3 _ v2
    refine And.intro (by rw [nI_1]; exact vp_in_nI (by omega) (by decide)) (br_f (by rw [e1]; exact nI_ge (by omega) (tb_f hK (by omega))) ⟨vp_in_nI (by omega) (by decide), nm_r eW ?_⟩)
    have fin1 : (ww_c K h (ww_c K l0 t) ≠ l0 → gc_r c (ww_c K h (ww_c K l0 t)) = none) → wX_redirect_122 post J8 (wX_redirect_48 post J8 (nI l0) (nI r0) (nI bf) (nI af) (nI h) (nI (ww_c K h l0)) (nI (ww_c K h r0)) m) (nI l0) (nI r0) (nI bf) (nI af) (nI h) (nI (ww_c K h l0)) (nI (ww_c K h r0)) (nI t) (nI (ww_c K h (ww_c K l0 t))) f_letters f_topLevel f_capacity f_level f_equations f_taken f_rules f_confluence f_agendaTop f_queueSize f_chainLength a_power a_first a_sizes a_buffer a_equationSide a_ruleRight a_next a_fresh a_ruleLeft a_normalForm a_agendaOne a_agendaTwo a_distance a_queue a_chainWord a_chainEquation a_chainSide a_chainPlace := by
      intro hn
      unfold wX_redirect_122
      rw [eW2, cl]
      exact ⟨vp_in_nI (by omega) (by decide), vp_in_nI W127 (by decide), nm_e (nm_r (nI_1 t) (ih (t + 1) (by omega) (by omega) m (by omega) _ _ _ _ _ _ _ _ (gx_v1 hg _ _) (kb_V1 hV rfl hn) (fin _ (fun _ z => Or.inl z) (Or.inr rfl))))⟩
    refine pk_eq (ww_c K h (ww_c K l0 t)) l0 (fun e => fin1 (fun ne => absurd e ne)) (fun ne => ⟨vp_in_nI W127 (by decide), ?_⟩)
    have er := xk_rr hg W127
    rcases Option.eq_none_or_eq_some (gc_r c (ww_c K h (ww_c K l0 t))) with z | ⟨r, z⟩
    · exact br_t (by rw [er, z]; exact ge_n) (fin1 (fun _ => z))
    · have hV' := hV
      obtain ⟨_, _, ⟨_, k4, k5⟩, _, _, _, _, k12, _⟩ := hV'
      have nv : ¬ V (ww_c K h (ww_c K l0 t)) := fun q => by
        have := k4 _ ne q
        rw [z] at this; cases this
      have r127 : r < 127 := hr _ r ((k5 _ ne nv).symm.trans z)
      refine br_f (by rw [er, z]; exact ge_s r127) ⟨vp_in_nI W127 (by decide), ?_⟩
      have er2 : a_ruleRight (nI (ww_c K h (ww_c K l0 t))).toNatClampNeg = nI r := by rw [er, z]; rfl
      rw [er2]
      refine xk_push hg (by omega) ?_
      dsimp only
      rw [cl]
      refine ⟨vp_in_nI W127 (by decide), nm_e ⟨vp_in_nI W127 (by decide), nm_e ?_⟩⟩
      unfold wX_redirect_122
      rw [eW2, cl]
      exact ⟨vp_in_nI (by omega) (by decide), vp_in_nI W127 (by decide), nm_e (nm_r (nI_1 t) (ih (t + 1) (by omega) (by omega) m (by omega) _ _ _ _ _ _ _ _ (gx_v2 hg _ _ _) (kb_V2 hV rfl ne z W127) (fin _ (fun _ z => Or.inl z) (Or.inr rfl))))⟩
theorem xk_8 (hK : tb_K K T) (hX : tb_X K a_power a_first a_sizes) (hr : ∀ w r, gc_r c0 w = some r → r < 127) (hB : gc_t c0 + gc_nR c0 + 1 < 2048) (hrl : r0 < l0) {bf af : Nat} (hlen : bf + ww_n K l0 + af ≤ T)
    {post : SX → Prop} : ∀ d h, h + d = ww_f K (bf + 1) → ww_f K bf ≤ h → ∀ n, d < n →
    ∀ (c : GC) (V : Nat → Prop) (f_agendaTop : Int32) (a_ruleRight a_next a_fresh a_agendaOne a_agendaTwo : Nat → Int32), gx c a_ruleRight a_next a_fresh a_agendaOne a_agendaTwo f_agendaTop → kb_V K l0 r0 c0 V c →
    (∀ (c' : GC) (V' : Nat → Prop) (f_agendaTop : Int32) (a_ruleRight a_next a_fresh a_agendaOne a_agendaTwo : Nat → Int32), gx c' a_ruleRight a_next a_fresh a_agendaOne a_agendaTwo f_agendaTop → kb_V K l0 r0 c0 V' c' → (∀ z, V z → V' z) →
      (∀ x y, ww_n K x = bf → h ≤ x → ww_n K y = af → V' (ww_c K x (ww_c K l0 y))) → post (f_letters, f_topLevel, f_capacity, f_level, f_equations, f_taken, f_rules, f_confluence, f_agendaTop, f_queueSize, f_chainLength, a_power, a_first, a_sizes, a_buffer, a_equationSide, a_ruleRight, a_next, a_fresh, a_ruleLeft, a_normalForm, a_agendaOne, a_agendaTwo, a_distance, a_queue, a_chainWord, a_chainEquation, a_chainSide, a_chainPlace)) →
    wX_redirect_8 post (nI l0) (nI r0) (nI bf) (nI af) n (nI h) f_letters f_topLevel f_capacity f_level f_equations f_taken f_rules f_confluence f_agendaTop f_queueSize f_chainLength a_power a_first a_sizes a_buffer a_equationSide a_ruleRight a_next a_fresh a_ruleLeft a_normalForm a_agendaOne a_agendaTwo a_distance a_queue a_chainWord a_chainEquation a_chainSide a_chainPlace := by
  have h2 := tb_2 hK
  have hT := tb_T hK
  have l127 : l0 < 127 := tb_127 hK (by omega)
  intro d
  induction d with
  | zero =>
    intro h hh hf n hn c V f_agendaTop a_ruleRight a_next a_fresh a_agendaOne a_agendaTwo hg hV hc
    obtain ⟨m, rfl⟩ : ∃ m, n = m + 1 := ⟨n - 1, by omega⟩
    have e1 : a_first (nI bf + 1).toNatClampNeg = nI (ww_f K (bf + 1)) := by rw [nI_1]; exact xt_f hX (by omega)
    refine And.intro (by rw [nI_1]; exact vp_in_nI (by omega) (by decide)) (br_t (by rw [e1]; exact nI_le (by omega) (by have := tb_f hK (n := bf + 1) (by omega); omega)) ?_)
    refine hc c V _ _ _ _ _ _ hg hV (fun _ z => z) (fun x y hx hhx _ => ?_)
    have := ww_n2 h2 x
    rw [hx] at this; omega
  | succ d ih =>
    intro h hh hf n hn c V f_agendaTop a_ruleRight a_next a_fresh a_agendaOne a_agendaTwo hg hV hc
    obtain ⟨m, rfl⟩ : ∃ m, n = m + 1 := ⟨n - 1, by omega⟩
    have e1 : a_first (nI bf + 1).toNatClampNeg = nI (ww_f K (bf + 1)) := by rw [nI_1]; exact xt_f hX (by omega)
    have nh : ww_n K h = bf := ww_nu h2 hf (by omega)
    refine And.intro (by rw [nI_1]; exact vp_in_nI (by omega) (by decide)) (br_f (by rw [e1]; exact nI_ge (by omega) (tb_f hK (by omega))) ?_)
    refine xl_join hK hX (tb_big hK l127) (xl_join hK hX (tb_big hK (by omega)) ⟨vp_in_nI (by omega) (by decide), nm_r (xt_f hX (n := af) (by omega)) ⟨K ^ af + 1, ?_⟩⟩)
    refine xk_48 hK hX hr hB (by omega) (K ^ af) _ (ww_f1 K af).symm (Nat.le_refl _) _ (Nat.lt_succ_self _) c V _ _ _ _ _ _ hg hV ?_
    intro c' V' f_agendaTop a_ruleRight a_next a_fresh a_agendaOne a_agendaTwo g1 g2 g3 g4
    refine ih (h + 1) (by omega) (by omega) m (by omega) c' V' _ _ _ _ _ _ g1 g2 ?_
    intro c'' V'' f_agendaTop a_ruleRight a_next a_fresh a_agendaOne a_agendaTwo k1 k2 k3 k4
    refine hc c'' V'' _ _ _ _ _ _ k1 k2 (fun z hz => k3 z (g3 z hz)) (fun x y hx hhx hy => ?_)
    rcases Nat.lt_or_ge h x with q | q
    · exact k4 x y hx q hy
    · have : x = h := by omega
      rw [this]
      refine k3 _ (g4 y hy ?_)
      have := ww_n1 h2 y
      rw [hy] at this; exact this
theorem xk_red (hK : tb_K K T) (hX : tb_X K a_power a_first a_sizes) (hr : ∀ w r, gc_r c0 w = some r → r < 127) (hB : gc_t c0 + gc_nR c0 + 1 < 2048) (hrl : r0 < l0) {bf af : Nat} (hlen : bf + ww_n K l0 + af ≤ T)
    {post : SX → Prop} (c : GC) (V : Nat → Prop) (f_agendaTop : Int32) (a_ruleRight a_next a_fresh a_agendaOne a_agendaTwo : Nat → Int32) (hg : gx c a_ruleRight a_next a_fresh a_agendaOne a_agendaTwo f_agendaTop) (hV : kb_V K l0 r0 c0 V c)
    (hc : ∀ (c' : GC) (V' : Nat → Prop) (f_agendaTop : Int32) (a_ruleRight a_next a_fresh a_agendaOne a_agendaTwo : Nat → Int32), gx c' a_ruleRight a_next a_fresh a_agendaOne a_agendaTwo f_agendaTop → kb_V K l0 r0 c0 V' c' → (∀ z, V z → V' z) →
      (∀ x y, ww_n K x = bf → ww_n K y = af → V' (ww_c K x (ww_c K l0 y))) → post (f_letters, f_topLevel, f_capacity, f_level, f_equations, f_taken, f_rules, f_confluence, f_agendaTop, f_queueSize, f_chainLength, a_power, a_first, a_sizes, a_buffer, a_equationSide, a_ruleRight, a_next, a_fresh, a_ruleLeft, a_normalForm, a_agendaOne, a_agendaTwo, a_distance, a_queue, a_chainWord, a_chainEquation, a_chainSide, a_chainPlace)) :
    wpX_redirect post (f_letters, f_topLevel, f_capacity, f_level, f_equations, f_taken, f_rules, f_confluence, f_agendaTop, f_queueSize, f_chainLength, a_power, a_first, a_sizes, a_buffer, a_equationSide, a_ruleRight, a_next, a_fresh, a_ruleLeft, a_normalForm, a_agendaOne, a_agendaTwo, a_distance, a_queue, a_chainWord, a_chainEquation, a_chainSide, a_chainPlace) (nI l0) (nI r0) (nI bf) (nI af) := by
  have h2 := tb_2 hK
  have hT := tb_T hK
  unfold wpX_redirect
  refine ⟨vp_in_nI (by omega) (by decide), nm_r (xt_f hX (n := bf) (by omega)) ⟨K ^ bf + 1, ?_⟩⟩
  refine xk_8 hK hX hr hB hrl hlen (K ^ bf) _ (ww_f1 K bf).symm (Nat.le_refl _) _ (Nat.lt_succ_self _) c V _ _ _ _ _ _ hg hV ?_
  intro c' V' f_agendaTop a_ruleRight a_next a_fresh a_agendaOne a_agendaTwo g1 g2 g3 g4
  refine hc c' V' _ _ _ _ _ _ g1 g2 g3 (fun x y hx hy => g4 x y hx ?_ hy)
  have := ww_n1 h2 x
  rw [hx] at this; exact this
theorem xk_37 (hK : tb_K K T) (hX : tb_X K a_power a_first a_sizes) (hr : ∀ w r, gc_r c0 w = some r → r < 127) (hB : gc_t c0 + gc_nR c0 + 1 < 2048) (hrl : r0 < l0) {bf rm : Nat} (hrm : rm + ww_n K l0 = T) (hbf : bf ≤ rm)
    {post : SX → Prop} {J28 : (Int32 → Int32 → Int32 → Int32 → Int32 → Int32 → Int32 → Int32 → Int32 → Int32 → Int32 → Int32 → (Nat → Int32) → (Nat → Int32) → (Nat → Int32) → (Nat → Int32) → (Nat → Int32) → (Nat → Int32) → (Nat → Int32) → (Nat → Int32) → (Nat → Int32) → (Nat → Int32) → (Nat → Int32) → (Nat → Int32) → (Nat → Int32) → (Nat → Int32) → (Nat → Int32) → (Nat → Int32) → (Nat → Int32) → (Nat → Int32) → Prop)} : ∀ d af, af + d = rm - bf + 1 → ∀ n, d < n →
    ∀ (c : GC) (V : Nat → Prop) (f_agendaTop : Int32) (a_ruleRight a_next a_fresh a_agendaOne a_agendaTwo : Nat → Int32), gx c a_ruleRight a_next a_fresh a_agendaOne a_agendaTwo f_agendaTop → kb_V K l0 r0 c0 V c →
    (∀ (c' : GC) (V' : Nat → Prop) (f_agendaTop : Int32) (a_ruleRight a_next a_fresh a_agendaOne a_agendaTwo : Nat → Int32), gx c' a_ruleRight a_next a_fresh a_agendaOne a_agendaTwo f_agendaTop → kb_V K l0 r0 c0 V' c' → (∀ z, V z → V' z) →
      (∀ x y, ww_n K x = bf → af ≤ ww_n K y → ww_n K y ≤ rm - bf → V' (ww_c K x (ww_c K l0 y))) → J28 (nI (bf + 1)) f_letters f_topLevel f_capacity f_level f_equations f_taken f_rules f_confluence f_agendaTop f_queueSize f_chainLength a_power a_first a_sizes a_buffer a_equationSide a_ruleRight a_next a_fresh a_ruleLeft a_normalForm a_agendaOne a_agendaTwo a_distance a_queue a_chainWord a_chainEquation a_chainSide a_chainPlace) →
    wX_install_37 post J28 (nI l0) (nI r0) (nI rm) (nI bf) n (nI af) f_letters f_topLevel f_capacity f_level f_equations f_taken f_rules f_confluence f_agendaTop f_queueSize f_chainLength a_power a_first a_sizes a_buffer a_equationSide a_ruleRight a_next a_fresh a_ruleLeft a_normalForm a_agendaOne a_agendaTwo a_distance a_queue a_chainWord a_chainEquation a_chainSide a_chainPlace := by
  have h2 := tb_2 hK
  have hT := tb_T hK
  have es : nI rm - nI bf = nI (rm - bf) := pk_sub hbf
  intro d
  induction d with
  | zero =>
    intro af ha n hn c V f_agendaTop a_ruleRight a_next a_fresh a_agendaOne a_agendaTwo hg hV hc
    obtain ⟨m, rfl⟩ : ∃ m, n = m + 1 := ⟨n - 1, by omega⟩
    refine br_t (by rw [es]; exact nI_lt (by omega) (by omega)) (nm_r (nI_1 bf) ?_)
    exact hc c V _ _ _ _ _ _ hg hV (fun _ z => z) (fun x y hx h3 h4 => by omega)
  | succ d ih =>
    intro af ha n hn c V f_agendaTop a_ruleRight a_next a_fresh a_agendaOne a_agendaTwo hg hV hc
    obtain ⟨m, rfl⟩ : ∃ m, n = m + 1 := ⟨n - 1, by omega⟩
    refine br_f (by rw [es]; exact nI_nlt (by omega) (by omega)) ?_
    refine xk_red hK hX hr hB hrl (bf := bf) (af := af) (by omega) c V _ _ _ _ _ _ hg hV ?_
    intro c' V' f_agendaTop a_ruleRight a_next a_fresh a_agendaOne a_agendaTwo g1 g2 g3 g4
    refine nm_r (nI_1 af) (ih (af + 1) (by omega) m (by omega) c' V' _ _ _ _ _ _ g1 g2 ?_)
    intro c'' V'' f_agendaTop a_ruleRight a_next a_fresh a_agendaOne a_agendaTwo k1 k2 k3 k4
    refine hc c'' V'' _ _ _ _ _ _ k1 k2 (fun z hz => k3 z (g3 z hz)) (fun x y hx hy hy2 => ?_)
    rcases Nat.lt_or_ge af (ww_n K y) with q | q
    · exact k4 x y hx q hy2
    · exact k3 _ (g4 x y hx (by omega))
theorem xk_28 (hK : tb_K K T) (hX : tb_X K a_power a_first a_sizes) (hr : ∀ w r, gc_r c0 w = some r → r < 127) (hB : gc_t c0 + gc_nR c0 + 1 < 2048) (hrl : r0 < l0) {rm : Nat} (hrm : rm + ww_n K l0 = T)
    {post : SX → Prop} : ∀ d bf, bf + d = rm + 1 → ∀ n, d < n →
    ∀ (c : GC) (V : Nat → Prop) (f_agendaTop : Int32) (a_ruleRight a_next a_fresh a_agendaOne a_agendaTwo : Nat → Int32), gx c a_ruleRight a_next a_fresh a_agendaOne a_agendaTwo f_agendaTop → kb_V K l0 r0 c0 V c →
    (∀ (c' : GC) (V' : Nat → Prop) (f_agendaTop : Int32) (a_ruleRight a_next a_fresh a_agendaOne a_agendaTwo : Nat → Int32), gx c' a_ruleRight a_next a_fresh a_agendaOne a_agendaTwo f_agendaTop → kb_V K l0 r0 c0 V' c' → (∀ z, V z → V' z) →
      (∀ x y, bf ≤ ww_n K x → ww_n K x + ww_n K y ≤ rm → V' (ww_c K x (ww_c K l0 y))) → post (f_letters, f_topLevel, f_capacity, f_level, f_equations, f_taken, f_rules, f_confluence, f_agendaTop, f_queueSize, f_chainLength, a_power, a_first, a_sizes, a_buffer, a_equationSide, a_ruleRight, a_next, a_fresh, a_ruleLeft, a_normalForm, a_agendaOne, a_agendaTwo, a_distance, a_queue, a_chainWord, a_chainEquation, a_chainSide, a_chainPlace)) →
    wX_install_28 post (nI l0) (nI r0) (nI rm) n (nI bf) f_letters f_topLevel f_capacity f_level f_equations f_taken f_rules f_confluence f_agendaTop f_queueSize f_chainLength a_power a_first a_sizes a_buffer a_equationSide a_ruleRight a_next a_fresh a_ruleLeft a_normalForm a_agendaOne a_agendaTwo a_distance a_queue a_chainWord a_chainEquation a_chainSide a_chainPlace := by
  have h2 := tb_2 hK
  have hT := tb_T hK
  intro d
  induction d with
  | zero =>
    intro bf ha n hn c V f_agendaTop a_ruleRight a_next a_fresh a_agendaOne a_agendaTwo hg hV hc
    obtain ⟨m, rfl⟩ : ∃ m, n = m + 1 := ⟨n - 1, by omega⟩
    refine br_t (nI_lt (by omega) (by omega)) ?_
    exact hc c V _ _ _ _ _ _ hg hV (fun _ z => z) (fun x y h3 h4 => by omega)
  | succ d ih =>
    intro bf ha n hn c V f_agendaTop a_ruleRight a_next a_fresh a_agendaOne a_agendaTwo hg hV hc
    obtain ⟨m, rfl⟩ : ∃ m, n = m + 1 := ⟨n - 1, by omega⟩
    refine br_f (nI_nlt (by omega) (by omega)) ⟨rm - bf + 2, ?_⟩
    refine xk_37 hK hX hr hB hrl hrm (by omega) (rm - bf + 1) 0 (by omega) _ (by omega) c V _ _ _ _ _ _ hg hV ?_
    intro c' V' f_agendaTop a_ruleRight a_next a_fresh a_agendaOne a_agendaTwo g1 g2 g3 g4
    refine ih (bf + 1) (by omega) m (by omega) c' V' _ _ _ _ _ _ g1 g2 ?_
    intro c'' V'' f_agendaTop a_ruleRight a_next a_fresh a_agendaOne a_agendaTwo k1 k2 k3 k4
    refine hc c'' V'' _ _ _ _ _ _ k1 k2 (fun z hz => k3 z (g3 z hz)) (fun x y hx hy => ?_)
    rcases Nat.lt_or_ge bf (ww_n K x) with q | q
    · exact k4 x y q hy
    · exact k3 _ (g4 x y (by omega) (by omega) (by omega))
theorem xk_inst (hK : tb_K K T) (hX : tb_X K a_power a_first a_sizes) (hr : ∀ w r, gc_r c0 w = some r → r < 127) (hB : gc_t c0 + gc_nR c0 + 1 < 2048) (hrl : r0 < l0) (hl : ww_n K l0 ≤ T)
    {post : SX → Prop} {f_agendaTop : Int32} {a_ruleRight a_next a_fresh a_agendaOne a_agendaTwo : Nat → Int32} (hg : gx c0 a_ruleRight a_next a_fresh a_agendaOne a_agendaTwo f_agendaTop)
    (hc : ∀ (c' : GC) (V' : Nat → Prop) (f_agendaTop : Int32) (a_ruleRight a_next a_fresh a_agendaOne a_agendaTwo : Nat → Int32), gx c' a_ruleRight a_next a_fresh a_agendaOne a_agendaTwo f_agendaTop → kb_V K l0 r0 c0 V' c' →
      (∀ a b, ww_n K (ww_c K a (ww_c K l0 b)) ≤ T → V' (ww_c K a (ww_c K l0 b))) → post (f_letters, nI T, f_capacity, f_level, f_equations, f_taken, f_rules, f_confluence, f_agendaTop, f_queueSize, f_chainLength, a_power, a_first, a_sizes, a_buffer, a_equationSide, a_ruleRight, a_next, a_fresh, a_ruleLeft, a_normalForm, a_agendaOne, a_agendaTwo, a_distance, a_queue, a_chainWord, a_chainEquation, a_chainSide, a_chainPlace)) :
    wpX_install post (f_letters, nI T, f_capacity, f_level, f_equations, f_taken, f_rules, f_confluence, f_agendaTop, f_queueSize, f_chainLength, a_power, a_first, a_sizes, a_buffer, a_equationSide, a_ruleRight, a_next, a_fresh, a_ruleLeft, a_normalForm, a_agendaOne, a_agendaTwo, a_distance, a_queue, a_chainWord, a_chainEquation, a_chainSide, a_chainPlace) (nI l0) (nI r0) := by
  have h2 := tb_2 hK
  have hT := tb_T hK
  have l127 : l0 < 127 := tb_127 hK hl
  unfold wpX_install; dsimp only
  rw [nI_clamp (by omega)]
  refine ⟨vp_in_nI l127 (by decide), nm_e ⟨vp_in_nI l127 (by decide), nm_e ?_⟩⟩
  refine xl_len hK hX (tb_big hK l127) (nm_r (pk_sub (b := ww_n K l0) hl) ⟨T + 2, ?_⟩)
  refine xk_28 hK hX hr hB hrl (rm := T - ww_n K l0) (by omega) (T - ww_n K l0 + 1) 0 (by omega) _ (by omega) _ _ _ _ _ _ _ _ (gx_ins hg l0 r0) kb_V0 ?_
  intro c' V' f_agendaTop a_ruleRight a_next a_fresh a_agendaOne a_agendaTwo g1 g2 g3 g4
  refine hc c' V' _ _ _ _ _ _ g1 g2 (fun a b hab => g4 a b (Nat.zero_le _) ?_)
  rw [ww_cn h2, ww_cn h2] at hab; omega
end
end
section
/-! The component's completion: draining, overlaps, the rounds. -/
section
variable {K T L : Nat} {Q : Nat → Nat → Prop} {f_letters f_topLevel f_capacity f_level f_equations f_taken f_rules f_confluence f_queueSize f_chainLength : Int32} {a_power a_first a_sizes a_buffer a_equationSide a_ruleLeft a_normalForm a_distance a_queue a_chainWord a_chainEquation a_chainSide a_chainPlace : Nat → Int32}
theorem kb_r127 {c : GC} (hK : tb_K K T) (hL : L ≤ T) (h : kb_I K T L Q c) : ∀ w r, gc_r c w = some r → r < 127 := by
  intro w r e
  have d := h.1 w r e
  have := tb_127 hK (show ww_n K w ≤ T by omega)
  omega
theorem gx_pop {c : GC} {a_ruleRight a_next a_fresh a_agendaOne a_agendaTwo : Nat → Int32} {f_agendaTop : Int32} (h : gx c a_ruleRight a_next a_fresh a_agendaOne a_agendaTwo f_agendaTop) : gx (gc_pop c) a_ruleRight a_next a_fresh a_agendaOne a_agendaTwo (nI (gc_t c - 1)) :=
  ⟨h.1, h.2.1, h.2.2.1, fun i hi => h.2.2.2.1 i (Nat.lt_of_lt_of_le hi (Nat.sub_le _ _)), fun i hi => h.2.2.2.2.1 i (Nat.lt_of_lt_of_le hi (Nat.sub_le _ _)), rfl⟩
theorem kb_popw {c : GC} {p q p' q' : Nat} (h1 : rw_cn K (gc_R c) (fun z => z ≤ p) p p') (h2 : rw_cn K (gc_R c) (fun z => z ≤ q) q q') {E : Nat → Nat → Prop} (hE : ∀ x y, gc_R c x y → E x y) (hm : rw_cn K E (fun z => z ≤ p ∨ z ≤ q) p' q') : rw_cn K E (fun z => z ≤ p ∨ z ≤ q) p q :=
  rw_tr (rw_mo hE (fun _ e => Or.inl e) h1) (rw_tr hm (rw_sy (rw_mo hE (fun _ e => Or.inr e) h2)))
/-- one turn of the drain that installs -/
theorem kb_inst {c c' : GC} (hK : tb_K K T) (hL : L ≤ T) (h : kb_I K T L Q c) (ht : 0 < gc_t c) {l0 r0 : Nat} {V : Nat → Prop}
    (hi : gc_x c l0 = l0) (hlt : r0 < l0) (hl : ww_n K l0 ≤ L) (hq : rl_r K L Q l0 r0)
    (hp : rw_cn K (fun x y => gc_R c x y ∨ (x = l0 ∧ y = r0)) (fun z => z ≤ gc_1 c (gc_t c - 1) ∨ z ≤ gc_2 c (gc_t c - 1)) (gc_1 c (gc_t c - 1)) (gc_2 c (gc_t c - 1)))
    (hV : kb_V K l0 r0 (gc_pop c) V c') (hVz : ∀ a b, ww_n K (ww_c K a (ww_c K l0 b)) ≤ T → V (ww_c K a (ww_c K l0 b))) :
    kb_I K T L Q c' ∧ gc_t c' + gc_nR c' + gc_nI c' < gc_t c + gc_nR c + gc_nI c ∧ gc_nF c' + gc_nI c' ≤ gc_nF c + gc_nI c :=
  kb_Vz (tb_2 hK) hL h hi hlt hl hq hp hV hVz (tb_127 hK (by omega)) ht
theorem xk_dr (hK : tb_K K T) (hX : tb_X K a_power a_first a_sizes) (hL : L ≤ T) {post : SX → Prop} : ∀ d j, j + d = 2048 → ∀ n, d < n →
    ∀ (c : GC) (f_agendaTop : Int32) (a_ruleRight a_next a_fresh a_agendaOne a_agendaTwo : Nat → Int32), gx c a_ruleRight a_next a_fresh a_agendaOne a_agendaTwo f_agendaTop → kb_I K T L Q c → gc_t c + gc_nR c + gc_nI c ≤ d →
    (∀ (c' : GC) (f_agendaTop : Int32) (a_ruleRight a_next a_fresh a_agendaOne a_agendaTwo : Nat → Int32), gx c' a_ruleRight a_next a_fresh a_agendaOne a_agendaTwo f_agendaTop → kb_I K T L Q c' → gc_t c' = 0 → gc_nF c' + gc_nI c' ≤ gc_nF c + gc_nI c → post (f_letters, nI T, f_capacity, f_level, f_equations, f_taken, f_rules, f_confluence, f_agendaTop, f_queueSize, f_chainLength, a_power, a_first, a_sizes, a_buffer, a_equationSide, a_ruleRight, a_next, a_fresh, a_ruleLeft, a_normalForm, a_agendaOne, a_agendaTwo, a_distance, a_queue, a_chainWord, a_chainEquation, a_chainSide, a_chainPlace)) →
    wX_drainAgenda_2 post n (nI j) f_letters (nI T) f_capacity f_level f_equations f_taken f_rules f_confluence f_agendaTop f_queueSize f_chainLength a_power a_first a_sizes a_buffer a_equationSide a_ruleRight a_next a_fresh a_ruleLeft a_normalForm a_agendaOne a_agendaTwo a_distance a_queue a_chainWord a_chainEquation a_chainSide a_chainPlace := by
  have h2 := tb_2 hK
  intro d
  induction d with
  | zero =>
    intro j hj n hn c f_agendaTop a_ruleRight a_next a_fresh a_agendaOne a_agendaTwo hg hI hB hc
    obtain ⟨m, rfl⟩ : ∃ m, n = m + 1 := ⟨n - 1, by omega⟩
    exact br_t (nI_le (a := 2048) (by omega) (by omega)) (hc c _ _ _ _ _ _ hg hI (by omega) (Nat.le_refl _))
  | succ d ih =>
    intro j hj n hn c f_agendaTop a_ruleRight a_next a_fresh a_agendaOne a_agendaTwo hg hI hB hc
    obtain ⟨m, rfl⟩ : ∃ m, n = m + 1 := ⟨n - 1, by omega⟩
    have et := hg.2.2.2.2.2
    subst et
    refine br_f (nI_ge (b := 2048) (by omega) (by decide)) ?_
    rcases Nat.eq_zero_or_pos (gc_t c) with z | z
    · exact br_t (by rw [z]; decide) (hc c _ _ _ _ _ _ hg hI z (Nat.le_refl _))
    · have e1 : nI (gc_t c) - 1 = nI (gc_t c - 1) := pk_sub (b := 1) z
      have hA := hI.2.2.2.1 _ _ ⟨gc_t c - 1, by omega, rfl, rfl⟩
      have p1 : a_agendaOne (nI (gc_t c - 1)).toNatClampNeg = nI (gc_1 c (gc_t c - 1)) := by rw [nI_clamp (by omega)]; exact hg.2.2.2.1 _ (by omega)
      have p2 : a_agendaTwo (nI (gc_t c - 1)).toNatClampNeg = nI (gc_2 c (gc_t c - 1)) := by rw [nI_clamp (by omega)]; exact hg.2.2.2.2.1 _ (by omega)
      refine br_f (nI_nle z (by omega)) (nm_r e1 ⟨vp_in_nI (by omega) (by decide), ?_⟩)
      rw [p1]
      refine xk_rwI hK hL hI hg.2.1 hA.1 (fun p' x1 x2 x3 x4 x5 x6 => ⟨vp_in_nI (by omega) (by decide), ?_⟩)
      rw [p2]
      refine xk_rwI hK hL hI hg.2.1 hA.2.1 (fun q' y1 y2 y3 y4 y5 y6 => ?_)
      have hgp := gx_pop hg
      have rel : rl_r K L Q p' q' := rl_tr (rl_sy x5) (rl_tr hA.2.2 y5)
      have ins : ∀ l0 r0, gc_x c l0 = l0 → r0 < l0 → ww_n K l0 ≤ L → rl_r K L Q l0 r0 →
          rw_cn K (fun x y => gc_R c x y ∨ (x = l0 ∧ y = r0)) (fun z => z ≤ gc_1 c (gc_t c - 1) ∨ z ≤ gc_2 c (gc_t c - 1)) (gc_1 c (gc_t c - 1)) (gc_2 c (gc_t c - 1)) →
          wpX_install (fun u => match u with | (f_letters, f_topLevel, f_capacity, f_level, f_equations, f_taken, f_rules, f_confluence, f_agendaTop, f_queueSize, f_chainLength, a_power, a_first, a_sizes, a_buffer, a_equationSide, a_ruleRight, a_next, a_fresh, a_ruleLeft, a_normalForm, a_agendaOne, a_agendaTwo, a_distance, a_queue, a_chainWord, a_chainEquation, a_chainSide, a_chainPlace) => (∀ x1_99 : Int32, x1_99 = nI j + 1 → (wX_drainAgenda_2 post m x1_99 f_letters f_topLevel f_capacity f_level f_equations f_taken f_rules f_confluence f_agendaTop f_queueSize f_chainLength a_power a_first a_sizes a_buffer a_equationSide a_ruleRight a_next a_fresh a_ruleLeft a_normalForm a_agendaOne a_agendaTwo a_distance a_queue a_chainWord a_chainEquation a_chainSide a_chainPlace))) (f_letters, nI T, f_capacity, f_level, f_equations, f_taken, f_rules, f_confluence, nI (gc_t c - 1), f_queueSize, f_chainLength, a_power, a_first, a_sizes, a_buffer, a_equationSide, a_ruleRight, a_next, a_fresh, a_ruleLeft, a_normalForm, a_agendaOne, a_agendaTwo, a_distance, a_queue, a_chainWord, a_chainEquation, a_chainSide, a_chainPlace) (nI l0) (nI r0) := by
        intro l0 r0 i1 i2 i3 i4 i5
        have l127 : l0 < 127 := tb_127 hK (by omega)
        have hpos : 0 < gc_nI c := cq_pos (P := fun w => gc_x c w = w) (a := l0) i1 l127
        refine xk_inst (c0 := gc_pop c) hK hX (kb_r127 (c := c) hK hL hI) ?_ i2 (by omega) hgp ?_
        · show gc_t c - 1 + gc_nR c + 1 < 2048
          omega
        intro c' V' f_agendaTop a_ruleRight a_next a_fresh a_agendaOne a_agendaTwo g1 g2 g3
        have kk := kb_inst hK hL hI z i1 i2 i3 i4 i5 g2 g3
        refine nm_r (nI_1 j) (ih (j + 1) (by omega) m (by omega) c' _ _ _ _ _ _ g1 kk.1 (by omega) ?_)
        intro c'' f_agendaTop a_ruleRight a_next a_fresh a_agendaOne a_agendaTwo k1 k2 k3 k4
        exact hc c'' _ _ _ _ _ _ k1 k2 k3 (by omega)
      refine pk_le p' q' (fun le => pk_le q' p' (fun le2 => ?_) (fun lt2 => ?_)) (fun lt => ?_)
      · have e : p' = q' := Nat.le_antisymm le le2
        have hI' := kb_pop h2 hI (kb_popw x6 y6 (fun _ _ e => e) (rw_eq e))
        refine nm_r (nI_1 j) (ih (j + 1) (by omega) m (by omega) (gc_pop c) _ _ _ _ _ _ hgp hI' ?_ ?_)
        · show gc_t c - 1 + gc_nR c + gc_nI c ≤ d
          omega
        intro c'' f_agendaTop a_ruleRight a_next a_fresh a_agendaOne a_agendaTwo k1 k2 k3 k4
        exact hc c'' _ _ _ _ _ _ k1 k2 k3 k4
      · exact ins q' p' y1 lt2 y3 (rl_sy rel) (kb_popw x6 y6 (fun _ _ e => Or.inl e) (rw_sy (rw_e1 (Or.inr ⟨rfl, rfl⟩) (Or.inr y2) (Or.inl x2))))
      · exact ins p' q' x1 lt x3 rel (kb_popw x6 y6 (fun _ _ e => Or.inl e) (rw_e1 (Or.inr ⟨rfl, rfl⟩) (Or.inl x2) (Or.inr y2)))
theorem xk_ffL {c : GC} {f_agendaTop : Int32} {a_ruleRight a_next a_fresh a_agendaOne a_agendaTwo : Nat → Int32} (hf : ∀ w, w < 127 → a_fresh w = ge_b (gc_f c w)) {post : Int32 → Prop} (h1 : ∀ f, f < 127 → gc_f c f = true → post (nI f)) (h0 : (∀ w, w < 127 → gc_f c w = false) → post (-1)) :
    ∀ d j, j + d = 127 → (∀ w, w < j → gc_f c w = false) → ∀ n, d < n → wX_firstFresh_2 post f_letters f_topLevel f_capacity f_level f_equations f_taken f_rules f_confluence f_agendaTop f_queueSize f_chainLength a_power a_first a_sizes a_buffer a_equationSide a_ruleRight a_next a_fresh a_ruleLeft a_normalForm a_agendaOne a_agendaTwo a_distance a_queue a_chainWord a_chainEquation a_chainSide a_chainPlace n (nI j) := by
  intro d
  induction d with
  | zero =>
    intro j hj hw n hn
    obtain ⟨m, rfl⟩ : ∃ m, n = m + 1 := ⟨n - 1, by omega⟩
    exact br_t (nI_le (a := 127) (by omega) (by omega)) (h0 (fun w h => hw w (by omega)))
  | succ d ih =>
    intro j hj hw n hn
    obtain ⟨m, rfl⟩ : ∃ m, n = m + 1 := ⟨n - 1, by omega⟩
    have e : a_fresh (nI j).toNatClampNeg = ge_b (gc_f c j) := by rw [nI_clamp (by omega)]; exact hf j (by omega)
    refine br_f (nI_ge (b := 127) (by omega) (by decide)) ⟨vp_in_nI (by omega) (by decide), ?_⟩
    rcases Bool.eq_false_or_eq_true (gc_f c j) with z | z
    · exact br_f (by rw [e, z]; decide) (h1 j (by omega) z)
    · refine br_t (by rw [e, z]; rfl) (nm_r (nI_1 j) (ih (j + 1) (by omega) (fun w h => ?_) m (by omega)))
      rcases Nat.lt_or_ge w j with q | q
      · exact hw w q
      · have : w = j := by omega
        rw [this]; exact z
theorem xk_ff {c : GC} {f_agendaTop : Int32} {a_ruleRight a_next a_fresh a_agendaOne a_agendaTwo : Nat → Int32} (hf : ∀ w, w < 127 → a_fresh w = ge_b (gc_f c w)) {post : Int32 → Prop} (h1 : ∀ f, f < 127 → gc_f c f = true → post (nI f)) (h0 : (∀ w, w < 127 → gc_f c w = false) → post (-1)) : wpX_firstFresh post (f_letters, f_topLevel, f_capacity, f_level, f_equations, f_taken, f_rules, f_confluence, f_agendaTop, f_queueSize, f_chainLength, a_power, a_first, a_sizes, a_buffer, a_equationSide, a_ruleRight, a_next, a_fresh, a_ruleLeft, a_normalForm, a_agendaOne, a_agendaTwo, a_distance, a_queue, a_chainWord, a_chainEquation, a_chainSide, a_chainPlace) := by
  unfold wpX_firstFresh
  exact ⟨128, xk_ffL (c := c) hf h1 h0 127 0 rfl (fun w h => by omega) 128 (by decide)⟩
end
/-- only the agenda grows -/
def po_X (K L : Nat) (Q : Nat → Nat → Prop) (cI c c' : GC) : Prop :=
  gc_r c' = gc_r cI ∧ gc_x c' = gc_x cI ∧ gc_f c' = gc_f c ∧ (∀ p q, gc_A c p q → gc_A c' p q) ∧ (∀ p q, gc_A c' p q → ww_n K p ≤ L ∧ ww_n K q ≤ L ∧ rl_r K L Q p q)
theorem po_tr {K L : Nat} {Q : Nat → Nat → Prop} {cI c c' c'' : GC} (h : po_X K L Q cI c c') (h' : po_X K L Q cI c' c'') : po_X K L Q cI c c'' :=
  ⟨h'.1, h'.2.1, h'.2.2.1.trans h.2.2.1, fun p q e => h'.2.2.2.1 p q (h.2.2.2.1 p q e), h'.2.2.2.2⟩
theorem po_E {K L : Nat} {Q : Nat → Nat → Prop} {cI c c' : GC} (h : po_X K L Q cI c c') (hr : gc_r c = gc_r cI) : ∀ p q, gc_E c p q → gc_E c' p q :=
  fun p q e => e.imp (fun e => by unfold gc_R at e ⊢; rw [h.1, ← hr]; exact e) (h.2.2.2.1 p q)
section
variable {K T L : Nat} {Q : Nat → Nat → Prop} {cI : GC} {f_letters f_topLevel f_capacity f_level f_equations f_taken f_rules f_confluence f_queueSize f_chainLength : Int32} {a_power a_first a_sizes a_buffer a_equationSide a_ruleRight a_next a_fresh a_ruleLeft a_normalForm a_distance a_queue a_chainWord a_chainEquation a_chainSide a_chainPlace : Nat → Int32}
theorem xk_po37 (hK : tb_K K T) (hX : tb_X K a_power a_first a_sizes) (hL : L ≤ T) (hI : kb_I K T L Q cI) {f r g s : Nat} (hf : gc_R cI f r) (hg' : gc_R cI g s) {post : SX → Prop} :
    ∀ d sh, (sh + d = ww_n K f ∨ sh + d = ww_n K g) → sh + d ≤ ww_n K f → sh + d ≤ ww_n K g → 1 ≤ sh → ww_n K f + ww_n K g ≤ L + sh → ∀ n, d < n →
    ∀ (c : GC) (f_agendaTop : Int32) (a_agendaOne a_agendaTwo : Nat → Int32), gx c a_ruleRight a_next a_fresh a_agendaOne a_agendaTwo f_agendaTop → po_X K L Q cI c c → gc_t c + d < 2048 →
    (∀ (c' : GC) (f_agendaTop : Int32) (a_agendaOne a_agendaTwo : Nat → Int32), gx c' a_ruleRight a_next a_fresh a_agendaOne a_agendaTwo f_agendaTop → po_X K L Q cI c c' → gc_t c' ≤ gc_t c + d →
      (∀ x y z, f = ww_c K x y → g = ww_c K y z → 0 < ww_n K x → sh ≤ ww_n K y → 0 < ww_n K z → rw_cn K (gc_E c') (fun w => w < ww_c K x (ww_c K y z)) (ww_c K r z) (ww_c K x s)) → post (f_letters, f_topLevel, f_capacity, f_level, f_equations, f_taken, f_rules, f_confluence, f_agendaTop, f_queueSize, f_chainLength, a_power, a_first, a_sizes, a_buffer, a_equationSide, a_ruleRight, a_next, a_fresh, a_ruleLeft, a_normalForm, a_agendaOne, a_agendaTwo, a_distance, a_queue, a_chainWord, a_chainEquation, a_chainSide, a_chainPlace)) →
    wX_pushOverlaps_37 post (nI f) (nI g) (nI (ww_n K f)) (nI (ww_n K g)) n (nI sh) f_letters f_topLevel f_capacity f_level f_equations f_taken f_rules f_confluence f_agendaTop f_queueSize f_chainLength a_power a_first a_sizes a_buffer a_equationSide a_ruleRight a_next a_fresh a_ruleLeft a_normalForm a_agendaOne a_agendaTwo a_distance a_queue a_chainWord a_chainEquation a_chainSide a_chainPlace := by
  have h2 := tb_2 hK
  have hT := tb_T hK
  have df := hI.1 f r hf
  have dg := hI.1 g s hg'
  have f127 : f < 127 := tb_127 hK (by omega)
  have g127 : g < 127 := tb_127 hK (by omega)
  intro d
  induction d with
  | zero =>
    intro sh h0 h1 h3 hs hl n hn c f_agendaTop a_agendaOne a_agendaTwo hg hp hB hc
    obtain ⟨m, rfl⟩ : ∃ m, n = m + 1 := ⟨n - 1, by omega⟩
    have fin := hc c _ _ _ hg hp (by omega) (fun x y z e1 e2 z1 z2 z3 => by
      have a1 := congrArg (ww_n K) e1
      have a2 := congrArg (ww_n K) e2
      rw [ww_cn h2] at a1 a2
      omega)
    rcases Nat.lt_or_ge sh (ww_n K f) with q | q
    · exact br_f (nI_ge q (by omega)) (br_t (nI_le (by omega) (by omega)) fin)
    · exact br_t (nI_le (by omega) (by omega)) fin
  | succ d ih =>
    intro sh h0 h1 h3 hs hl n hn c f_agendaTop a_agendaOne a_agendaTwo hg hp hB hc
    obtain ⟨m, rfl⟩ : ∃ m, n = m + 1 := ⟨n - 1, by omega⟩
    obtain ⟨x, y, ef, nx, ny⟩ := ww_sp h2 (w := f) (m := ww_n K f - sh) (n := sh) (by omega)
    obtain ⟨y', z, eg, ny', nz⟩ := ww_sp h2 (w := g) (m := sh) (n := ww_n K g - sh) (by omega)
    refine br_f (nI_ge (by omega) (by omega)) (br_f (nI_ge (by omega) (by omega)) ?_)
    have goOn : ∀ (c1 : GC) (f_agendaTop : Int32) (a_agendaOne a_agendaTwo : Nat → Int32), gx c1 a_ruleRight a_next a_fresh a_agendaOne a_agendaTwo f_agendaTop → po_X K L Q cI c c1 → gc_t c1 ≤ gc_t c + 1 →
        (y = y' → rw_cn K (gc_E c1) (fun w => w < ww_c K x (ww_c K y z)) (ww_c K r z) (ww_c K x s)) → ∀ x6 : Int32, x6 = nI sh + 1 → wX_pushOverlaps_37 post (nI f) (nI g) (nI (ww_n K f)) (nI (ww_n K g)) m x6 f_letters f_topLevel f_capacity f_level f_equations f_taken f_rules f_confluence f_agendaTop f_queueSize f_chainLength a_power a_first a_sizes a_buffer a_equationSide a_ruleRight a_next a_fresh a_ruleLeft a_normalForm a_agendaOne a_agendaTwo a_distance a_queue a_chainWord a_chainEquation a_chainSide a_chainPlace := by
      intro c1 f_agendaTop a_agendaOne a_agendaTwo k1 k2 k3 k4
      refine nm_r (nI_1 sh) (ih (sh + 1) (by omega) (by omega) (by omega) (by omega) (by omega) m (by omega) c1 _ _ _ k1 ⟨k2.1, k2.2.1, rfl, fun _ _ e => e, k2.2.2.2.2⟩ (by omega) ?_)
      intro c' f_agendaTop a_agendaOne a_agendaTwo q1 q2 q3 q4
      refine hc c' _ _ _ q1 (po_tr k2 q2) (by omega) ?_
      intro x1 y1 z1 e1 e2 z2 z3 z4
      rcases Nat.lt_or_ge sh (ww_n K y1) with q | q
      · exact q4 x1 y1 z1 e1 e2 z2 q z4
      · have ly : ww_n K y1 = sh := by omega
        have u1 := ww_cx h2 (ef.symm.trans e1) (by omega)
        have u2 := ww_cx' h2 (eg.symm.trans e2) (by omega)
        rw [← u1.1, ← u2.2, ← u1.2]
        exact rw_mo (po_E q2 k2.1) (fun _ e => e) (k4 (u1.2.trans u2.1.symm))
    rw [← ny]
    refine xl_ovl hK hX (tb_big hK f127) (tb_big hK g127) ef eg (by omega) (fun ey => ?_) (fun ne => ?_)
    · refine br_f (by decide) ?_
      have er : a_ruleRight (nI f).toNatClampNeg = nI r := by rw [xk_rr hg f127, hp.1, show gc_r cI f = some r from hf]; rfl
      have es : a_ruleRight (nI g).toNatClampNeg = nI s := by rw [xk_rr hg g127, hp.1, show gc_r cI g = some s from hg']; rfl
      have r127 : r < 127 := by omega
      have s127 : s < 127 := by omega
      have egy : g = ww_c K y z := by rw [ey]; exact eg
      have nle : ww_n K r ≤ ww_n K f := ww_nm h2 (Nat.le_of_lt df.1)
      have nle2 : ww_n K s ≤ ww_n K g := ww_nm h2 (Nat.le_of_lt dg.1)
      have nx' : ∀ w, w < 127 → a_next w = nI (gc_x cI w) := by
        intro w hw; rw [hg.2.1 w hw, hp.2.1]
      have l1 : ww_n K (ww_c K r z) ≤ L := by rw [ww_cn h2]; omega
      have l2 : ww_n K (ww_c K x s) ≤ L := by rw [ww_cn h2]; omega
      have b1 : ww_c K r z < ww_c K x (ww_c K y z) := by rw [← ww_ca h2, ← ef]; exact ww_cl h2 z df.1
      have b2 : ww_c K x s < ww_c K x (ww_c K y z) := by rw [← egy]; exact ww_cr h2 x dg.1
      refine ⟨vp_in_nI f127 (by decide), ?_⟩
      rw [er]
      refine xl_rf hK hX (tb_big hK g127) egy ⟨vp_in_nI g127 (by decide), ?_⟩
      rw [es]
      refine xl_rs hK hX (tb_big hK f127) (tb_big hK s127) ef ?_
      refine xk_rwI hK hL hI nx' l1 (fun p' x1 x2 x3 x4 x5 x6 => ?_)
      refine xk_rwI hK hL hI nx' l2 (fun q' y1 y2 y3 y4 y5 y6 => ?_)
      have rel0 : rl_r K L Q (ww_c K r z) (ww_c K x s) := by
        have t1 := rl_cx (K := K) (L := L) (Q := Q) h2 0 z df.2.2 (by rw [ww_0c, ww_cn h2]; omega) (by rw [ww_0c, ww_cn h2]; omega)
        have t2 := rl_cx (K := K) (L := L) (Q := Q) h2 x 0 dg.2.2 (by rw [ww_c0, ww_cn h2]; omega) (by rw [ww_c0, ww_cn h2]; omega)
        rw [ww_0c, ww_0c] at t1
        rw [ww_c0, ww_c0] at t2
        have e3 : ww_c K f z = ww_c K x g := by rw [ef, egy, ww_ca h2]
        rw [e3] at t1
        exact rl_tr (rl_sy t1) t2
      have cn1 : ∀ c1 : GC, gc_r c1 = gc_r cI → rw_cn K (gc_E c1) (fun w => w < ww_c K x (ww_c K y z)) (ww_c K r z) p' := by
        intro c1 e; refine rw_mo (fun a b e1 => Or.inl ?_) (fun w hw => Nat.lt_of_le_of_lt hw b1) x6
        unfold gc_R at e1 ⊢; rw [e]; exact e1
      have cn2 : ∀ c1 : GC, gc_r c1 = gc_r cI → rw_cn K (gc_E c1) (fun w => w < ww_c K x (ww_c K y z)) (ww_c K x s) q' := by
        intro c1 e; refine rw_mo (fun a b e1 => Or.inl ?_) (fun w hw => Nat.lt_of_le_of_lt hw b2) y6
        unfold gc_R at e1 ⊢; rw [e]; exact e1
      rw [ny]
      refine pk_eq p' q' (fun e => ?_) (fun ne => ?_)
      · refine goOn c _ _ _ hg hp (by omega) (fun _ => ?_)
        exact rw_tr (cn1 c hp.1) (rw_tr (rw_eq e) (rw_sy (cn2 c hp.1)))
      · refine xk_push hg (by omega) ?_
        refine goOn (gc_push c p' q') _ _ _ (gx_push hg p' q') ⟨hp.1, hp.2.1, rfl, fun _ _ e => gc_pushA.mpr (Or.inl e), fun a b e => ?_⟩ (Nat.le_refl _) (fun _ => ?_)
        · rcases gc_pushA.mp e with e | ⟨rfl, rfl⟩
          · exact hp.2.2.2.2 a b e
          · exact ⟨x3, y3, rl_tr (rl_sy x5) (rl_tr rel0 y5)⟩
        · exact rw_tr (cn1 (gc_push c p' q') hp.1) (rw_tr (rw_e1 (Or.inr (gc_pushA.mpr (Or.inr ⟨rfl, rfl⟩))) (Nat.lt_of_le_of_lt x2 b1) (Nat.lt_of_le_of_lt y2 b2)) (rw_sy (cn2 (gc_push c p' q') hp.1)))
    · rw [ny]
      exact br_t rfl (goOn c _ _ _ hg hp (by omega) (fun e => absurd e ne))
theorem xk_po (hK : tb_K K T) (hX : tb_X K a_power a_first a_sizes) (hL : L ≤ T) (hI : kb_I K T L Q cI) {f r g s : Nat} (hf : gc_R cI f r) (hg' : gc_R cI g s) {post : SX → Prop}
    {c : GC} {f_agendaTop : Int32} {a_agendaOne a_agendaTwo : Nat → Int32} (hg : gx c a_ruleRight a_next a_fresh a_agendaOne a_agendaTwo f_agendaTop) (hp : po_X K L Q cI c c) (hB : gc_t c + 5 < 2048)
    (hc : ∀ (c' : GC) (f_agendaTop : Int32) (a_agendaOne a_agendaTwo : Nat → Int32), gx c' a_ruleRight a_next a_fresh a_agendaOne a_agendaTwo f_agendaTop → po_X K L Q cI c c' → gc_t c' ≤ gc_t c + 5 → kb_cr K L (gc_E c') f r g s → post (f_letters, f_topLevel, f_capacity, nI L, f_equations, f_taken, f_rules, f_confluence, f_agendaTop, f_queueSize, f_chainLength, a_power, a_first, a_sizes, a_buffer, a_equationSide, a_ruleRight, a_next, a_fresh, a_ruleLeft, a_normalForm, a_agendaOne, a_agendaTwo, a_distance, a_queue, a_chainWord, a_chainEquation, a_chainSide, a_chainPlace)) :
    wpX_pushOverlaps post (f_letters, f_topLevel, f_capacity, nI L, f_equations, f_taken, f_rules, f_confluence, f_agendaTop, f_queueSize, f_chainLength, a_power, a_first, a_sizes, a_buffer, a_equationSide, a_ruleRight, a_next, a_fresh, a_ruleLeft, a_normalForm, a_agendaOne, a_agendaTwo, a_distance, a_queue, a_chainWord, a_chainEquation, a_chainSide, a_chainPlace) (nI f) (nI g) := by
  have h2 := tb_2 hK
  have hT := tb_T hK
  have df := hI.1 f r hf
  have dg := hI.1 g s hg'
  have f127 : f < 127 := tb_127 hK (by omega)
  have g127 : g < 127 := tb_127 hK (by omega)
  have f1 : 1 ≤ ww_n K f := by
    rcases Nat.eq_zero_or_pos (ww_n K f) with z | z
    · have := ww_n00 h2 z; omega
    · exact z
  have g1 : 1 ≤ ww_n K g := by
    rcases Nat.eq_zero_or_pos (ww_n K g) with z | z
    · have := ww_n00 h2 z; omega
    · exact z
  unfold wpX_pushOverlaps
  refine xl_len hK hX (tb_big hK f127) (xl_len hK hX (tb_big hK g127) ?_)
  rw [nI_add]
  have main : ∀ lo, 1 ≤ lo → ww_n K f + ww_n K g ≤ L + lo → lo ≤ ww_n K f → lo ≤ ww_n K g → (∀ x y z, f = ww_c K x y → g = ww_c K y z → 0 < ww_n K y → ww_n K x + ww_n K y + ww_n K z ≤ L → lo ≤ ww_n K y) → ∃ n37, wX_pushOverlaps_37 post (nI f) (nI g) (nI (ww_n K f)) (nI (ww_n K g)) n37 (nI lo) f_letters f_topLevel f_capacity (nI L) f_equations f_taken f_rules f_confluence f_agendaTop f_queueSize f_chainLength a_power a_first a_sizes a_buffer a_equationSide a_ruleRight a_next a_fresh a_ruleLeft a_normalForm a_agendaOne a_agendaTwo a_distance a_queue a_chainWord a_chainEquation a_chainSide a_chainPlace := by
    intro lo l1 l2 l3 l4 l5
    have l6 := ww_nm h2 (show f ≤ 126 by omega)
    have l7 := tb_n6 hK (show 126 < 127 by omega)
    rcases Nat.le_total (ww_n K f) (ww_n K g) with q | q
    · refine ⟨ww_n K f - lo + 1, xk_po37 hK hX hL hI hf hg' (ww_n K f - lo) lo (Or.inl (by omega)) (by omega) (by omega) l1 l2 _ (by omega) c _ _ _ hg hp (by omega) ?_⟩
      intro c' f_agendaTop a_agendaOne a_agendaTwo k1 k2 k3 k4
      exact hc c' _ _ _ k1 k2 (by omega) (fun x y z e1 e2 q1 q2 q3 q4 => k4 x y z e1 e2 q1 (l5 x y z e1 e2 q2 q4) q3)
    · refine ⟨ww_n K g - lo + 1, xk_po37 hK hX hL hI hf hg' (ww_n K g - lo) lo (Or.inr (by omega)) (by omega) (by omega) l1 l2 _ (by omega) c _ _ _ hg hp (by omega) ?_⟩
      intro c' f_agendaTop a_agendaOne a_agendaTwo k1 k2 k3 k4
      exact hc c' _ _ _ k1 k2 (by omega) (fun x y z e1 e2 q1 q2 q3 q4 => k4 x y z e1 e2 q1 (l5 x y z e1 e2 q2 q4) q3)
  rcases Nat.lt_or_ge L (ww_n K f + ww_n K g) with q | q
  · have es : nI (ww_n K f + ww_n K g) - nI L = nI (ww_n K f + ww_n K g - L) := pk_sub (by omega)
    refine nm_r es (br_t (nI_le (a := 1) (by omega) (by omega)) (main (ww_n K f + ww_n K g - L) (by omega) (by omega) (by omega) (by omega) ?_))
    intro x y z e1 e2 _ hl
    have a1 := congrArg (ww_n K) e1
    have a2 := congrArg (ww_n K) e2
    rw [ww_cn h2] at a1 a2
    omega
  · have es : ¬ (1 : Int32) ≤ nI (ww_n K f + ww_n K g) - nI L := by
      rw [Int32.le_iff_toInt_le, pk_sub_toInt (by omega) (by omega)]
      show ¬ ((1 : Int) ≤ _)
      omega
    exact nm_e (br_f es (main 1 (by omega) (by omega) f1 g1 (fun x y z _ _ h _ => h)))
theorem xk_ow (hK : tb_K K T) (hX : tb_X K a_power a_first a_sizes) (hL : L ≤ T) (hI : kb_I K T L Q cI) {f r : Nat} (hf : gc_R cI f r) {post : SX → Prop} :
    ∀ d o, o + d = ww_f K (L + 1) → ∀ n, d < n →
    ∀ (c : GC) (f_agendaTop : Int32) (a_agendaOne a_agendaTwo : Nat → Int32), gx c a_ruleRight a_next a_fresh a_agendaOne a_agendaTwo f_agendaTop → po_X K L Q cI c c → gc_t c ≤ 10 * o →
    (∀ (c' : GC) (f_agendaTop : Int32) (a_agendaOne a_agendaTwo : Nat → Int32), gx c' a_ruleRight a_next a_fresh a_agendaOne a_agendaTwo f_agendaTop → po_X K L Q cI c c' → gc_t c' ≤ 10 * ww_f K (L + 1) →
      (∀ g s, gc_R cI g s → o ≤ g → kb_cr K L (gc_E c') f r g s ∧ kb_cr K L (gc_E c') g s f r) → post (f_letters, f_topLevel, f_capacity, nI L, f_equations, f_taken, f_rules, f_confluence, f_agendaTop, f_queueSize, f_chainLength, a_power, a_first, a_sizes, a_buffer, a_equationSide, a_ruleRight, a_next, a_fresh, a_ruleLeft, a_normalForm, a_agendaOne, a_agendaTwo, a_distance, a_queue, a_chainWord, a_chainEquation, a_chainSide, a_chainPlace)) →
    wX_overlapWithAll_7 post (nI f) (nI (ww_f K (L + 1))) n (nI o) f_letters f_topLevel f_capacity (nI L) f_equations f_taken f_rules f_confluence f_agendaTop f_queueSize f_chainLength a_power a_first a_sizes a_buffer a_equationSide a_ruleRight a_next a_fresh a_ruleLeft a_normalForm a_agendaOne a_agendaTwo a_distance a_queue a_chainWord a_chainEquation a_chainSide a_chainPlace := by
  have h2 := tb_2 hK
  have hT := tb_T hK
  have f127 : f < 127 := tb_127 hK (by have := (hI.1 f r hf).2.1; omega)
  have cnt : ww_f K (L + 1) ≤ 127 := Nat.le_trans (ww_fle h2 (by omega)) (tb_f7 hK).2.2
  intro d
  induction d with
  | zero =>
    intro o ho n hn c f_agendaTop a_agendaOne a_agendaTwo hg hp hB hc
    obtain ⟨m, rfl⟩ : ∃ m, n = m + 1 := ⟨n - 1, by omega⟩
    refine br_t (nI_le (by omega) (by omega)) (hc c _ _ _ hg hp (by omega) (fun g s e l => ?_))
    have := (hI.1 g s e).2.1
    rw [ww_nle h2] at this
    omega
  | succ d ih =>
    intro o ho n hn c f_agendaTop a_agendaOne a_agendaTwo hg hp hB hc
    obtain ⟨m, rfl⟩ : ∃ m, n = m + 1 := ⟨n - 1, by omega⟩
    have er := xk_rr hg (show o < 127 by omega)
    rw [hp.1] at er
    refine br_f (nI_ge (by omega) (by omega)) ⟨vp_in_nI (by omega) (by decide), ?_⟩
    have goOn : ∀ (c1 : GC) (f_agendaTop : Int32) (a_agendaOne a_agendaTwo : Nat → Int32), gx c1 a_ruleRight a_next a_fresh a_agendaOne a_agendaTwo f_agendaTop → po_X K L Q cI c c1 → gc_t c1 ≤ 10 * (o + 1) →
        (∀ s, gc_R cI o s → kb_cr K L (gc_E c1) f r o s ∧ kb_cr K L (gc_E c1) o s f r) → ∀ x6 : Int32, x6 = nI o + 1 → wX_overlapWithAll_7 post (nI f) (nI (ww_f K (L + 1))) m x6 f_letters f_topLevel f_capacity (nI L) f_equations f_taken f_rules f_confluence f_agendaTop f_queueSize f_chainLength a_power a_first a_sizes a_buffer a_equationSide a_ruleRight a_next a_fresh a_ruleLeft a_normalForm a_agendaOne a_agendaTwo a_distance a_queue a_chainWord a_chainEquation a_chainSide a_chainPlace := by
      intro c1 f_agendaTop a_agendaOne a_agendaTwo k1 k2 k3 k4
      refine nm_r (nI_1 o) (ih (o + 1) (by omega) m (by omega) c1 _ _ _ k1 ⟨k2.1, k2.2.1, rfl, fun _ _ e => e, k2.2.2.2.2⟩ k3 ?_)
      intro c' f_agendaTop a_agendaOne a_agendaTwo q1 q2 q3 q4
      refine hc c' _ _ _ q1 (po_tr k2 q2) q3 (fun g s e l => ?_)
      rcases Nat.lt_or_ge o g with q | q
      · exact q4 g s e q
      · have : g = o := by omega
        subst this
        have k := k4 s e
        have mo := po_E q2 k2.1
        exact ⟨fun x y z a1 a2 a3 a4 a5 a6 => rw_mo mo (fun _ e => e) (k.1 x y z a1 a2 a3 a4 a5 a6), fun x y z a1 a2 a3 a4 a5 a6 => rw_mo mo (fun _ e => e) (k.2 x y z a1 a2 a3 a4 a5 a6)⟩
    rcases Option.eq_none_or_eq_some (gc_r cI o) with z | ⟨s, z⟩
    · refine br_t (by rw [er, z]; exact ge_n) (goOn c _ _ _ hg hp (by omega) (fun s e => ?_))
      rw [show gc_r cI o = some s from e] at z; cases z
    · have s127 := kb_r127 hK hL hI o s z
      refine br_f (by rw [er, z]; exact ge_s s127) ?_
      refine xk_po hK hX hL hI hf z hg hp (by omega) ?_
      intro c1 f_agendaTop a_agendaOne a_agendaTwo k1 k2 k3 k4
      have hp1 : po_X K L Q cI c1 c1 := ⟨k2.1, k2.2.1, rfl, fun _ _ e => e, k2.2.2.2.2⟩
      refine pk_eq o f (fun e => ?_) (fun ne => ?_)
      · refine goOn c1 _ _ _ k1 k2 (by omega) (fun s' e' => ?_)
        have es : s' = s := kb_fun e' z
        rw [es]
        subst e
        have er2 : r = s := kb_fun hf z
        rw [er2] at k4 ⊢
        exact ⟨k4, k4⟩
      · refine xk_po hK hX hL hI z hf k1 hp1 (by omega) ?_
        intro c2 f_agendaTop a_agendaOne a_agendaTwo q1 q2 q3 q4
        refine goOn c2 _ _ _ q1 (po_tr k2 q2) (by omega) (fun s' e' => ?_)
        have es : s' = s := kb_fun e' z
        rw [es]
        refine ⟨fun x y z a1 a2 a3 a4 a5 a6 => rw_mo (po_E q2 k2.1) (fun _ e => e) (k4 x y z a1 a2 a3 a4 a5 a6), q4⟩
end
section
variable {K T L : Nat} {Q : Nat → Nat → Prop} {f_letters f_topLevel f_capacity f_level f_equations f_taken f_rules f_confluence f_queueSize f_chainLength : Int32} {a_power a_first a_sizes a_buffer a_equationSide a_ruleLeft a_normalForm a_distance a_queue a_chainWord a_chainEquation a_chainSide a_chainPlace : Nat → Int32}
theorem kb_dis {c : GC} (hK : tb_K K T) (hL : L ≤ T) (h : kb_I K T L Q c) : gc_nR c + gc_nI c ≤ 127 := by
  refine cq_dis (fun w _ h1 h2 => ?_)
  obtain ⟨r, e⟩ := Option.ne_none_iff_exists'.mp h1
  have d := h.1 w r e
  rcases h.2.2.1 w (by omega) with k | k
  · exact k.2 _ ⟨0, w, r, 0, e, by rw [ww_c0, ww_0c], rfl⟩
  · exact k.1 h2
theorem kb_nI1 {c : GC} (hK : tb_K K T) (h : kb_I K T L Q c) : 0 < gc_nI c := by
  have := kb_xle (tb_2 hK) h (w := 0) (by rw [ww_n0]; omega)
  exact cq_pos (P := fun w => gc_x c w = w) (a := 0) (by omega) (by omega)
theorem kb_dis2 {c : GC} (hK : tb_K K T) (hL : L ≤ T) (h : kb_I K T L Q c) : gc_nF c + gc_nI c ≤ 127 := by
  have := kb_dis hK hL h
  have : gc_nF c ≤ gc_nR c := cq_mono (fun w _ e => h.2.2.2.2.1 w e)
  omega
theorem xk_c4 (hK : tb_K K T) (hX : tb_X K a_power a_first a_sizes) (hL : L ≤ T) {post : SX → Prop} : ∀ d j, j + d = 128 → ∀ n, d + 1 < n →
    ∀ (c : GC) (f_agendaTop : Int32) (a_ruleRight a_next a_fresh a_agendaOne a_agendaTwo : Nat → Int32), gx c a_ruleRight a_next a_fresh a_agendaOne a_agendaTwo f_agendaTop → kb_I K T L Q c → gc_t c ≤ 1270 → gc_nF c + gc_nI c ≤ d →
    (∀ (c' : GC) (f_agendaTop : Int32) (a_ruleRight a_next a_fresh a_agendaOne a_agendaTwo : Nat → Int32), gx c' a_ruleRight a_next a_fresh a_agendaOne a_agendaTwo f_agendaTop → kb_I K T L Q c' → gc_t c' = 0 → (∀ w, w < 127 → gc_f c' w = false) → wX_complete_58 post f_letters (nI T) f_capacity (nI L) f_equations f_taken f_rules f_confluence f_agendaTop f_queueSize f_chainLength a_power a_first a_sizes a_buffer a_equationSide a_ruleRight a_next a_fresh a_ruleLeft a_normalForm a_agendaOne a_agendaTwo a_distance a_queue a_chainWord a_chainEquation a_chainSide a_chainPlace) →
    wX_complete_4 post n 1 (nI j) f_letters (nI T) f_capacity (nI L) f_equations f_taken f_rules f_confluence f_agendaTop f_queueSize f_chainLength a_power a_first a_sizes a_buffer a_equationSide a_ruleRight a_next a_fresh a_ruleLeft a_normalForm a_agendaOne a_agendaTwo a_distance a_queue a_chainWord a_chainEquation a_chainSide a_chainPlace := by
  have h2 := tb_2 hK
  intro d
  induction d with
  | zero =>
    intro j hj n hn c f_agendaTop a_ruleRight a_next a_fresh a_agendaOne a_agendaTwo hg hI hB hF hc
    have := kb_nI1 hK hI
    omega
  | succ d ih =>
    intro j hj n hn c f_agendaTop a_ruleRight a_next a_fresh a_agendaOne a_agendaTwo hg hI hB hF hc
    obtain ⟨m, rfl⟩ : ∃ m, n = m + 2 := ⟨n - 2, by omega⟩
    have dis := kb_dis hK hL hI
    refine br_f (nI_nlt (a := 127) (by omega) (by decide)) (br_f (by decide) ?_)
    unfold wpX_drainAgenda
    refine ⟨2049, xk_dr hK hX hL 2048 0 rfl 2049 (by decide) c _ _ _ _ _ _ hg hI (by omega) ?_⟩
    intro c1 f_agendaTop a_ruleRight a_next a_fresh a_agendaOne a_agendaTwo g1 g2 g3 g4
    refine xk_ff (c := c1) g1.2.2.1 (fun f f127 hf => ?_) (fun h0 => ?_)
    · refine br_f (nI_pos (by omega)) ?_
      unfold wX_complete_35
      rw [nI_clamp (by omega)]
      refine br_f (by decide) ⟨vp_in_nI f127 (by decide), nm_e ?_⟩
      obtain ⟨r, er⟩ := Option.ne_none_iff_exists'.mp (g2.2.2.2.2.1 f hf)
      have hcn : ww_f K (L + 1) ≤ 127 := Nat.le_trans (ww_fle h2 (by omega)) (tb_f7 hK).2.2
      unfold wpX_overlapWithAll
      refine xl_wc hK hX (by have := tb_T hK; omega) ⟨ww_f K (L + 1) + 1, ?_⟩
      have ggx : gx (gc_r c1, gc_x c1, gu (gc_f c1) f false, gc_1 c1, gc_2 c1, gc_t c1) a_ruleRight a_next (upd a_fresh f (vp_nar .boolean 0)) a_agendaOne a_agendaTwo f_agendaTop :=
        ⟨g1.1, g1.2.1, ge_up (e := ge_b) (y := false) g1.2.2.1 rfl, g1.2.2.2.1, g1.2.2.2.2.1, g1.2.2.2.2.2⟩
      refine xk_ow (cI := c1) hK hX hL g2 er (ww_f K (L + 1)) 0 (by omega) _ (by omega) _ _ _ _ ggx ⟨rfl, rfl, rfl, fun _ _ e => e, g2.2.2.2.1⟩ (by show gc_t c1 ≤ _; omega) ?_
      intro c2 f_agendaTop a_agendaOne a_agendaTwo k1 k2 k3 k4
      have hI2 : kb_I K T L Q c2 := kb_ovl g2 er k2.1 k2.2.1 k2.2.2.1 k2.2.2.2.1 k2.2.2.2.2 (fun g s e => k4 g s e (Nat.zero_le _))
      have lt : gc_nF c2 < gc_nF c1 := by
        refine cq_lt (a := f) ?_ hf (fun k _ hk => ?_) f127
        · rw [k2.2.2.1]; show ¬ gu (gc_f c1) f false f = true
          rw [gu_s]; decide
        · rw [k2.2.2.1] at hk
          have hk : gu (gc_f c1) f false k = true := hk
          rcases Classical.em (k = f) with e | e
          · subst e; rw [gu_s] at hk; cases hk
          · rw [gu_n e] at hk; exact hk
      have eI : gc_nI c2 = gc_nI c1 := by unfold gc_nI; rw [k2.2.1]
      exact nm_r (nI_1 j) (ih (j + 1) (by omega) (m + 1) (by omega) c2 _ _ _ _ _ _ k1 hI2 (by omega) (by omega) hc)
    · refine br_t (by decide) ?_
      unfold wX_complete_35
      refine br_t rfl (nm_r (nI_1 j) ?_)
      have fin := hc c1 _ _ _ _ _ _ g1 g2 g3 h0
      rcases Nat.lt_or_ge 127 (j + 1) with q | q
      · exact br_t (nI_lt (a := 127) q (by omega)) fin
      · exact br_f (nI_nlt (a := 127) q (by decide)) (br_t rfl fin)
end
end
section
/-! Settling, the whole completion, its starts. -/
def kb_n (nx : Nat → Nat) : Nat → Nat → Nat
  | 0, w => w
  | n + 1, w => if nx w = w then w else kb_n nx n (nx w)
def kb_z (nx : Nat → Nat) (w : Nat) : Nat := kb_n nx w w
section
variable {nx : Nat → Nat} {N : Nat}
theorem kb_nS (hle : ∀ w, w ≤ N → nx w ≤ w) : ∀ w, w ≤ N → ∀ n m, w ≤ n → w ≤ m → kb_n nx n w = kb_n nx m w := by
  intro w
  induction w using Nat.strongRecOn with
  | ind w ih =>
    intro hw n m hn hm
    have l := hle w hw
    rcases Classical.em (nx w = w) with z | z
    · have a : ∀ k, kb_n nx k w = w := by
        intro k
        cases k with
        | zero => rfl
        | succ k => show (if nx w = w then w else kb_n nx k (nx w)) = w
                    rw [if_pos z]
      rw [a, a]
    · obtain ⟨n, rfl⟩ : ∃ k, n = k + 1 := ⟨n - 1, by omega⟩
      obtain ⟨m, rfl⟩ : ∃ k, m = k + 1 := ⟨m - 1, by omega⟩
      show (if nx w = w then w else kb_n nx n (nx w)) = (if nx w = w then w else kb_n nx m (nx w))
      rw [if_neg z, if_neg z]
      exact ih (nx w) (by omega) (by omega) n m (by omega) (by omega)
theorem kb_zE (hle : ∀ w, w ≤ N → nx w ≤ w) {w : Nat} (hw : w ≤ N) : kb_z nx w = if nx w = w then w else kb_z nx (nx w) := by
  have l := hle w hw
  rcases Classical.em (nx w = w) with z | z
  · rw [if_pos z]
    unfold kb_z
    cases w with
    | zero => rfl
    | succ k => show (if nx (k + 1) = k + 1 then k + 1 else kb_n nx k (nx (k + 1))) = k + 1
                rw [if_pos z]
  · rw [if_neg z]
    obtain ⟨k, rfl⟩ : ∃ k, w = k + 1 := ⟨w - 1, by omega⟩
    show (if nx (k + 1) = k + 1 then k + 1 else kb_n nx k (nx (k + 1))) = kb_z nx (nx (k + 1))
    rw [if_neg z]
    exact kb_nS hle (nx (k + 1)) (by omega) k _ (by omega) (Nat.le_refl _)
theorem kb_zle (hle : ∀ w, w ≤ N → nx w ≤ w) : ∀ w, w ≤ N → kb_z nx w ≤ w := by
  intro w
  induction w using Nat.strongRecOn with
  | ind w ih =>
    intro hw
    have l := hle w hw
    rw [kb_zE hle hw]
    rcases Classical.em (nx w = w) with z | z
    · rw [if_pos z]; exact Nat.le_refl _
    · rw [if_neg z]
      have := ih (nx w) (by omega) (by omega)
      omega
theorem kb_zw (hle : ∀ w, w ≤ N → nx w ≤ w) : ∀ w, w ≤ N → kb_w nx w (kb_z nx w) := by
  intro w
  induction w using Nat.strongRecOn with
  | ind w ih =>
    intro hw
    have l := hle w hw
    rw [kb_zE hle hw]
    rcases Classical.em (nx w = w) with z | z
    · rw [if_pos z]; exact fun _ h _ => h
    · rw [if_neg z]
      exact fun P h0 h1 => ih (nx w) (by omega) (by omega) P (h1 _ h0) h1
end
/-- what settling stores -/
def xs_N (K L : Nat) (c : GC) (f_rules : Int32) (a_ruleLeft a_normalForm : Nat → Int32) : Prop :=
  (∀ z, z < ww_f K (L + 1) → a_normalForm z = nI (kb_z (gc_x c) z)) ∧ f_rules = nI (cq_n (fun z => gc_r c z ≠ none) (ww_f K (L + 1))) ∧
  (∀ z, z < ww_f K (L + 1) → gc_r c z ≠ none → a_ruleLeft (cq_n (fun z => gc_r c z ≠ none) z) = nI z)
section
variable {K T L : Nat} {Q : Nat → Nat → Prop} {c : GC} {f_letters f_topLevel f_capacity f_level f_equations f_taken f_confluence f_agendaTop f_queueSize f_chainLength : Int32} {a_power a_first a_sizes a_buffer a_equationSide a_ruleRight a_next a_fresh a_agendaOne a_agendaTwo a_distance a_queue a_chainWord a_chainEquation a_chainSide a_chainPlace : Nat → Int32}
theorem xk_se (hK : tb_K K T) (hL : L ≤ T) (hg : gx c a_ruleRight a_next a_fresh a_agendaOne a_agendaTwo f_agendaTop) (hle : ∀ w, ww_n K w ≤ L → gc_x c w ≤ w) (hr : ∀ w r, gc_r c w = some r → r < 127) {post : SX → Prop} :
    ∀ d w, w + d = ww_f K (L + 1) → ∀ n, d < n → ∀ (f_rules : Int32) (a_ruleLeft a_normalForm : Nat → Int32),
    (∀ z, z < w → a_normalForm z = nI (kb_z (gc_x c) z)) → f_rules = nI (cq_n (fun z => gc_r c z ≠ none) w) → (∀ z, z < w → gc_r c z ≠ none → a_ruleLeft (cq_n (fun z => gc_r c z ≠ none) z) = nI z) →
    (∀ (f_rules : Int32) (a_ruleLeft a_normalForm : Nat → Int32), xs_N K L c f_rules a_ruleLeft a_normalForm → post (f_letters, f_topLevel, f_capacity, f_level, f_equations, f_taken, f_rules, -1, f_agendaTop, f_queueSize, f_chainLength, a_power, a_first, a_sizes, a_buffer, a_equationSide, a_ruleRight, a_next, a_fresh, a_ruleLeft, a_normalForm, a_agendaOne, a_agendaTwo, a_distance, a_queue, a_chainWord, a_chainEquation, a_chainSide, a_chainPlace)) →
    wX_settle_12 post (nI (ww_f K (L + 1))) f_letters f_topLevel f_capacity f_level f_equations f_taken f_confluence f_agendaTop f_queueSize f_chainLength n (nI w) f_rules a_power a_first a_sizes a_buffer a_equationSide a_ruleRight a_next a_fresh a_ruleLeft a_normalForm a_agendaOne a_agendaTwo a_distance a_queue a_chainWord a_chainEquation a_chainSide a_chainPlace := by
  have h2 := tb_2 hK
  have hT := tb_T hK
  have cnt : ww_f K (L + 1) ≤ 127 := Nat.le_trans (ww_fle h2 (by omega)) (tb_f7 hK).2.2
  have hle' : ∀ w, w ≤ ww_f K (L + 1) - 1 → gc_x c w ≤ w := fun w hw => hle w ((ww_nle h2).mpr (by have := ww_fs h2 L; omega))
  intro d
  induction d with
  | zero =>
    intro w hw n hn f_rules a_ruleLeft a_normalForm k1 k2 k3 hc
    obtain ⟨m, rfl⟩ : ∃ m, n = m + 1 := ⟨n - 1, by omega⟩
    have e : w = ww_f K (L + 1) := by omega
    subst e
    exact br_t (nI_le (by omega) (by omega)) (hc f_rules a_ruleLeft a_normalForm ⟨k1, k2, k3⟩)
  | succ d ih =>
    intro w hw n hn f_rules a_ruleLeft a_normalForm k1 k2 k3 hc
    obtain ⟨m, rfl⟩ : ∃ m, n = m + 1 := ⟨n - 1, by omega⟩
    have w127 : w < 127 := by omega
    have ex : a_next (nI w).toNatClampNeg = nI (gc_x c w) := by rw [nI_clamp (by omega)]; exact hg.2.1 w w127
    have er := xk_rr hg w127
    have lx := hle' w (by omega)
    refine br_f (nI_ge (by omega) (by omega)) ⟨vp_in_nI w127 (by decide), nm_r ex ?_⟩
    have join : ∀ v : Int32, v = nI (kb_z (gc_x c) w) → wX_settle_44 post (wX_settle_12 post (nI (ww_f K (L + 1))) f_letters f_topLevel f_capacity f_level f_equations f_taken f_confluence f_agendaTop f_queueSize f_chainLength m) (nI (ww_f K (L + 1))) (nI w) v (nI w) f_letters f_topLevel f_capacity f_level f_equations f_taken f_rules f_confluence f_agendaTop f_queueSize f_chainLength a_power a_first a_sizes a_buffer a_equationSide a_ruleRight a_next a_fresh a_ruleLeft a_normalForm a_agendaOne a_agendaTwo a_distance a_queue a_chainWord a_chainEquation a_chainSide a_chainPlace := by
      intro v ev
      subst ev
      have n1 : ∀ z, z < w + 1 → upd a_normalForm w (nI (kb_z (gc_x c) w)) z = nI (kb_z (gc_x c) z) := by
        intro z hz
        rcases Classical.em (z = w) with q | q
        · subst q; rw [pk_us]
        · rw [pk_un q]; exact k1 z (by omega)
      unfold wX_settle_44
      rw [nI_clamp (by omega)] at er
      rw [nI_clamp (show w < 2 ^ 31 by omega)]
      refine ⟨vp_in_nI w127 (by decide), nm_e ⟨vp_in_nI w127 (by decide), ?_⟩⟩
      rcases Classical.em (gc_r c w = none) with z | z
      · refine br_t (by rw [er, z]; exact ge_n) (nm_r (nI_1 w) (ih (w + 1) (by omega) m (by omega) _ _ _ n1 ?_ (fun y hy h => ?_) hc))
        · rw [k2]; simp only [cq_n]; rw [cq_bf (fun q => q z)]; rfl
        · rcases Classical.em (y = w) with q | q
          · subst q; exact absurd z h
          · exact k3 y (by omega) h
      · obtain ⟨r, e⟩ := Option.ne_none_iff_exists'.mp z
        have cl := cq_le (fun z => gc_r c z ≠ none) w
        refine br_f (by rw [er, e]; exact ge_s (hr w r e)) ?_
        rw [k2, nI_clamp (by omega)]
        refine ⟨vp_in_nI (by omega) (by decide), nm_e (nm_r (nI_1 _) (nm_r (nI_1 w) (ih (w + 1) (by omega) m (by omega) _ _ _ n1 ?_ (fun y hy h => ?_) hc)))⟩
        · simp only [cq_n]; rw [cq_bt z]
        · rcases Classical.em (y = w) with q | q
          · subst q; rw [pk_us]
          · have lt := cq_st (P := fun z => gc_r c z ≠ none) (show y < w by omega) h
            rw [pk_un (by omega)]; exact k3 y (by omega) h
    have ez := kb_zE hle' (show w ≤ _ by omega)
    rcases Classical.em (gc_x c w = w) with z | z
    · rw [if_pos z] at ez
      exact br_t (by rw [z]) (join _ (by rw [ez]))
    · rw [if_neg z] at ez
      refine br_f (by rw [nI_eq (by omega) (by omega)]; exact z) ⟨vp_in_nI (by omega) (by decide), join _ ?_⟩
      rw [nI_clamp (by omega), k1 _ (by omega), ez]
theorem xk_settle (hK : tb_K K T) (hX : tb_X K a_power a_first a_sizes) (hL : L ≤ T) (hg : gx c a_ruleRight a_next a_fresh a_agendaOne a_agendaTwo f_agendaTop) (hle : ∀ w, ww_n K w ≤ L → gc_x c w ≤ w) (hr : ∀ w r, gc_r c w = some r → r < 127) {post : SX → Prop}
    {f_rules : Int32} {a_ruleLeft a_normalForm : Nat → Int32}
    (hc : ∀ (f_rules : Int32) (a_ruleLeft a_normalForm : Nat → Int32), xs_N K L c f_rules a_ruleLeft a_normalForm → post (f_letters, f_topLevel, f_capacity, nI L, f_equations, f_taken, f_rules, -1, f_agendaTop, f_queueSize, f_chainLength, a_power, a_first, a_sizes, a_buffer, a_equationSide, a_ruleRight, a_next, a_fresh, a_ruleLeft, a_normalForm, a_agendaOne, a_agendaTwo, a_distance, a_queue, a_chainWord, a_chainEquation, a_chainSide, a_chainPlace)) :
    wpX_settle post (f_letters, f_topLevel, f_capacity, nI L, f_equations, f_taken, f_rules, f_confluence, f_agendaTop, f_queueSize, f_chainLength, a_power, a_first, a_sizes, a_buffer, a_equationSide, a_ruleRight, a_next, a_fresh, a_ruleLeft, a_normalForm, a_agendaOne, a_agendaTwo, a_distance, a_queue, a_chainWord, a_chainEquation, a_chainSide, a_chainPlace) := by
  unfold wpX_settle
  refine xl_wc hK hX (by have := tb_T hK; omega) ⟨ww_f K (L + 1) + 1, ?_⟩
  exact xk_se hK hL hg hle hr (ww_f K (L + 1)) 0 (by omega) _ (by omega) _ _ _ (fun z h => by omega) rfl (fun z h => by omega) hc
end
/-- a settled component -/
def xs_S (K T L : Nat) (Q : Nat → Nat → Prop) (c : GC) (f_rules f_agendaTop : Int32) (a_ruleRight a_next a_fresh a_ruleLeft a_normalForm a_agendaOne a_agendaTwo : Nat → Int32) : Prop :=
  gx c a_ruleRight a_next a_fresh a_agendaOne a_agendaTwo f_agendaTop ∧ kb_I K T L Q c ∧ gc_t c = 0 ∧ (∀ w, gc_f c w = false) ∧ xs_N K L c f_rules a_ruleLeft a_normalForm
section
variable {K T L : Nat} {Q : Nat → Nat → Prop} {c : GC} {f_letters f_topLevel f_capacity f_level f_equations f_taken f_rules f_confluence f_agendaTop f_queueSize f_chainLength : Int32} {a_power a_first a_sizes a_buffer a_equationSide a_ruleRight a_next a_fresh a_ruleLeft a_normalForm a_agendaOne a_agendaTwo a_distance a_queue a_chainWord a_chainEquation a_chainSide a_chainPlace : Nat → Int32}
theorem xk_complete (hK : tb_K K T) (hX : tb_X K a_power a_first a_sizes) (hL : L ≤ T) (hg : gx c a_ruleRight a_next a_fresh a_agendaOne a_agendaTwo f_agendaTop) (hI : kb_I K T L Q c) (ht : gc_t c ≤ 1270) {post : SX → Prop}
    (hc : ∀ (c : GC) (f_rules f_agendaTop : Int32) (a_ruleRight a_next a_fresh a_ruleLeft a_normalForm a_agendaOne a_agendaTwo : Nat → Int32), xs_S K T L Q c f_rules f_agendaTop a_ruleRight a_next a_fresh a_ruleLeft a_normalForm a_agendaOne a_agendaTwo → post (f_letters, nI T, f_capacity, nI L, f_equations, f_taken, f_rules, -1, f_agendaTop, f_queueSize, f_chainLength, a_power, a_first, a_sizes, a_buffer, a_equationSide, a_ruleRight, a_next, a_fresh, a_ruleLeft, a_normalForm, a_agendaOne, a_agendaTwo, a_distance, a_queue, a_chainWord, a_chainEquation, a_chainSide, a_chainPlace)) :
    wpX_complete post (f_letters, nI T, f_capacity, nI L, f_equations, f_taken, f_rules, f_confluence, f_agendaTop, f_queueSize, f_chainLength, a_power, a_first, a_sizes, a_buffer, a_equationSide, a_ruleRight, a_next, a_fresh, a_ruleLeft, a_normalForm, a_agendaOne, a_agendaTwo, a_distance, a_queue, a_chainWord, a_chainEquation, a_chainSide, a_chainPlace) := by
  have h2 := tb_2 hK
  have hT := tb_T hK
  unfold wpX_complete
  have dis := kb_dis2 hK hL hI
  refine ⟨130, xk_c4 hK hX hL 128 0 rfl 130 (by decide) c _ _ _ _ _ _ hg hI ht (by omega) ?_⟩
  intro c' f_agendaTop a_ruleRight a_next a_fresh a_agendaOne a_agendaTwo g1 g2 g3 g4
  unfold wX_complete_58
  refine xk_settle hK hX hL g1 (fun w hw => kb_xle h2 g2 (by omega)) (kb_r127 hK hL g2) ?_
  intro f_rules a_ruleLeft a_normalForm k1
  refine hc c' _ _ _ _ _ _ _ _ _ ⟨g1, g2, g3, fun w => ?_, k1⟩
  rcases Bool.eq_false_or_eq_true (gc_f c' w) with z | z
  · obtain ⟨r, e⟩ := Option.ne_none_iff_exists'.mp (g2.2.2.2.2.1 w z)
    exact g4 w (tb_127 hK (by have := (g2.1 w r e).2.1; omega))
  · exact z
end
/-! starts of a completion -/
section
variable {K T L : Nat} {Q Q' : Nat → Nat → Prop} {c : GC}
theorem kb_addq {p0 q0 : Nat} (h : kb_I K T L Q c) (h1 : ∀ p q, Q p q → Q' p q) (h2 : ∀ p q, Q' p q → Q p q ∨ (p = p0 ∧ q = q0)) (hq : Q' p0 q0) (hp0 : ww_n K p0 ≤ L) (hq0 : ww_n K q0 ≤ L) : kb_I K T L Q' (gc_push c p0 q0) := by
  have mo : ∀ u v, rl_r K L Q u v → rl_r K L Q' u v := fun u v e => rl_mono (Nat.le_refl _) (fun p q e => rl_q (h1 p q e)) e
  have hE : ∀ p q, gc_E c p q → gc_E (gc_push c p0 q0) p q := fun p q e => e.imp id (fun e => gc_pushA.mpr (Or.inl e))
  refine ⟨fun l r e => ⟨(h.1 l r e).1, (h.1 l r e).2.1, mo _ _ (h.1 l r e).2.2⟩, h.2.1, h.2.2.1, fun p q e => ?_, h.2.2.2.2.1, fun f r g s e1 e2 f1 f2 x y z a1 a2 a3 a4 a5 a6 => rw_mo hE (fun _ e => e) (h.2.2.2.2.2.1 f r g s e1 e2 f1 f2 x y z a1 a2 a3 a4 a5 a6), fun p q e => ?_⟩
  · rcases gc_pushA.mp e with e | ⟨rfl, rfl⟩
    · have d := h.2.2.2.1 p q e
      exact ⟨d.1, d.2.1, mo _ _ d.2.2⟩
    · exact ⟨hp0, hq0, rl_q hq⟩
  · rcases h2 p q e with e | ⟨rfl, rfl⟩
    · exact rw_mo hE (fun _ e => e) (h.2.2.2.2.2.2 p q e)
    · exact rw_e1 (Or.inr (gc_pushA.mpr (Or.inr ⟨rfl, rfl⟩))) hp0 hq0
theorem kb_addz {p0 q0 : Nat} (hK : 2 ≤ K) (hL : L ≤ T) (h : kb_I K T L Q c) (h1 : ∀ p q, Q p q → Q' p q) (h2 : ∀ p q, Q' p q → Q p q ∨ (p = p0 ∧ q = q0)) (hp0 : ww_n K p0 ≤ L) (hq0 : ww_n K q0 ≤ L) (e0 : kb_z (gc_x c) p0 = kb_z (gc_x c) q0) : kb_I K T L Q' c := by
  have mo : ∀ u v, rl_r K L Q u v → rl_r K L Q' u v := fun u v e => rl_mono (Nat.le_refl _) (fun p q e => rl_q (h1 p q e)) e
  have hle' : ∀ w, w ≤ ww_f K (L + 1) - 1 → gc_x c w ≤ w := fun w hw => kb_xle hK h (Nat.le_trans ((ww_nle hK).mpr (by have := ww_fs hK L; omega)) hL)
  have b1 : p0 ≤ ww_f K (L + 1) - 1 := by have := (ww_nle hK).mp hp0; omega
  have b2 : q0 ≤ ww_f K (L + 1) - 1 := by have := (ww_nle hK).mp hq0; omega
  refine ⟨fun l r e => ⟨(h.1 l r e).1, (h.1 l r e).2.1, mo _ _ (h.1 l r e).2.2⟩, h.2.1, h.2.2.1, fun p q e => ?_, h.2.2.2.2.1, h.2.2.2.2.2.1, fun p q e => ?_⟩
  · have d := h.2.2.2.1 p q e
    exact ⟨d.1, d.2.1, mo _ _ d.2.2⟩
  · rcases h2 p q e with e | ⟨rfl, rfl⟩
    · exact h.2.2.2.2.2.2 p q e
    · have k1 := (kb_rch hK h hL hp0 (kb_zw hle' p b1)).2.2.2
      have k2 := (kb_rch hK h hL hq0 (kb_zw hle' q b2)).2.2.2
      refine rw_tr (rw_mo (fun _ _ e => Or.inl e) (fun z hz => Nat.le_trans (ww_nm hK hz) hp0) k1) (rw_tr (rw_eq e0) (rw_sy (rw_mo (fun _ _ e => Or.inl e) (fun z hz => Nat.le_trans (ww_nm hK hz) hq0) k2)))
/-- all rules fresh, one level up -/
theorem kb_up {c' : GC} (h : kb_I K T L Q c) (hr : gc_r c' = gc_r c) (hx : gc_x c' = gc_x c) (ht : gc_t c = 0) (ht' : gc_t c' = 0) (hf : ∀ w, gc_f c' w = true ↔ gc_r c w ≠ none) : kb_I K T (L + 1) Q c' := by
  have mo : ∀ u v, rl_r K L Q u v → rl_r K (L + 1) Q u v := fun u v e => rl_mono (Nat.le_succ _) (fun p q e => rl_q e) e
  have eR : gc_R c' = gc_R c := by funext l r; unfold gc_R; rw [hr]
  refine ⟨?_, by rw [eR]; exact h.2.1, by rw [eR, hx]; exact h.2.2.1, fun p q ⟨i, hi, _⟩ => by omega, fun w hw => by rw [hr]; exact (hf w).mp hw, fun f r g s e1 e2 f1 f2 => ?_, fun p q e => ?_⟩
  · rw [eR]; intro l r e
    have d := h.1 l r e
    exact ⟨d.1, by omega, mo _ _ d.2.2⟩
  · rw [eR] at e1
    have : gc_f c' f = true := (hf f).mpr (by rw [show gc_r c f = some r from e1]; exact fun q => by cases q)
    rw [this] at f1; cases f1
  · refine rw_mo (fun x y e => ?_) (fun z hz => Nat.le_succ_of_le hz) (h.2.2.2.2.2.2 p q e)
    rcases e with e | ⟨i, hi, _⟩
    · exact Or.inl (by rw [eR]; exact e)
    · omega
/-- no rules, no equations -/
theorem kb_nil (hK : 2 ≤ K) (hQ : ∀ p q, ¬ Q p q) (hr : ∀ w, gc_r c w = none) (hx : ∀ w, gc_x c w = w) (hf : ∀ w, gc_f c w = false) (ht : gc_t c = 0) : kb_I K T L Q c := by
  have nR : ∀ l r, ¬ gc_R c l r := fun l r e => by
    have := hr l; rw [show gc_r c l = some r from e] at this; cases this
  exact ⟨fun l r e => absurd e (nR l r), fun l r m s a b e => absurd e (nR l r), fun w _ => Or.inl ⟨hx w, fun v ⟨a, l, r, b, e, _⟩ => nR l r e⟩, (fun p q ⟨i, hi, _⟩ => by omega),
    (fun w h => by rw [hf w] at h; cases h), fun f r g s e => absurd e (nR f r), fun p q e => absurd e (hQ p q)⟩
end
def gc_0 : GC := (fun _ => none, fun w => w, fun _ => false, fun _ => 0, fun _ => 0, 0)
section
variable {K T L : Nat} {f_letters f_topLevel f_capacity f_level f_equations f_taken f_confluence f_queueSize f_chainLength : Int32} {a_power a_first a_sizes a_buffer a_equationSide a_ruleLeft a_normalForm a_agendaOne a_agendaTwo a_distance a_queue a_chainWord a_chainEquation a_chainSide a_chainPlace : Nat → Int32}
theorem xk_cr2 {f_agendaTop f_rules : Int32} {post : SX → Prop} (hc : ∀ (a_ruleRight a_next a_fresh : Nat → Int32), gx gc_0 a_ruleRight a_next a_fresh a_agendaOne a_agendaTwo 0 → post (f_letters, f_topLevel, f_capacity, f_level, f_equations, f_taken, 0, f_confluence, 0, f_queueSize, f_chainLength, a_power, a_first, a_sizes, a_buffer, a_equationSide, a_ruleRight, a_next, a_fresh, a_ruleLeft, a_normalForm, a_agendaOne, a_agendaTwo, a_distance, a_queue, a_chainWord, a_chainEquation, a_chainSide, a_chainPlace)) :
    ∀ d j, j + d = 127 → ∀ n, d < n → ∀ (a_ruleRight a_next a_fresh : Nat → Int32), (∀ w, w < j → a_ruleRight w = -1 ∧ a_next w = nI w ∧ a_fresh w = 0) → wX_clearRules_2 post f_letters f_topLevel f_capacity f_level f_equations f_taken f_rules f_confluence f_agendaTop f_queueSize f_chainLength n (nI j) a_power a_first a_sizes a_buffer a_equationSide a_ruleRight a_next a_fresh a_ruleLeft a_normalForm a_agendaOne a_agendaTwo a_distance a_queue a_chainWord a_chainEquation a_chainSide a_chainPlace := by
  intro d
  induction d with
  | zero =>
    intro j hj n hn a_ruleRight a_next a_fresh h
    obtain ⟨m, rfl⟩ : ∃ m, n = m + 1 := ⟨n - 1, by omega⟩
    refine br_t (nI_le (a := 127) (by omega) (by omega)) (hc _ _ _ ⟨fun w hw => (h w (by omega)).1, fun w hw => (h w (by omega)).2.1, fun w hw => (h w (by omega)).2.2, fun i hi => absurd hi (Nat.not_lt_zero _), fun i hi => absurd hi (Nat.not_lt_zero _), rfl⟩)
  | succ d ih =>
    intro j hj n hn a_ruleRight a_next a_fresh h
    obtain ⟨m, rfl⟩ : ∃ m, n = m + 1 := ⟨n - 1, by omega⟩
    have cl : (nI j).toNatClampNeg = j := nI_clamp (by omega)
    refine br_f (nI_ge (b := 127) (by omega) (by decide)) ?_
    rw [cl]
    refine ⟨vp_in_nI (by omega) (by decide), nm_e ⟨vp_in_nI (by omega) (by decide), nm_e ⟨vp_in_nI (by omega) (by decide), nm_e (nm_r (nI_1 j) (ih (j + 1) (by omega) m (by omega) _ _ _ (fun w hw => ?_)))⟩⟩⟩
    rcases Classical.em (w = j) with q | q
    · subst q; exact ⟨pk_us, pk_us, pk_us⟩
    · rw [pk_un q, pk_un q, pk_un q]; exact h w (by omega)
theorem xk_cr {f_agendaTop f_rules : Int32} {a_ruleRight a_next a_fresh : Nat → Int32} {post : SX → Prop} (hc : ∀ (a_ruleRight a_next a_fresh : Nat → Int32), gx gc_0 a_ruleRight a_next a_fresh a_agendaOne a_agendaTwo 0 → post (f_letters, f_topLevel, f_capacity, f_level, f_equations, f_taken, 0, f_confluence, 0, f_queueSize, f_chainLength, a_power, a_first, a_sizes, a_buffer, a_equationSide, a_ruleRight, a_next, a_fresh, a_ruleLeft, a_normalForm, a_agendaOne, a_agendaTwo, a_distance, a_queue, a_chainWord, a_chainEquation, a_chainSide, a_chainPlace)) : wpX_clearRules post (f_letters, f_topLevel, f_capacity, f_level, f_equations, f_taken, f_rules, f_confluence, f_agendaTop, f_queueSize, f_chainLength, a_power, a_first, a_sizes, a_buffer, a_equationSide, a_ruleRight, a_next, a_fresh, a_ruleLeft, a_normalForm, a_agendaOne, a_agendaTwo, a_distance, a_queue, a_chainWord, a_chainEquation, a_chainSide, a_chainPlace) := by
  unfold wpX_clearRules
  exact ⟨128, xk_cr2 hc 127 0 rfl 128 (by decide) _ _ _ (fun w h => by omega)⟩
end
/-- the equations in the arrays -/
def eq_Q (E : Nat → Nat) (t : Nat) (p q : Nat) : Prop := ∃ e, e < t ∧ p = E (2 * e) ∧ q = E (2 * e + 1)
section
variable {K T L : Nat} {f_letters f_topLevel f_capacity f_level f_equations f_taken f_rules f_confluence f_queueSize f_chainLength : Int32} {a_power a_first a_sizes a_buffer a_equationSide a_ruleRight a_next a_fresh a_ruleLeft a_normalForm a_distance a_queue a_chainWord a_chainEquation a_chainSide a_chainPlace : Nat → Int32}
theorem xk_rb6 (hK : tb_K K T) (hX : tb_X K a_power a_first a_sizes) (hL : L ≤ T) {E : Nat → Nat} {t : Nat} (hE : ∀ i, i < 16 → a_equationSide i = nI (E i)) (ht : t ≤ 8) (hEL : ∀ i, i < 2 * t → ww_n K (E i) ≤ L) {post : SX → Prop}
    (hc : ∀ (c : GC) (f_rules f_agendaTop : Int32) (a_ruleRight a_next a_fresh a_ruleLeft a_normalForm a_agendaOne a_agendaTwo : Nat → Int32), xs_S K T L (eq_Q E t) c f_rules f_agendaTop a_ruleRight a_next a_fresh a_ruleLeft a_normalForm a_agendaOne a_agendaTwo → post (f_letters, nI T, f_capacity, nI L, f_equations, nI t, f_rules, -1, f_agendaTop, f_queueSize, f_chainLength, a_power, a_first, a_sizes, a_buffer, a_equationSide, a_ruleRight, a_next, a_fresh, a_ruleLeft, a_normalForm, a_agendaOne, a_agendaTwo, a_distance, a_queue, a_chainWord, a_chainEquation, a_chainSide, a_chainPlace)) :
    ∀ d e, e + d = t → ∀ n, d < n → ∀ (c : GC) (f_agendaTop : Int32) (a_agendaOne a_agendaTwo : Nat → Int32), gx c a_ruleRight a_next a_fresh a_agendaOne a_agendaTwo f_agendaTop → kb_I K T L (eq_Q E e) c → gc_t c = e →
    wX_rebuild_6 post n (nI e) f_letters (nI T) f_capacity (nI L) f_equations (nI t) f_rules f_confluence f_agendaTop f_queueSize f_chainLength a_power a_first a_sizes a_buffer a_equationSide a_ruleRight a_next a_fresh a_ruleLeft a_normalForm a_agendaOne a_agendaTwo a_distance a_queue a_chainWord a_chainEquation a_chainSide a_chainPlace := by
  intro d
  induction d with
  | zero =>
    intro e he n hn c f_agendaTop a_agendaOne a_agendaTwo hg hI hT
    obtain ⟨m, rfl⟩ : ∃ m, n = m + 1 := ⟨n - 1, by omega⟩
    have : e = t := by omega
    subst this
    exact br_t (nI_le (by omega) (by omega)) (xk_complete hK hX hL hg hI (by omega) hc)
  | succ d ih =>
    intro e he n hn c f_agendaTop a_agendaOne a_agendaTwo hg hI hT
    obtain ⟨m, rfl⟩ : ∃ m, n = m + 1 := ⟨n - 1, by omega⟩
    have i0 : (2 : Int32) * nI e + 0 = nI (2 * e) := by
      rw [show (2 : Int32) = nI 2 from rfl, pk_mul, show (0 : Int32) = nI 0 from rfl, nI_add, Nat.add_zero]
    have i1 : (2 : Int32) * nI e + 1 = nI (2 * e + 1) := by
      rw [show (2 : Int32) = nI 2 from rfl, pk_mul, nI_1]
    refine br_f (nI_ge (by omega) (by omega)) ?_
    rw [i0, i1, nI_clamp (by omega), nI_clamp (by omega), hE _ (by omega), hE _ (by omega)]
    refine ⟨vp_in_nI (by omega) (by decide), vp_in_nI (by omega) (by decide), xk_push hg (by omega) (nm_r (nI_1 e) (ih (e + 1) (by omega) m (by omega) (gc_push c (E (2 * e)) (E (2 * e + 1))) _ _ _ (gx_push hg _ _) ?_ ?_))⟩
    · refine kb_addq hI (fun p q ⟨i, hi, h⟩ => ⟨i, by omega, h⟩) (fun p q ⟨i, hi, h1, h2⟩ => ?_) ⟨e, by omega, rfl, rfl⟩ (hEL _ (by omega)) (hEL _ (by omega))
      rcases Nat.lt_or_ge i e with q' | q'
      · exact Or.inl ⟨i, q', h1, h2⟩
      · have : i = e := by omega
        subst this
        exact Or.inr ⟨h1, h2⟩
    · show gc_t c + 1 = e + 1
      omega
theorem xk_rb (hK : tb_K K T) (hX : tb_X K a_power a_first a_sizes) (hL : L ≤ T) {E : Nat → Nat} {t : Nat} (hE : ∀ i, i < 16 → a_equationSide i = nI (E i)) (ht : t ≤ 8) (hEL : ∀ i, i < 2 * t → ww_n K (E i) ≤ L) {f_agendaTop : Int32} {a_agendaOne a_agendaTwo : Nat → Int32} {post : SX → Prop}
    (hc : ∀ (c : GC) (f_rules f_agendaTop : Int32) (a_ruleRight a_next a_fresh a_ruleLeft a_normalForm a_agendaOne a_agendaTwo : Nat → Int32), xs_S K T L (eq_Q E t) c f_rules f_agendaTop a_ruleRight a_next a_fresh a_ruleLeft a_normalForm a_agendaOne a_agendaTwo → post (f_letters, nI T, f_capacity, nI L, f_equations, nI t, f_rules, -1, f_agendaTop, f_queueSize, f_chainLength, a_power, a_first, a_sizes, a_buffer, a_equationSide, a_ruleRight, a_next, a_fresh, a_ruleLeft, a_normalForm, a_agendaOne, a_agendaTwo, a_distance, a_queue, a_chainWord, a_chainEquation, a_chainSide, a_chainPlace)) :
    wpX_rebuild post (f_letters, nI T, f_capacity, nI L, f_equations, nI t, f_rules, f_confluence, f_agendaTop, f_queueSize, f_chainLength, a_power, a_first, a_sizes, a_buffer, a_equationSide, a_ruleRight, a_next, a_fresh, a_ruleLeft, a_normalForm, a_agendaOne, a_agendaTwo, a_distance, a_queue, a_chainWord, a_chainEquation, a_chainSide, a_chainPlace) := by
  unfold wpX_rebuild
  refine xk_cr ?_
  intro a_ruleRight a_next a_fresh h
  refine ⟨t + 1, xk_rb6 hK hX hL hE ht hEL hc t 0 (by omega) _ (by omega) gc_0 _ _ _ h ?_ rfl⟩
  exact kb_nil (tb_2 hK) (fun p q ⟨e, he, _⟩ => by omega) (fun _ => rfl) (fun _ => rfl) (fun _ => rfl) rfl
end
end
section
/-! The reference's word methods. -/
section
variable {K T L : Nat} {f_top f_capacity f_level f_count f_taken f_chainN : Int32} {a_buffer a_equation a_least a_ruleLeft a_chainWord a_chainStep a_old a_dist a_link a_last : Nat → Int32}
theorem yl_lenL (hK : tb_K K T) {post : Int32 → Prop} {w : Nat} (hw : w < ww_f K 15) (hp : post (nI (ww_n K w))) :
    ∀ d i, i + d = 14 → ww_f K i ≤ w → ∀ n, d < n → wY_length_7 post (nI w) (nI K) f_top f_capacity f_level f_count f_taken f_chainN a_buffer a_equation a_least a_ruleLeft a_chainWord a_chainStep a_old a_dist a_link a_last n (nI i) (nI (ww_f K (i + 1))) (nI i) := by
  have h2 := tb_2 hK
  have h31 := tb_w hK hw
  intro d
  induction d with
  | zero =>
    intro i hi hf n hn
    obtain ⟨m, rfl⟩ : ∃ m, n = m + 1 := ⟨n - 1, by omega⟩
    have e : i = 14 := by omega
    subst e
    exact br_f (nI_ge (b := 16) (by omega) (by decide)) (br_t (nI_lt hw (tb_f hK (by omega))) (by rw [← ww_nu h2 hf hw]; exact hp))
  | succ d ih =>
    intro i hi hf n hn
    obtain ⟨m, rfl⟩ : ∃ m, n = m + 1 := ⟨n - 1, by omega⟩
    rcases Nat.lt_or_ge w (ww_f K (i + 1)) with z | z
    · exact br_f (nI_ge (b := 16) (by omega) (by decide)) (br_t (nI_lt z (tb_f hK (by omega))) (by rw [← ww_nu h2 hf z]; exact hp))
    · have e : nI (ww_f K (i + 1)) * nI K + 1 = nI (ww_f K (i + 1 + 1)) := by rw [pk_mul, nI_1]; rfl
      exact br_f (nI_ge (b := 16) (by omega) (by decide)) (br_f (nI_nlt z h31) (nm_r e (nm_r (nI_1 i) (nm_r (nI_1 i) (ih (i + 1) (by omega) z m (by omega))))))
theorem yl_len (hK : tb_K K T) {post : Int32 → Prop} {w : Nat} (hw : w < ww_f K 15) (hp : post (nI (ww_n K w))) : wpY_length post (nI K, f_top, f_capacity, f_level, f_count, f_taken, f_chainN, a_buffer, a_equation, a_least, a_ruleLeft, a_chainWord, a_chainStep, a_old, a_dist, a_link, a_last) (nI w) := by
  unfold wpY_length
  have key : ∀ z : Int32, z = nI (ww_f K (0 + 1)) → wY_length_7 post (nI w) (nI K) f_top f_capacity f_level f_count f_taken f_chainN a_buffer a_equation a_least a_ruleLeft a_chainWord a_chainStep a_old a_dist a_link a_last 15 0 z 0 := by
    intro z hz; subst hz
    exact yl_lenL hK hw hp 14 0 rfl (Nat.zero_le _) 15 (by decide)
  exact ⟨15, key 1 (by rw [show ww_f K (0 + 1) = 1 by simp [ww_f]]; rfl)⟩
theorem yl_powL {post : Int32 → Prop} {n : Nat} (hn31 : n < 2 ^ 31) (hp : post (nI (K ^ n))) : ∀ d i, i + d = n → ∀ m, d < m → wY_power_4 post (nI n) (nI K) f_top f_capacity f_level f_count f_taken f_chainN a_buffer a_equation a_least a_ruleLeft a_chainWord a_chainStep a_old a_dist a_link a_last m (nI (K ^ i)) (nI i) := by
  intro d
  induction d with
  | zero =>
    intro i hi m hm
    obtain ⟨k, rfl⟩ : ∃ k, m = k + 1 := ⟨m - 1, by omega⟩
    have : i = n := by omega
    subst this
    exact br_t (nI_le (Nat.le_refl _) hn31) hp
  | succ d ih =>
    intro i hi m hm
    obtain ⟨k, rfl⟩ : ∃ k, m = k + 1 := ⟨m - 1, by omega⟩
    have e : nI (K ^ i) * nI K = nI (K ^ (i + 1)) := by rw [pk_mul, Nat.pow_succ]
    exact br_f (nI_ge (by omega) (by omega)) (nm_r e (nm_r (nI_1 i) (ih (i + 1) (by omega) k (by omega))))
theorem yl_pow {post : Int32 → Prop} {n : Nat} (hn31 : n < 2 ^ 31) (hp : post (nI (K ^ n))) : wpY_power post (nI K, f_top, f_capacity, f_level, f_count, f_taken, f_chainN, a_buffer, a_equation, a_least, a_ruleLeft, a_chainWord, a_chainStep, a_old, a_dist, a_link, a_last) (nI n) := by
  unfold wpY_power
  have key : ∀ z : Int32, z = nI (K ^ 0) → wY_power_4 post (nI n) (nI K) f_top f_capacity f_level f_count f_taken f_chainN a_buffer a_equation a_least a_ruleLeft a_chainWord a_chainStep a_old a_dist a_link a_last (n + 1) z 0 := by
    intro z hz; subst hz
    exact yl_powL hn31 hp n 0 (by omega) (n + 1) (by omega)
  exact ⟨n + 1, key 1 (by rw [Nat.pow_zero]; rfl)⟩
theorem yl_sizL {post : Int32 → Prop} {n : Nat} (hn31 : n + 1 < 2 ^ 31) (hp : post (nI (ww_f K (n + 1)))) : ∀ d i, i + d = n + 1 → ∀ m, d < m → wY_size_7 post (nI n) (nI K) f_top f_capacity f_level f_count f_taken f_chainN a_buffer a_equation a_least a_ruleLeft a_chainWord a_chainStep a_old a_dist a_link a_last m (nI (ww_f K i)) (nI (K ^ i)) (nI i) := by
  intro d
  induction d with
  | zero =>
    intro i hi m hm
    obtain ⟨k, rfl⟩ : ∃ k, m = k + 1 := ⟨m - 1, by omega⟩
    have : i = n + 1 := by omega
    subst this
    exact br_t (nI_lt (by omega) hn31) hp
  | succ d ih =>
    intro i hi m hm
    obtain ⟨k, rfl⟩ : ∃ k, m = k + 1 := ⟨m - 1, by omega⟩
    have e : nI (K ^ i) * nI K = nI (K ^ (i + 1)) := by rw [pk_mul, Nat.pow_succ]
    have e2 : nI (ww_f K i) + nI (K ^ i) = nI (ww_f K (i + 1)) := by rw [nI_add, ww_f1]
    exact br_f (nI_nlt (by omega) (by omega)) (nm_r e2 (nm_r e (nm_r (nI_1 i) (ih (i + 1) (by omega) k (by omega)))))
theorem yl_siz {post : Int32 → Prop} {n : Nat} (hn31 : n + 1 < 2 ^ 31) (hp : post (nI (ww_f K (n + 1)))) : wpY_size post (nI K, f_top, f_capacity, f_level, f_count, f_taken, f_chainN, a_buffer, a_equation, a_least, a_ruleLeft, a_chainWord, a_chainStep, a_old, a_dist, a_link, a_last) (nI n) := by
  unfold wpY_size
  have key : ∀ z : Int32, z = nI (K ^ 0) → wY_size_7 post (nI n) (nI K) f_top f_capacity f_level f_count f_taken f_chainN a_buffer a_equation a_least a_ruleLeft a_chainWord a_chainStep a_old a_dist a_link a_last (n + 2) 0 z 0 := by
    intro z hz; subst hz
    exact yl_sizL hn31 hp (n + 1) 0 (by omega) (n + 2) (by omega)
  exact ⟨n + 2, key 1 (by rw [Nat.pow_zero]; rfl)⟩
theorem yl_siz0 {post : Int32 → Prop} (hp : post 0) : wpY_size post (nI K, f_top, f_capacity, f_level, f_count, f_taken, f_chainN, a_buffer, a_equation, a_least, a_ruleLeft, a_chainWord, a_chainStep, a_old, a_dist, a_link, a_last) (-1) := by
  unfold wpY_size
  exact ⟨1, br_t (by decide) hp⟩
theorem yl_join (hK : tb_K K T) {post : Int32 → Prop} {u v : Nat} (hv : v < ww_f K 15) (hp : post (nI (ww_c K u v))) : wpY_join post (nI K, f_top, f_capacity, f_level, f_count, f_taken, f_chainN, a_buffer, a_equation, a_least, a_ruleLeft, a_chainWord, a_chainStep, a_old, a_dist, a_link, a_last) (nI u) (nI v) := by
  unfold wpY_join
  have hn := tb_n hK hv
  refine yl_len hK hv (yl_pow (by omega) ?_)
  rw [pk_mul, nI_add]
  exact hp
theorem yl_preL (hK : tb_K K T) {post : Int32 → Prop} {u : Nat} (hp : post (nI u)) : ∀ d v, ww_n K v = d → ww_c K u v < ww_f K 15 → ∀ n, d < n → wY_prefix_9 post (nI (ww_n K u)) (nI K) f_top f_capacity f_level f_count f_taken f_chainN a_buffer a_equation a_least a_ruleLeft a_chainWord a_chainStep a_old a_dist a_link a_last n (nI (ww_c K u v)) (nI (ww_n K (ww_c K u v))) := by
  have h2 := tb_2 hK
  intro d
  induction d with
  | zero =>
    intro v hv hw n hn
    obtain ⟨m, rfl⟩ : ∃ m, n = m + 1 := ⟨n - 1, by omega⟩
    have hl := tb_n hK hw
    have v0 := ww_n00 h2 hv
    subst v0
    rw [ww_c0] at hl ⊢
    exact br_t (nI_le (Nat.le_refl _) (by omega)) hp
  | succ d ih =>
    intro v hv hw n hn
    obtain ⟨m, rfl⟩ : ∃ m, n = m + 1 := ⟨n - 1, by omega⟩
    have hl := tb_n hK hw
    obtain ⟨v', x, e, h1, h3, hn'⟩ := ww_last h2 (w := v) (by omega)
    have e2 : ww_c K u v = ww_c K u v' * K + x := by rw [e, ← ww_ca h2, ww_cx1 h2 _ h1 h3]
    have hb := tb_w hK hw
    have ln : ww_n K (ww_c K u v) = ww_n K (ww_c K u v') + 1 := by rw [ww_cn h2, ww_cn h2]; omega
    have hw' : ww_c K u v' < ww_f K 15 := tb_ln hK (by omega)
    have c1 := ww_cn h2 u v'
    have hk3 := tb_3 hK
    have dv : (ww_c K u v - 1) / K = ww_c K u v' := by
      have e3 : ww_c K u v - 1 = (x - 1) + K * ww_c K u v' := by rw [e2, Nat.mul_comm]; omega
      rw [e3, Nat.add_mul_div_left _ _ (by omega), Nat.div_eq_of_lt (by omega)]; omega
    have e4 : (nI (ww_c K u v) - 1) / nI K = nI (ww_c K u v') := by
      rw [show (1 : Int32) = nI 1 from rfl, pk_sub (by omega), pk_div (by omega) (by omega) (by omega), dv]
    refine br_f (nI_ge (by omega) (by omega)) ⟨nI_ne0 (by omega) (by omega), nm_r e4 (nm_r (e' := nI (ww_n K (ww_c K u v'))) (by rw [ln]; exact pk_m1 _) (ih v' (by omega) hw' m (by omega)))⟩
theorem yl_pre (hK : tb_K K T) {post : Int32 → Prop} {w u v : Nat} (hw : w < ww_f K 15) (e : w = ww_c K u v) (hp : post (nI u)) : wpY_prefix post (nI K, f_top, f_capacity, f_level, f_count, f_taken, f_chainN, a_buffer, a_equation, a_least, a_ruleLeft, a_chainWord, a_chainStep, a_old, a_dist, a_link, a_last) (nI w) (nI (ww_n K u)) := by
  unfold wpY_prefix
  refine yl_len hK hw ⟨ww_n K v + 1, ?_⟩
  subst e
  exact yl_preL hK hp (ww_n K v) v rfl hw _ (by omega)
theorem yl_fac (hK : tb_K K T) {post : Int32 → Prop} {w a f b : Nat} (hw : w < ww_f K 15) (e : w = ww_c K a (ww_c K f b)) (hp : post (nI f)) : wpY_factor post (nI K, f_top, f_capacity, f_level, f_count, f_taken, f_chainN, a_buffer, a_equation, a_least, a_ruleLeft, a_chainWord, a_chainStep, a_old, a_dist, a_link, a_last) (nI w) (nI (ww_n K a)) (nI (ww_n K f)) := by
  have h2 := tb_2 hK
  have hn := tb_n hK hw
  unfold wpY_factor
  have e2 : w = ww_c K (ww_c K a f) b := by rw [ww_ca h2]; exact e
  have l := congrArg (ww_n K) e2
  rw [ww_cn h2, ww_cn h2] at l
  rw [nI_add, ← ww_cn h2]
  refine yl_pre hK hw e2 (yl_pre hK (tb_ln hK (by rw [ww_cn h2]; omega)) rfl (yl_pow (by omega) ?_))
  rw [pk_mul, pk_sub (by unfold ww_c; omega)]
  have : ww_c K a f - a * K ^ ww_n K f = f := by unfold ww_c; omega
  rw [this]; exact hp
end
end
section
/-! The reference's relation: merging, closing, left sides. -/
def yl_g (ls : Nat → Nat) (a_least : Nat → Int32) : Prop := ∀ w, w < 127 → a_least w = nI (ls w)
def yl_hi (a b : Nat) : Nat := if b ≤ a then a else b
def yl_lo (a b : Nat) : Nat := if b ≤ a then b else a
def yl_m (ls : Nat → Nat) (u v : Nat) : Nat → Nat := fun w => if ls w = yl_hi (ls u) (ls v) then yl_lo (ls u) (ls v) else ls w
def yl_P (K L : Nat) (Q : Nat → Nat → Prop) (ls : Nat → Nat) : Prop := ∀ w, w < 127 → ls w ≤ w ∧ ls (ls w) = ls w ∧ rl_r K L Q w (ls w)
def yl_le (ls ls' : Nat → Nat) : Prop := ∀ u v, ls u = ls v → ls' u = ls' v
noncomputable def yl_c (ls : Nat → Nat) : Nat := cq_n (fun w => ls w = w) 127
theorem yl_lh (a b : Nat) : (yl_lo a b = a ∧ yl_hi a b = b ∧ a ≤ b) ∨ (yl_lo a b = b ∧ yl_hi a b = a ∧ b ≤ a) := by
  unfold yl_lo yl_hi
  rcases Nat.lt_or_ge a b with z | z
  · rw [if_neg (by omega), if_neg (by omega)]; exact Or.inl ⟨rfl, rfl, by omega⟩
  · rw [if_pos z, if_pos z]; exact Or.inr ⟨rfl, rfl, z⟩
theorem yl_mle (ls : Nat → Nat) (u v : Nat) : yl_le ls (yl_m ls u v) := by
  intro x y e; unfold yl_m; rw [e]
theorem yl_muv (ls : Nat → Nat) (u v : Nat) : yl_m ls u v u = yl_m ls u v v := by
  unfold yl_m
  rcases yl_lh (ls u) (ls v) with ⟨e1, e2, _⟩ | ⟨e1, e2, _⟩
  · rw [e1, e2, if_pos rfl]
    rcases Classical.em (ls u = ls v) with z | z
    · rw [if_pos z]
    · rw [if_neg z]
  · rw [e1, e2, if_pos rfl]
    rcases Classical.em (ls v = ls u) with z | z
    · rw [if_pos z]
    · rw [if_neg z]
section
variable {K L : Nat} {Q : Nat → Nat → Prop} {ls : Nat → Nat} {u v : Nat}
theorem yl_mP (h : yl_P K L Q ls) (hu : u < 127) (hv : v < 127) (huv : rl_r K L Q u v) (ne : ls u ≠ ls v) : yl_P K L Q (yl_m ls u v) ∧ yl_c (yl_m ls u v) < yl_c ls := by
  have pu := h u hu
  have pv := h v hv
  have rr : rl_r K L Q (ls u) (ls v) := rl_tr (rl_sy pu.2.2) (rl_tr huv pv.2.2)
  obtain ⟨lo, hi, e1, e2, lt, rlo, rhi, hr⟩ : ∃ lo hi, yl_lo (ls u) (ls v) = lo ∧ yl_hi (ls u) (ls v) = hi ∧ lo < hi ∧ ls lo = lo ∧ (ls hi = hi ∧ hi < 127) ∧ rl_r K L Q hi lo := by
    rcases yl_lh (ls u) (ls v) with ⟨e1, e2, l⟩ | ⟨e1, e2, l⟩
    · exact ⟨ls u, ls v, e1, e2, by omega, pu.2.1, ⟨pv.2.1, by omega⟩, rl_sy rr⟩
    · exact ⟨ls v, ls u, e1, e2, by omega, pv.2.1, ⟨pu.2.1, by omega⟩, rr⟩
  have em : ∀ w, yl_m ls u v w = if ls w = hi then lo else ls w := fun w => by unfold yl_m; rw [e1, e2]
  refine ⟨fun w hw => ?_, ?_⟩
  · have pw := h w hw
    rcases Classical.em (ls w = hi) with z | z
    · rw [em w, if_pos z, em lo, if_neg (by omega)]
      exact ⟨by omega, rlo, rl_tr pw.2.2 (by rw [z]; exact hr)⟩
    · rw [em w, if_neg z, em (ls w), if_neg (by rw [pw.2.1]; exact z)]
      exact pw
  · refine cq_lt (P := fun w => yl_m ls u v w = w) (Q := fun w => ls w = w) (a := hi) ?_ rhi.1 (fun w hw e => ?_) rhi.2
    · rw [em hi, if_pos rhi.1]; omega
    · rw [em w] at e
      rcases Classical.em (ls w = hi) with z | z
      · rw [if_pos z] at e
        subst e
        omega
      · rw [if_neg z] at e; exact e
theorem yl_pos (h : yl_P K L Q ls) : 0 < yl_c ls := cq_pos (P := fun w => ls w = w) (a := 0) (by have := (h 0 (by omega)).1; omega) (by omega)
end
/-- closed for one word -/
def yl_C (K : Nat) (ls : Nat → Nat) (u x : Nat) : Prop := ls (ww_c K (x + 1) u) = ls (ww_c K (x + 1) (ls u)) ∧ ls (u * K + x + 1) = ls (ls u * K + x + 1)
/-- closed: the least words -/
theorem yl_fin {K T L : Nat} {Q : Nat → Nat → Prop} {ls : Nat → Nat} (hK : tb_K K T) (hL : L ≤ T) (h : yl_P K L Q ls) (hQ : ∀ p q, Q p q → p < 127 ∧ q < 127 ∧ ls p = ls q)
    (hC : ∀ u, u < ww_f K L → ls u ≠ u → ∀ x, x < K → yl_C K ls u x) : ∀ w, w < 127 → rl_m K L Q w (ls w) := by
  have h2 := tb_2 hK
  have hC' : ∀ u x, ww_n K u < L → 1 ≤ x → x ≤ K → ls (ww_c K x u) = ls (ww_c K x (ls u)) ∧ ls (ww_c K u x) = ls (ww_c K (ls u) x) := by
    intro u x hu h1 hx
    rcases Classical.em (ls u = u) with z | z
    · rw [z]; exact ⟨rfl, rfl⟩
    · have := hC u ((ww_nlt h2).mp hu) z (x - 1) (by omega)
      unfold yl_C at this
      have e : x - 1 + 1 = x := by omega
      rw [e, Nat.add_assoc, Nat.add_assoc, e] at this
      rw [ww_cx1 h2 _ h1 hx, ww_cx1 h2 _ h1 hx]
      exact this
  have cl : rl_cl K L Q (fun u v => u = v ∨ (u < 127 ∧ v < 127 ∧ ls u = ls v)) := by
    refine ⟨fun _ => Or.inl rfl, ?_, ?_, fun p q e => Or.inr (hQ p q e), ?_⟩
    · rintro x y (e | e)
      · exact Or.inl e.symm
      · exact Or.inr ⟨e.2.1, e.1, e.2.2.symm⟩
    · rintro x y z (e | e) (e' | e')
      · exact Or.inl (e.trans e')
      · rw [e]; exact Or.inr e'
      · rw [← e']; exact Or.inr e
      · exact Or.inr ⟨e.1, e'.2.1, e.2.2.trans e'.2.2⟩
    · rintro x u v h1 hx hu hv (e | e)
      · rw [e]; exact ⟨Or.inl rfl, Or.inl rfl⟩
      · have a := hC' u x hu h1 hx
        have b := hC' v x hv h1 hx
        have nx := ww_n1c h2 h1 hx
        have s : ∀ y, ww_n K y < L → ww_c K x y < 127 ∧ ww_c K y x < 127 := fun y hy => ⟨tb_127 hK (by rw [ww_cn h2]; omega), tb_127 hK (by rw [ww_cn h2]; omega)⟩
        refine ⟨Or.inr ⟨(s u hu).1, (s v hv).1, ?_⟩, Or.inr ⟨(s u hu).2, (s v hv).2, ?_⟩⟩
        · rw [a.1, b.1, e.2.2]
        · rw [a.2, b.2, e.2.2]
  intro w hw
  refine ⟨(h w hw).2.2, fun v hv => ?_⟩
  rcases hv _ cl with e | e
  · rw [← e]; exact (h w hw).1
  · rw [e.2.2]; exact (h v e.2.1).1
section
variable {K T L : Nat} {Q : Nat → Nat → Prop} {f_top f_capacity f_level f_count f_taken f_chainN : Int32} {a_buffer a_equation a_ruleLeft a_chainWord a_chainStep a_old a_dist a_link a_last : Nat → Int32}
theorem yk_54 {ls : Nat → Nat} (hb : ∀ w, w < 127 → ls w < 127) {u v : Nat} (hu : u < 127) (hv : v < 127) {post : Int32 → SY → Prop} {f_letters : Int32}
    (hc : ∀ a_least : Nat → Int32, yl_g (yl_m ls u v) a_least → post 1 (f_letters, f_top, f_capacity, f_level, f_count, f_taken, f_chainN, a_buffer, a_equation, a_least, a_ruleLeft, a_chainWord, a_chainStep, a_old, a_dist, a_link, a_last)) :
    ∀ d j, j + d = 127 → ∀ n, d < n → ∀ a_least : Nat → Int32, (∀ w, w < j → a_least w = nI (yl_m ls u v w)) → (∀ w, w < 127 → j ≤ w → a_least w = nI (ls w)) →
    wY_merge_54 post (nI (yl_lo (ls u) (ls v))) (nI (yl_hi (ls u) (ls v))) f_letters f_top f_capacity f_level f_count f_taken f_chainN n (nI j) a_buffer a_equation a_least a_ruleLeft a_chainWord a_chainStep a_old a_dist a_link a_last := by
  have bl : yl_hi (ls u) (ls v) < 127 := by
    have := hb u hu; have := hb v hv
    rcases yl_lh (ls u) (ls v) with e | e <;> omega
  intro d
  induction d with
  | zero =>
    intro j hj n hn a_least h1 h2
    obtain ⟨m, rfl⟩ : ∃ m, n = m + 1 := ⟨n - 1, by omega⟩
    exact br_t (nI_le (a := 127) (by omega) (by omega)) (hc a_least (fun w hw => h1 w (by omega)))
  | succ d ih =>
    intro j hj n hn a_least h1 h2
    obtain ⟨m, rfl⟩ : ∃ m, n = m + 1 := ⟨n - 1, by omega⟩
    have cl : (nI j).toNatClampNeg = j := nI_clamp (by omega)
    have e := h2 j (by omega) (Nat.le_refl _)
    refine br_f (nI_ge (b := 127) (by omega) (by decide)) ⟨vp_in_nI (by omega) (by decide), ?_⟩
    rw [cl, e]
    have bj := hb j (by omega)
    refine pk_eq (ls j) (yl_hi (ls u) (ls v)) (fun z => ⟨vp_in_nI (by omega) (by decide), nm_e (nm_r (nI_1 j) (ih (j + 1) (by omega) m (by omega) _ (fun w hw => ?_) (fun w hw hj' => ?_)))⟩) (fun z => nm_r (nI_1 j) (ih (j + 1) (by omega) m (by omega) _ (fun w hw => ?_) (fun w hw hj' => h2 w hw (by omega))))
    · rcases Classical.em (w = j) with q | q
      · subst q; rw [pk_us]; unfold yl_m; rw [if_pos z]
      · rw [pk_un q]; exact h1 w (by omega)
    · rw [pk_un (by omega)]; exact h2 w hw (by omega)
    · rcases Classical.em (w = j) with q | q
      · subst q; rw [e]; unfold yl_m; rw [if_neg z]
      · exact h1 w (by omega)
theorem yk_mg {ls : Nat → Nat} {a_least : Nat → Int32} (hg : yl_g ls a_least) (hb : ∀ w, w < 127 → ls w < 127) {u v : Nat} (hu : u < 127) (hv : v < 127) {post : Int32 → SY → Prop} {f_letters : Int32}
    (h0 : ls u = ls v → post 0 (f_letters, f_top, f_capacity, f_level, f_count, f_taken, f_chainN, a_buffer, a_equation, a_least, a_ruleLeft, a_chainWord, a_chainStep, a_old, a_dist, a_link, a_last)) (h1 : ls u ≠ ls v → ∀ a_least : Nat → Int32, yl_g (yl_m ls u v) a_least → post 1 (f_letters, f_top, f_capacity, f_level, f_count, f_taken, f_chainN, a_buffer, a_equation, a_least, a_ruleLeft, a_chainWord, a_chainStep, a_old, a_dist, a_link, a_last)) : wpY_merge post (f_letters, f_top, f_capacity, f_level, f_count, f_taken, f_chainN, a_buffer, a_equation, a_least, a_ruleLeft, a_chainWord, a_chainStep, a_old, a_dist, a_link, a_last) (nI u) (nI v) := by
  have eu : a_least (nI u).toNatClampNeg = nI (ls u) := by rw [nI_clamp (by omega)]; exact hg u hu
  have ev : a_least (nI v).toNatClampNeg = nI (ls v) := by rw [nI_clamp (by omega)]; exact hg v hv
  have bu := hb u hu
  have bv := hb v hv
  unfold wpY_merge
  refine ⟨vp_in_nI hu (by decide), nm_r eu ⟨vp_in_nI hv (by decide), nm_r ev ?_⟩⟩
  refine pk_eq (ls u) (ls v) h0 (fun ne => ?_)
  have k := yk_54 hb hu hv (post := post) (f_letters := f_letters) (h1 ne) 127 0 rfl 128 (by decide) a_least (fun w h => by omega) (fun w h _ => hg w h)
  refine pk_le (ls v) (ls u) (fun le => ?_) (fun lt => ?_)
  · unfold wY_merge_35
    have e1 : yl_lo (ls u) (ls v) = ls v := by unfold yl_lo; rw [if_pos le]
    have e2 : yl_hi (ls u) (ls v) = ls u := by unfold yl_hi; rw [if_pos le]
    rw [e1, e2] at k
    exact br_t (nI_le le (by omega)) ⟨128, k⟩
  · unfold wY_merge_35
    have e1 : yl_lo (ls u) (ls v) = ls u := by unfold yl_lo; rw [if_neg (by omega)]
    have e2 : yl_hi (ls u) (ls v) = ls v := by unfold yl_hi; rw [if_neg (by omega)]
    rw [e1, e2] at k
    exact br_f (nI_ge lt (by omega)) ⟨128, k⟩
end
/-- the outcome of a stretch of merges: nothing changed and it is closed, or fewer classes -/
def yl_O (K L : Nat) (Q : Nat → Nat → Prop) (ls ls' : Nat → Nat) (h h' : Int32) (C : Prop) : Prop :=
  yl_P K L Q ls' ∧ yl_le ls ls' ∧ ((h' = h ∧ ls' = ls ∧ C) ∨ (h' = 1 ∧ yl_c ls' < yl_c ls))
theorem yl_O2 {K L : Nat} {Q : Nat → Nat → Prop} {a b c : Nat → Nat} {h h1 h2 : Int32} {C D F : Prop} (o1 : yl_O K L Q a b h h1 C) (o2 : yl_O K L Q b c h1 h2 D) (hF : b = a → c = a → C → D → F) : yl_O K L Q a c h h2 F := by
  refine ⟨o2.1, fun u v e => o2.2.1 u v (o1.2.1 u v e), ?_⟩
  rcases o1.2.2 with ⟨e1, e2, e3⟩ | ⟨e1, e2⟩
  · rcases o2.2.2 with ⟨k1, k2, k3⟩ | ⟨k1, k2⟩
    · exact Or.inl ⟨k1.trans e1, k2.trans e2, hF e2 (k2.trans e2) e3 k3⟩
    · exact Or.inr ⟨k1, by rw [← e2]; exact k2⟩
  · rcases o2.2.2 with ⟨k1, k2, k3⟩ | ⟨k1, k2⟩
    · exact Or.inr ⟨k1.trans e1, by rw [k2]; exact e2⟩
    · exact Or.inr ⟨k1, by omega⟩
theorem yl_P127 {K L : Nat} {Q : Nat → Nat → Prop} {ls : Nat → Nat} (h : yl_P K L Q ls) : ∀ w, w < 127 → ls w < 127 := fun w hw => by
  have := (h w hw).1; omega
section
variable {K T L : Nat} {Q : Nat → Nat → Prop} {f_top f_capacity f_level f_count f_taken f_chainN : Int32} {a_buffer a_equation a_ruleLeft a_chainWord a_chainStep a_old a_dist a_link a_last : Nat → Int32}
/-- one merge, as an outcome -/
theorem yk_mc {ls : Nat → Nat} {a_least : Nat → Int32} (hg : yl_g ls a_least) (hP : yl_P K L Q ls) {u v : Nat} (hu : u < 127) (hv : v < 127) (huv : rl_r K L Q u v) (h : Int32) {f_letters : Int32} {post : Int32 → SY → Prop}
    (h0 : yl_O K L Q ls ls h h (ls u = ls v) → post 0 (f_letters, f_top, f_capacity, f_level, f_count, f_taken, f_chainN, a_buffer, a_equation, a_least, a_ruleLeft, a_chainWord, a_chainStep, a_old, a_dist, a_link, a_last)) (h1 : ∀ a_least : Nat → Int32, yl_g (yl_m ls u v) a_least → yl_O K L Q ls (yl_m ls u v) h 1 (ls u = ls v) → post 1 (f_letters, f_top, f_capacity, f_level, f_count, f_taken, f_chainN, a_buffer, a_equation, a_least, a_ruleLeft, a_chainWord, a_chainStep, a_old, a_dist, a_link, a_last)) :
    wpY_merge post (f_letters, f_top, f_capacity, f_level, f_count, f_taken, f_chainN, a_buffer, a_equation, a_least, a_ruleLeft, a_chainWord, a_chainStep, a_old, a_dist, a_link, a_last) (nI u) (nI v) := by
  refine yk_mg hg (yl_P127 hP) hu hv (fun e => h0 ⟨hP, fun _ _ e => e, Or.inl ⟨rfl, rfl, e⟩⟩) (fun ne a_least' hg' => ?_)
  have k := yl_mP hP hu hv huv ne
  exact h1 _ hg' ⟨k.1, yl_mle _ _ _, Or.inr ⟨rfl, k.2⟩⟩
end
section
variable {K T L : Nat} {Q : Nat → Nat → Prop} {f_top f_capacity f_level f_count f_taken f_chainN : Int32} {a_buffer a_equation a_ruleLeft a_chainWord a_chainStep a_old a_dist a_link a_last : Nat → Int32}
theorem yk_108 (hK : tb_K K T) (hL : L ≤ T) {u v : Nat} (hu : ww_n K u < L) (hvu : v ≤ u) (huv : rl_r K L Q u v) {x1 x3 : Int32} {post : SY → Prop} {J75 J90 : (Int32 → Int32 → Int32 → Int32 → Int32 → Int32 → Int32 → Int32 → Int32 → (Nat → Int32) → (Nat → Int32) → (Nat → Int32) → (Nat → Int32) → (Nat → Int32) → (Nat → Int32) → (Nat → Int32) → (Nat → Int32) → (Nat → Int32) → (Nat → Int32) → Prop)} :
    ∀ d x, x + d = K → ∀ n, d < n → ∀ (ls : Nat → Nat) (a_least : Nat → Int32) (h : Int32), yl_g ls a_least → yl_P K L Q ls →
    (∀ (ls' : Nat → Nat) (a_least : Nat → Int32) (h' : Int32), yl_g ls' a_least → yl_O K L Q ls ls' h h' (v ≠ u → ∀ y, x ≤ y → y < K → ls (ww_c K (y + 1) u) = ls (ww_c K (y + 1) v) ∧ ls (u * K + y + 1) = ls (v * K + y + 1)) → J90 h' (nI (u + 1)) (nI K) f_top f_capacity f_level f_count f_taken f_chainN a_buffer a_equation a_least a_ruleLeft a_chainWord a_chainStep a_old a_dist a_link a_last) →
    wY_relate_108 post J75 J90 x1 x3 (nI u) (nI v) n h (nI x) (nI K) f_top f_capacity f_level f_count f_taken f_chainN a_buffer a_equation a_least a_ruleLeft a_chainWord a_chainStep a_old a_dist a_link a_last := by
  have h2 := tb_2 hK
  have hk3 := tb_3 hK
  have hT := tb_T hK
  have hv : ww_n K v < L := Nat.lt_of_le_of_lt (ww_nm h2 hvu) hu
  have u127 : u < 127 := tb_127 hK (by omega)
  intro d
  induction d with
  | zero =>
    intro x hx n hn ls a_least h hg hP hc
    obtain ⟨m, rfl⟩ : ∃ m, n = m + 1 := ⟨n - 1, by omega⟩
    exact br_t (nI_le (by omega) (by omega)) (nm_r (nI_1 u) (hc ls a_least h hg ⟨hP, fun _ _ e => e, Or.inl ⟨rfl, rfl, fun _ y h3 h4 => by omega⟩⟩))
  | succ d ih =>
    intro x hx n hn ls a_least h hg hP hc
    obtain ⟨m, rfl⟩ : ∃ m, n = m + 1 := ⟨n - 1, by omega⟩
    refine br_f (nI_ge (by omega) (by omega)) (pk_eq v u (fun e => nm_r (nI_1 u) (hc ls a_least h hg ⟨hP, fun _ _ e => e, Or.inl ⟨rfl, rfl, fun q => absurd e q⟩⟩)) (fun ne => ?_))
    have a1 : 1 ≤ x + 1 := by omega
    have a2 : x + 1 ≤ K := by omega
    have nx := ww_n1c h2 a1 a2
    have rr := (rl_self K L Q).2.2.2.2 (x + 1) u v a1 a2 hu hv huv
    rw [ww_cx1 h2 u a1 a2, ww_cx1 h2 v a1 a2, ← Nat.add_assoc, ← Nat.add_assoc] at rr
    have b1 : ww_c K (x + 1) u < 127 := tb_127 hK (by rw [ww_cn h2]; omega)
    have b2 : ww_c K (x + 1) v < 127 := tb_127 hK (by rw [ww_cn h2]; omega)
    have b3 : u * K + x + 1 < 127 := by
      have := tb_127 hK (w := ww_c K u (x + 1)) (by rw [ww_cn h2]; omega)
      rw [ww_cx1 h2 u a1 a2] at this; omega
    have b4 : v * K + x + 1 < 127 := by
      have := tb_127 hK (w := ww_c K v (x + 1)) (by rw [ww_cn h2]; omega)
      rw [ww_cx1 h2 v a1 a2] at this; omega
    have e3 : nI u * nI K + nI x + 1 = nI (u * K + x + 1) := by rw [pk_mul, nI_add, nI_1]
    have e4 : nI v * nI K + nI x + 1 = nI (v * K + x + 1) := by rw [pk_mul, nI_add, nI_1]
    rw [nI_1]
    refine yl_join hK (tb_big hK u127) (yl_join hK (tb_big hK (by omega)) (nm_r e3 (nm_r e4 ?_)))
    have second : ∀ (ls1 : Nat → Nat) (a_least : Nat → Int32) (h1 : Int32), yl_g ls1 a_least → yl_O K L Q ls ls1 h h1 (ls (ww_c K (x + 1) u) = ls (ww_c K (x + 1) v)) →
        wY_relate_189 post J75 J90 (wY_relate_108 post J75 J90 x1 x3 (nI u) (nI v) m) x1 h1 x3 (nI u) (nI v) (nI x) (nI (u * K + x + 1)) (nI (v * K + x + 1)) (nI K) f_top f_capacity f_level f_count f_taken f_chainN a_buffer a_equation a_least a_ruleLeft a_chainWord a_chainStep a_old a_dist a_link a_last := by
      intro ls1 a_least h1 g1 o1
      unfold wY_relate_189
      have third : ∀ (ls2 : Nat → Nat) (a_least : Nat → Int32) (h3 : Int32), yl_g ls2 a_least → yl_O K L Q ls1 ls2 h1 h3 (ls1 (u * K + x + 1) = ls1 (v * K + x + 1)) →
          ∀ x6 : Int32, x6 = nI x + 1 → wY_relate_108 post J75 J90 x1 x3 (nI u) (nI v) m h3 x6 (nI K) f_top f_capacity f_level f_count f_taken f_chainN a_buffer a_equation a_least a_ruleLeft a_chainWord a_chainStep a_old a_dist a_link a_last := by
        intro ls2 a_least h3 g2 o2
        refine nm_r (nI_1 x) (ih (x + 1) (by omega) m (by omega) ls2 a_least h3 g2 o2.1 ?_)
        intro ls' a_least h' g' o'
        refine hc ls' a_least h' g' (yl_O2 (yl_O2 o1 o2 (F := ls (ww_c K (x + 1) u) = ls (ww_c K (x + 1) v) ∧ ls (u * K + x + 1) = ls (v * K + x + 1)) (fun q _ c1 c2 => ⟨c1, by rw [q] at c2; exact c2⟩)) o' (fun q _ c1 c2 ne y hy hyK => ?_))
        rw [q] at c2
        rcases Nat.lt_or_ge x y with z | z
        · exact c2 ne y z hyK
        · have : y = x := by omega
          rw [this]; exact c1
      exact yk_mc g1 o1.1 b3 b4 rr.2 h1 (fun o => br_t rfl (third _ _ _ g1 o)) (fun a_least g o => br_f (by decide) (third _ _ _ g o))
    exact yk_mc hg hP b1 b2 rr.1 h (fun o => br_t rfl (second _ _ _ hg o)) (fun a_least g o => br_f (by decide) (second _ _ _ g o))
theorem yk_90 (hK : tb_K K T) (hL : L ≤ T) (hL0 : 1 ≤ L) {x3 : Nat} {post : SY → Prop} {J75 : (Int32 → Int32 → Int32 → Int32 → Int32 → Int32 → Int32 → Int32 → Int32 → (Nat → Int32) → (Nat → Int32) → (Nat → Int32) → (Nat → Int32) → (Nat → Int32) → (Nat → Int32) → (Nat → Int32) → (Nat → Int32) → (Nat → Int32) → (Nat → Int32) → Prop)} :
    ∀ d u, u + d = ww_f K L → ∀ n, d < n → ∀ (ls : Nat → Nat) (a_least : Nat → Int32) (h : Int32), yl_g ls a_least → yl_P K L Q ls →
    (∀ (ls' : Nat → Nat) (a_least : Nat → Int32) (h' : Int32), yl_g ls' a_least → yl_O K L Q ls ls' h h' (∀ w, u ≤ w → w < ww_f K L → ls w ≠ w → ∀ x, x < K → yl_C K ls w x) → J75 h' (nI (x3 + 1)) (nI K) f_top f_capacity f_level f_count f_taken f_chainN a_buffer a_equation a_least a_ruleLeft a_chainWord a_chainStep a_old a_dist a_link a_last) →
    wY_relate_90 post J75 (nI (ww_f K L)) (nI x3) n h (nI u) (nI K) f_top f_capacity f_level f_count f_taken f_chainN a_buffer a_equation a_least a_ruleLeft a_chainWord a_chainStep a_old a_dist a_link a_last := by
  have h2 := tb_2 hK
  have cnt : ww_f K L ≤ 127 := Nat.le_trans (ww_fle h2 (by omega)) (tb_f7 hK).2.2
  intro d
  induction d with
  | zero =>
    intro u hu n hn ls a_least h hg hP hc
    obtain ⟨m, rfl⟩ : ∃ m, n = m + 1 := ⟨n - 1, by omega⟩
    exact br_t (nI_le (by omega) (by omega)) (nm_r (nI_1 x3) (hc ls a_least h hg ⟨hP, fun _ _ e => e, Or.inl ⟨rfl, rfl, fun w h3 h4 => by omega⟩⟩))
  | succ d ih =>
    intro u hu n hn ls a_least h hg hP hc
    obtain ⟨m, rfl⟩ : ∃ m, n = m + 1 := ⟨n - 1, by omega⟩
    have e : a_least (nI u).toNatClampNeg = nI (ls u) := by rw [nI_clamp (by omega)]; exact hg u (by omega)
    have pu := hP u (by omega)
    refine br_f (nI_ge (by omega) (by omega)) ⟨vp_in_nI (by omega) (by decide), nm_r e ⟨K + 1, ?_⟩⟩
    refine yk_108 hK hL ((ww_nlt h2).mpr (by omega)) pu.1 pu.2.2 K 0 (by omega) _ (by omega) ls a_least h hg hP ?_
    intro ls1 a_least h1 g1 o1
    refine ih (u + 1) (by omega) m (by omega) ls1 a_least h1 g1 o1.1 ?_
    intro ls' a_least h' g' o'
    refine hc ls' a_least h' g' (yl_O2 o1 o' (fun q _ c1 c2 w hw hw2 ne x hx => ?_))
    rw [q] at c2
    rcases Nat.lt_or_ge u w with z | z
    · exact c2 w z hw2 ne x hx
    · have : w = u := by omega
      subst this
      exact c1 (fun q => ne q) x (Nat.zero_le _) hx
theorem yk_75 (hK : tb_K K T) (hL : L ≤ T) (hL0 : 1 ≤ L) {post : SY → Prop} :
    ∀ d p, p + d = 128 → ∀ n, d + 1 < n → ∀ (ls : Nat → Nat) (a_least : Nat → Int32), yl_g ls a_least → yl_P K L Q ls → yl_c ls ≤ d →
    (∀ (ls' : Nat → Nat) (a_least : Nat → Int32), yl_g ls' a_least → yl_P K L Q ls' → yl_le ls ls' → (∀ w, w < ww_f K L → ls' w ≠ w → ∀ x, x < K → yl_C K ls' w x) → ∃ n222, wY_relate_222 post (nI K) f_top f_capacity f_level f_count f_taken f_chainN n222 0 a_buffer a_equation a_least a_ruleLeft a_chainWord a_chainStep a_old a_dist a_link a_last) →
    wY_relate_75 post (nI (ww_f K L)) n 1 (nI p) (nI K) f_top f_capacity f_level f_count f_taken f_chainN a_buffer a_equation a_least a_ruleLeft a_chainWord a_chainStep a_old a_dist a_link a_last := by
  intro d
  induction d with
  | zero =>
    intro p hp n hn ls a_least hg hP hB hc
    have := yl_pos hP
    omega
  | succ d ih =>
    intro p hp n hn ls a_least hg hP hB hc
    obtain ⟨m, rfl⟩ : ∃ m, n = m + 2 := ⟨n - 2, by omega⟩
    refine br_f (nI_nlt (a := 127) (by omega) (by decide)) (br_f (by decide) ⟨ww_f K L + 1, ?_⟩)
    refine yk_90 hK hL hL0 (ww_f K L) 0 (by omega) _ (by omega) ls a_least 0 hg hP ?_
    intro ls1 a_least h1 g1 o1
    rcases o1.2.2 with ⟨e1, e2, e3⟩ | ⟨e1, e2⟩
    · subst e1
      have fin := hc ls1 a_least g1 o1.1 o1.2.1 (fun w hw => by rw [e2]; exact e3 w (Nat.zero_le _) hw)
      rcases Nat.lt_or_ge 127 (p + 1) with q | q
      · exact br_t (nI_lt (a := 127) q (by omega)) fin
      · exact br_f (nI_nlt (a := 127) q (by decide)) (br_t rfl fin)
    · subst e1
      exact ih (p + 1) (by omega) (m + 1) (by omega) ls1 a_least g1 o1.1 (by omega) (fun ls' a_least g' p' l' c' => hc ls' a_least g' p' (fun x y e => l' x y (o1.2.1 x y e)) c')
end
end
section
/-! The reference's left sides and its whole relation. -/
noncomputable def yb (P : Prop) : Int32 := @ite Int32 P (Classical.propDecidable P) 1 0
theorem yb_t {P : Prop} (h : P) : yb P = 1 := by unfold yb; rw [if_pos h]
theorem yb_f {P : Prop} (h : ¬ P) : yb P = 0 := by unfold yb; rw [if_neg h]
theorem yb_0 {P : Prop} : yb P = 0 ↔ ¬ P := by
  rcases Classical.em P with h | h
  · rw [yb_t h]; exact ⟨fun q => absurd q (by decide), fun q => absurd h q⟩
  · rw [yb_f h]; exact ⟨fun _ => h, fun _ => rfl⟩
theorem yb_e {P Q : Prop} (h : P ↔ Q) : yb P = yb Q := by
  rcases Classical.em P with z | z
  · rw [yb_t z, yb_t (h.mp z)]
  · rw [yb_f z, yb_f (fun q => z (h.mpr q))]
def yl_D (K : Nat) (ls : Nat → Nat) (p n q : Nat) : Prop := ls p ≠ p ∧ ∀ a f b, p = ww_c K a (ww_c K f b) → (ww_n K f < n ∨ (ww_n K f = n ∧ ww_n K a < q)) → ls f = f
section
variable {K T : Nat} {ls : Nat → Nat} {p : Nat} {f_top f_capacity f_level f_count f_taken f_chainN : Int32} {a_buffer a_equation a_least a_chainWord a_chainStep a_old a_dist a_link a_last : Nat → Int32}
theorem yl_D1 (hK : 2 ≤ K) {n : Nat} : yl_D K ls p (n + 1) 0 ↔ yl_D K ls p n (ww_n K p - n + 1) := by
  constructor
  · rintro ⟨h, h'⟩
    exact ⟨h, fun a f b e z => h' a f b e (by omega)⟩
  · rintro ⟨h, h'⟩
    refine ⟨h, fun a f b e z => h' a f b e ?_⟩
    have l := congrArg (ww_n K) e
    rw [ww_cn hK, ww_cn hK] at l
    omega
theorem yl_Dm {n q n' q' : Nat} (h : n < n' ∨ (n = n' ∧ q ≤ q')) (d : yl_D K ls p n' q') : yl_D K ls p n q :=
  ⟨d.1, fun a f b e z => d.2 a f b e (by omega)⟩
theorem yk_278 (hK : tb_K K T) (hp : p < 127) {a_least' : Nat → Int32} (hg : yl_g ls a_least) (hb : ∀ w, w < 127 → ls w < 127) {post : SY → Prop} {J222 J259 : (Int32 → (Nat → Int32) → (Nat → Int32) → (Nat → Int32) → (Nat → Int32) → (Nat → Int32) → (Nat → Int32) → (Nat → Int32) → (Nat → Int32) → (Nat → Int32) → (Nat → Int32) → Prop)} {n : Nat} (hn : n < ww_n K p)
    (hc : ∀ a_ruleLeft : Nat → Int32, (∀ w, w < p → a_ruleLeft w = yb (rl_red K ls w)) → a_ruleLeft p = yb (yl_D K ls p (n + 1) 0) → J259 (nI (n + 1)) a_buffer a_equation a_least a_ruleLeft a_chainWord a_chainStep a_old a_dist a_link a_last) :
    ∀ d q, q + d = ww_n K p - n + 1 → ∀ m, d < m → ∀ a_ruleLeft : Nat → Int32, (∀ w, w < p → a_ruleLeft w = yb (rl_red K ls w)) → a_ruleLeft p = yb (yl_D K ls p n q) →
    wY_relate_278 post J222 J259 (nI p) (nI (ww_n K p)) (nI n) (nI K) f_top f_capacity f_level f_count f_taken f_chainN m (nI q) a_buffer a_equation a_least a_ruleLeft a_chainWord a_chainStep a_old a_dist a_link a_last := by
  have h2 := tb_2 hK
  have l6 := tb_n6 hK hp
  intro d
  induction d with
  | zero =>
    intro q hq m hm a_ruleLeft ho hp'
    obtain ⟨k, rfl⟩ : ∃ k, m = k + 1 := ⟨m - 1, by omega⟩
    have eq : q = ww_n K p - n + 1 := by omega
    subst eq
    refine br_t (by rw [nI_add]; exact nI_lt (by omega) (by omega)) (nm_r (nI_1 n) (hc a_ruleLeft ho ?_))
    rw [hp']; exact yb_e (yl_D1 h2).symm
  | succ d ih =>
    intro q hq m hm a_ruleLeft ho hp'
    obtain ⟨k, rfl⟩ : ∃ k, m = k + 1 := ⟨m - 1, by omega⟩
    have cl : (nI p).toNatClampNeg = p := nI_clamp (by omega)
    refine br_f (by rw [nI_add]; exact nI_nlt (by omega) (by omega)) ⟨vp_in_nI hp (by decide), ?_⟩
    rw [cl, hp']
    rcases Classical.em (yl_D K ls p n q) with z | z
    · refine br_f (by rw [yb_t z]; decide) ?_
      obtain ⟨a, w1, e1, e2, e3⟩ := ww_sp h2 (w := p) (m := q) (n := ww_n K p - q) (by omega)
      obtain ⟨f, b, e4, e5, e6⟩ := ww_sp h2 (w := w1) (m := n) (n := ww_n K p - q - n) (by omega)
      have ep : p = ww_c K a (ww_c K f b) := by rw [← e4]; exact e1
      have fl : f < 127 := by
        have := ww_n2 h2 f
        have h7 := ww_fle h2 (show ww_n K f + 1 ≤ ww_n K p by omega)
        have := ww_n1 h2 p
        omega
      have uq : ∀ a' f' b', p = ww_c K a' (ww_c K f' b') → ww_n K f' = n → ww_n K a' = q → f' = f := by
        intro a' f' b' e n1 n2
        have x1 := ww_cx' h2 (e.symm.trans ep) (by omega)
        exact (ww_cx' h2 x1.2 (by omega)).1
      have ef : a_least (nI f).toNatClampNeg = nI (ls f) := by rw [nI_clamp (by omega)]; exact hg f fl
      have bf := hb f fl
      rw [← e2, ← e5]
      refine yl_fac hK (tb_big hK hp) ep ⟨vp_in_nI fl (by decide), ?_⟩
      rw [ef, e2, e5]
      refine pk_eq (ls f) f (fun y => nm_r (nI_1 q) (ih (q + 1) (by omega) k (by omega) a_ruleLeft ho ?_)) (fun y => ⟨vp_in_nI hp (by decide), nm_e (nm_r (nI_1 q) (ih (q + 1) (by omega) k (by omega) _ (fun w hw => ?_) ?_))⟩)
      · rw [hp']
        refine yb_e ⟨fun dd => ⟨dd.1, fun a' f' b' e' h' => ?_⟩, fun dd => yl_Dm (Or.inr ⟨rfl, by omega⟩) dd⟩
        rcases Nat.lt_or_ge (ww_n K a') q with i | i
        · exact dd.2 a' f' b' e' (by omega)
        · rcases h' with h' | h'
          · exact dd.2 a' f' b' e' (Or.inl h')
          · have := uq a' f' b' e' h'.1 (by omega)
            rw [this]; exact y
      · rw [pk_un (by omega)]; exact ho w hw
      · rw [pk_us, yb_f (fun dd => y (dd.2 a f b ep (Or.inr ⟨e5, by omega⟩)))]; rfl
    · refine br_t (by rw [yb_f z]) (nm_r (nI_1 n) (hc a_ruleLeft ho ?_))
      rw [hp', yb_f z, yb_f (fun dd => z (yl_Dm (Or.inl (by omega)) dd))]
theorem yk_259 (hK : tb_K K T) (hp : p < 127) (hg : yl_g ls a_least) (hb : ∀ w, w < 127 → ls w < 127) {post : SY → Prop} {J222 : (Int32 → (Nat → Int32) → (Nat → Int32) → (Nat → Int32) → (Nat → Int32) → (Nat → Int32) → (Nat → Int32) → (Nat → Int32) → (Nat → Int32) → (Nat → Int32) → (Nat → Int32) → Prop)}
    (hc : ∀ a_ruleLeft : Nat → Int32, (∀ w, w < p + 1 → a_ruleLeft w = yb (rl_red K ls w)) → J222 (nI (p + 1)) a_buffer a_equation a_least a_ruleLeft a_chainWord a_chainStep a_old a_dist a_link a_last) :
    ∀ d n, n + d = ww_n K p → ∀ m, d < m → ∀ a_ruleLeft : Nat → Int32, (∀ w, w < p → a_ruleLeft w = yb (rl_red K ls w)) → a_ruleLeft p = yb (yl_D K ls p n 0) →
    wY_relate_259 post J222 (nI p) (nI (ww_n K p)) (nI K) f_top f_capacity f_level f_count f_taken f_chainN m (nI n) a_buffer a_equation a_least a_ruleLeft a_chainWord a_chainStep a_old a_dist a_link a_last := by
  have h2 := tb_2 hK
  have l6 := tb_n6 hK hp
  intro d
  induction d with
  | zero =>
    intro n hn m hm a_ruleLeft ho hp'
    obtain ⟨k, rfl⟩ : ∃ k, m = k + 1 := ⟨m - 1, by omega⟩
    have eq : n = ww_n K p := by omega
    subst eq
    refine br_t (nI_le (by omega) (by omega)) (nm_r (nI_1 p) (hc a_ruleLeft (fun w hw => ?_)))
    rcases Classical.em (w = p) with z | z
    · subst z; rw [hp']
      exact yb_e ⟨fun dd => ⟨dd.1, fun a f b e l => dd.2 a f b e (Or.inl l)⟩, fun dd => ⟨dd.1, fun a f b e l => dd.2 a f b e (by omega)⟩⟩
    · exact ho w (by omega)
  | succ d ih =>
    intro n hn m hm a_ruleLeft ho hp'
    obtain ⟨k, rfl⟩ : ∃ k, m = k + 1 := ⟨m - 1, by omega⟩
    have cl : (nI p).toNatClampNeg = p := nI_clamp (by omega)
    refine br_f (nI_ge (by omega) (by omega)) ⟨vp_in_nI hp (by decide), ?_⟩
    rw [cl, hp']
    rcases Classical.em (yl_D K ls p n 0) with z | z
    · refine br_f (by rw [yb_t z]; decide) ⟨ww_n K p - n + 2, ?_⟩
      exact yk_278 hK hp (a_least' := a_least) hg hb (by omega) (fun a_ruleLeft ho' hp2 => ih (n + 1) (by omega) k (by omega) a_ruleLeft ho' hp2) (ww_n K p - n + 1) 0 (by omega) _ (by omega) a_ruleLeft ho hp'
    · refine br_t (by rw [yb_f z]) (nm_r (nI_1 p) (hc a_ruleLeft (fun w hw => ?_)))
      rcases Classical.em (w = p) with y | y
      · subst y; rw [hp', yb_f z, yb_f (fun dd => z ⟨dd.1, fun a f b e l => dd.2 a f b e (by omega)⟩)]
      · exact ho w (by omega)
end
section
variable {K T L : Nat} {ls : Nat → Nat} {f_top f_capacity f_level f_count f_taken f_chainN : Int32} {a_buffer a_equation a_least a_chainWord a_chainStep a_old a_dist a_link a_last : Nat → Int32}
theorem yk_222 (hK : tb_K K T) (hg : yl_g ls a_least) (hb : ∀ w, w < 127 → ls w < 127) {post : SY → Prop}
    (hc : ∀ a_ruleLeft : Nat → Int32, (∀ w, w < 127 → a_ruleLeft w = yb (rl_red K ls w)) → post (nI K, f_top, f_capacity, f_level, f_count, f_taken, f_chainN, a_buffer, a_equation, a_least, a_ruleLeft, a_chainWord, a_chainStep, a_old, a_dist, a_link, a_last)) :
    ∀ d p, p + d = 127 → ∀ m, d < m → ∀ a_ruleLeft : Nat → Int32, (∀ w, w < p → a_ruleLeft w = yb (rl_red K ls w)) →
    wY_relate_222 post (nI K) f_top f_capacity f_level f_count f_taken f_chainN m (nI p) a_buffer a_equation a_least a_ruleLeft a_chainWord a_chainStep a_old a_dist a_link a_last := by
  intro d
  induction d with
  | zero =>
    intro p hp m hm a_ruleLeft ho
    obtain ⟨k, rfl⟩ : ∃ k, m = k + 1 := ⟨m - 1, by omega⟩
    exact br_t (nI_le (a := 127) (by omega) (by omega)) (hc a_ruleLeft (fun w hw => ho w (by omega)))
  | succ d ih =>
    intro p hp m hm a_ruleLeft ho
    obtain ⟨k, rfl⟩ : ∃ k, m = k + 1 := ⟨m - 1, by omega⟩
    have cl : (nI p).toNatClampNeg = p := nI_clamp (by omega)
    have bp := hb p (by omega)
    have go : ∀ z : Int32, vp_nar .boolean z = yb (ls p ≠ p) → wY_relate_248 post (wY_relate_222 post (nI K) f_top f_capacity f_level f_count f_taken f_chainN k) (nI p) z (nI p) (nI K) f_top f_capacity f_level f_count f_taken f_chainN a_buffer a_equation a_least a_ruleLeft a_chainWord a_chainStep a_old a_dist a_link a_last := by
      intro z hz
      unfold wY_relate_248
      rw [cl, hz]
      refine ⟨vp_in_nI (by omega) (by decide), nm_e (yl_len hK (tb_big hK (by omega)) ⟨ww_n K p + 1, ?_⟩)⟩
      refine yk_259 hK (by omega) hg hb (fun a_ruleLeft ho' => ih (p + 1) (by omega) k (by omega) a_ruleLeft ho') (ww_n K p) 0 (by omega) _ (by omega) _ (fun w hw => ?_) ?_
      · rw [pk_un (by omega)]; exact ho w hw
      · rw [pk_us]
        exact yb_e ⟨fun h => ⟨h, fun a f b e l => by omega⟩, fun h => h.1⟩
    refine br_f (nI_ge (b := 127) (by omega) (by decide)) ⟨vp_in_nI (by omega) (by decide), ?_⟩
    rw [cl, hg p (by omega)]
    refine pk_eq (ls p) p (fun e => go 0 ?_) (fun e => go 1 ?_)
    · rw [yb_f (fun q => q e)]; rfl
    · rw [yb_t e]; rfl
end
section
variable {K T L : Nat} {f_top f_capacity f_level f_count f_taken f_chainN : Int32} {a_buffer a_equation a_chainWord a_chainStep a_old a_dist a_link a_last : Nat → Int32}
theorem yk_23 (hK : tb_K K T) (hL : L ≤ T) (hL0 : 1 ≤ L) {E : Nat → Nat} {t : Nat} (hE : ∀ i, i < 16 → a_equation i = nI (E i)) (ht : t ≤ 8) (hEL : ∀ i, i < 2 * t → E i < 127) {post : SY → Prop} {a_ruleLeft : Nat → Int32}
    (hc : ∀ (ls : Nat → Nat) (a_least a_ruleLeft : Nat → Int32), yl_g ls a_least → (∀ w, w < 127 → rl_m K L (eq_Q E t) w (ls w)) → (∀ w, w < 127 → a_ruleLeft w = yb (rl_red K ls w)) → post (nI K, f_top, f_capacity, nI L, f_count, nI t, f_chainN, a_buffer, a_equation, a_least, a_ruleLeft, a_chainWord, a_chainStep, a_old, a_dist, a_link, a_last)) :
    ∀ d e, e + d = t → ∀ n, d < n → ∀ (ls : Nat → Nat) (a_least : Nat → Int32), yl_g ls a_least → yl_P K L (eq_Q E t) ls → (∀ i, i < e → ls (E (2 * i)) = ls (E (2 * i + 1))) →
    wY_relate_23 post n (nI e) (nI K) f_top f_capacity (nI L) f_count (nI t) f_chainN a_buffer a_equation a_least a_ruleLeft a_chainWord a_chainStep a_old a_dist a_link a_last := by
  have hT := tb_T hK
  intro d
  induction d with
  | zero =>
    intro e he n hn ls a_least hg hP hQ
    obtain ⟨m, rfl⟩ : ∃ m, n = m + 1 := ⟨n - 1, by omega⟩
    have ee : e = t := by omega
    subst ee
    refine br_t (nI_le (by omega) (by omega)) ?_
    rw [show (1 : Int32) = nI 1 from rfl, pk_sub hL0]
    refine yl_siz (by omega) ?_
    rw [show L - 1 + 1 = L by omega]
    refine ⟨130, yk_75 hK hL hL0 128 0 rfl 130 (by decide) ls a_least hg hP (Nat.le_trans (cq_le _ _) (by decide)) ?_⟩
    intro ls' a_least g' p' l' c'
    have fin := yl_fin hK hL p' (fun p q ⟨i, hi, h1, h2⟩ => ⟨by rw [h1]; exact hEL _ (by omega), by rw [h2]; exact hEL _ (by omega), by rw [h1, h2]; exact l' _ _ (hQ i hi)⟩) c'
    exact ⟨128, yk_222 hK g' (yl_P127 p') (fun a_ruleLeft hr => hc ls' a_least a_ruleLeft g' fin hr) 127 0 rfl 128 (by decide) a_ruleLeft (fun w h => by omega)⟩
  | succ d ih =>
    intro e he n hn ls a_least hg hP hQ
    obtain ⟨m, rfl⟩ : ∃ m, n = m + 1 := ⟨n - 1, by omega⟩
    have i0 : (2 : Int32) * nI e = nI (2 * e) := by rw [show (2 : Int32) = nI 2 from rfl, pk_mul]
    refine br_f (nI_ge (by omega) (by omega)) ?_
    rw [i0, nI_1, nI_clamp (by omega), nI_clamp (by omega), hE _ (by omega), hE _ (by omega)]
    have rr : rl_r K L (eq_Q E t) (E (2 * e)) (E (2 * e + 1)) := rl_q ⟨e, by omega, rfl, rfl⟩
    refine ⟨vp_in_nI (by omega) (by decide), vp_in_nI (by omega) (by decide), yk_mg hg (yl_P127 hP) (hEL _ (by omega)) (hEL _ (by omega)) (fun e1 => ?_) (fun ne a_least' g' => ?_)⟩
    · refine nm_r (nI_1 e) (ih (e + 1) (by omega) m (by omega) ls a_least hg hP (fun i hi => ?_))
      rcases Nat.lt_or_ge i e with z | z
      · exact hQ i z
      · have : i = e := by omega
        rw [this]; exact e1
    · refine nm_r (nI_1 e) (ih (e + 1) (by omega) m (by omega) _ _ g' (yl_mP hP (hEL _ (by omega)) (hEL _ (by omega)) rr ne).1 (fun i hi => ?_))
      rcases Nat.lt_or_ge i e with z | z
      · exact yl_mle _ _ _ _ _ (hQ i z)
      · have : i = e := by omega
        rw [this]; exact yl_muv _ _ _
theorem yk_2 (hK : tb_K K T) (hL : L ≤ T) (hL0 : 1 ≤ L) {E : Nat → Nat} {t : Nat} (hE : ∀ i, i < 16 → a_equation i = nI (E i)) (ht : t ≤ 8) (hEL : ∀ i, i < 2 * t → E i < 127) {post : SY → Prop} {a_ruleLeft : Nat → Int32}
    (hc : ∀ (ls : Nat → Nat) (a_least a_ruleLeft : Nat → Int32), yl_g ls a_least → (∀ w, w < 127 → rl_m K L (eq_Q E t) w (ls w)) → (∀ w, w < 127 → a_ruleLeft w = yb (rl_red K ls w)) → post (nI K, f_top, f_capacity, nI L, f_count, nI t, f_chainN, a_buffer, a_equation, a_least, a_ruleLeft, a_chainWord, a_chainStep, a_old, a_dist, a_link, a_last)) :
    ∀ d j, j + d = 127 → ∀ n, d < n → ∀ (a_least : Nat → Int32), (∀ w, w < j → a_least w = nI w) →
    wY_relate_2 post (nI K) f_top f_capacity (nI L) f_count (nI t) f_chainN n (nI j) a_buffer a_equation a_least a_ruleLeft a_chainWord a_chainStep a_old a_dist a_link a_last := by
  intro d
  induction d with
  | zero =>
    intro j hj n hn a_least h
    obtain ⟨m, rfl⟩ : ∃ m, n = m + 1 := ⟨n - 1, by omega⟩
    refine br_t (nI_le (a := 127) (by omega) (by omega)) ⟨t + 1, ?_⟩
    exact yk_23 hK hL hL0 hE ht hEL (a_ruleLeft := a_ruleLeft) hc t 0 (by omega) _ (by omega) (fun w => w) a_least (fun w hw => h w (by omega)) (fun w hw => ⟨Nat.le_refl _, rfl, rl_rf⟩) (fun i hi => by omega)
  | succ d ih =>
    intro j hj n hn a_least h
    obtain ⟨m, rfl⟩ : ∃ m, n = m + 1 := ⟨n - 1, by omega⟩
    have cl : (nI j).toNatClampNeg = j := nI_clamp (by omega)
    refine br_f (nI_ge (b := 127) (by omega) (by decide)) ?_
    rw [cl]
    refine ⟨vp_in_nI (by omega) (by decide), nm_e (nm_r (nI_1 j) (ih (j + 1) (by omega) m (by omega) _ (fun w hw => ?_)))⟩
    rcases Classical.em (w = j) with q | q
    · subst q; exact pk_us
    · rw [pk_un q]; exact h w (by omega)
theorem yk_rel (hK : tb_K K T) (hL : L ≤ T) (hL0 : 1 ≤ L) {E : Nat → Nat} {t : Nat} (hE : ∀ i, i < 16 → a_equation i = nI (E i)) (ht : t ≤ 8) (hEL : ∀ i, i < 2 * t → E i < 127) {post : SY → Prop} {a_least a_ruleLeft : Nat → Int32}
    (hc : ∀ (ls : Nat → Nat) (a_least a_ruleLeft : Nat → Int32), yl_g ls a_least → (∀ w, w < 127 → rl_m K L (eq_Q E t) w (ls w)) → (∀ w, w < 127 → a_ruleLeft w = yb (rl_red K ls w)) → post (nI K, f_top, f_capacity, nI L, f_count, nI t, f_chainN, a_buffer, a_equation, a_least, a_ruleLeft, a_chainWord, a_chainStep, a_old, a_dist, a_link, a_last)) :
    wpY_relate post (nI K, f_top, f_capacity, nI L, f_count, nI t, f_chainN, a_buffer, a_equation, a_least, a_ruleLeft, a_chainWord, a_chainStep, a_old, a_dist, a_link, a_last) := by
  unfold wpY_relate
  exact ⟨128, yk_2 hK hL hL0 hE ht hEL (a_ruleLeft := a_ruleLeft) hc 127 0 rfl 128 (by decide) a_least (fun w h => by omega)⟩
end
end
section
/-! Confluence of the rules p -> least p on words of any length below twice the level. -/
def cf_R (K : Nat) (ls : Nat → Nat) (p q : Nat) : Prop := p < 127 ∧ rl_red K ls p ∧ q = ls p
def cf_Q (K L : Nat) (ls : Nat → Nat) : Prop := ∃ h : Nat → Nat, (∀ w, ww_n K w < 2 * L → ∀ v, rw_st K (cf_R K ls) w v → h v = h w) ∧ (∀ w, ww_n K w < 2 * L → (∀ v, ¬ rw_st K (cf_R K ls) w v) → h w = w)
def cf_w (K : Nat) (ls : Nat → Nat) (s r : Nat) : Prop := ∀ P : Nat → Prop, P s → (∀ z v, P z → rw_st K (cf_R K ls) z v → P v) → P r
/-- no step from here -/
def cf_i (K : Nat) (ls : Nat → Nat) (w : Nat) : Prop := ∀ v, ¬ rw_st K (cf_R K ls) w v
/-- what is known of the least words -/
def cf_H (K T L : Nat) (Q : Nat → Nat → Prop) (ls : Nat → Nat) : Prop := tb_K K T ∧ L ≤ T ∧ 2 ≤ L ∧ (∀ w, w < 127 → rl_m K L Q w (ls w)) ∧ (∀ p q, Q p q → ww_n K p ≤ L ∧ ww_n K q ≤ L)
section
variable {K T L : Nat} {Q : Nat → Nat → Prop} {ls : Nat → Nat}
theorem cf_long (h : cf_H K T L Q ls) {w : Nat} (hw : w < 127) (hl : L < ww_n K w) : ls w = w := by
  have h2 := tb_2 h.1
  have cl : rl_cl K L Q (fun u v => u = v ∨ (ww_n K u ≤ L ∧ ww_n K v ≤ L)) := by
    refine ⟨fun _ => Or.inl rfl, ?_, ?_, fun p q e => Or.inr (h.2.2.2.2 p q e), ?_⟩
    · rintro x y (e | e)
      · exact Or.inl e.symm
      · exact Or.inr ⟨e.2, e.1⟩
    · rintro x y z (e | e) (e' | e')
      · exact Or.inl (e.trans e')
      · rw [e]; exact Or.inr e'
      · rw [← e']; exact Or.inr e
      · exact Or.inr ⟨e.1, e'.2⟩
    · rintro x u v h1 hx hu hv _
      have nx := ww_n1c h2 h1 hx
      exact ⟨Or.inr ⟨by rw [ww_cn h2]; omega, by rw [ww_cn h2]; omega⟩, Or.inr ⟨by rw [ww_cn h2]; omega, by rw [ww_cn h2]; omega⟩⟩
  rcases (h.2.2.2.1 w hw).1 _ cl with e | e
  · exact e.symm
  · omega
theorem cf_rL (h : cf_H K T L Q ls) {p : Nat} (hp : p < 127) (hr : rl_red K ls p) : ww_n K p ≤ L := by
  rcases Nat.lt_or_ge L (ww_n K p) with z | z
  · exact absurd (cf_long h hp z) hr.1
  · exact z
theorem cf_le (h : cf_H K T L Q ls) {w : Nat} (hw : w < 127) : ls w ≤ w := rl_mle (h.2.2.2.1 w hw)
theorem cf_id (h : cf_H K T L Q ls) {w : Nat} (hw : w < 127) : ls (ls w) = ls w := by
  have l := cf_le h hw
  exact rl_un (h.2.2.2.1 (ls w) (by omega)) (rl_mi (h.2.2.2.1 w hw))
theorem cf_d (h : cf_H K T L Q ls) : ∀ l r, cf_R K ls l r → r < l := by
  rintro l r ⟨h1, h2, rfl⟩
  have := cf_le h h1
  have := h2.1
  omega
theorem cf_f : ∀ l r s, cf_R K ls l r → cf_R K ls l s → r = s := fun _ _ _ a b => a.2.2.trans b.2.2.symm
theorem cf_a (hK : 2 ≤ K) : ∀ l r m s a b, cf_R K ls l r → cf_R K ls m s → l = ww_c K a (ww_c K m b) → a = 0 ∧ b = 0 := by
  rintro l r m s a b ⟨_, h2, _⟩ ⟨_, k2, _⟩ e
  have n := congrArg (ww_n K) e
  rw [ww_cn hK, ww_cn hK] at n
  rcases Nat.lt_or_ge (ww_n K m) (ww_n K l) with z | z
  · exact absurd (h2.2 a m b e z) k2.1
  · exact ⟨ww_n00 hK (by omega), ww_n00 hK (by omega)⟩
theorem cf_s (h : cf_H K T L Q ls) {w : Nat} (hw : ww_n K w ≤ L) : w < 127 := tb_127 h.1 (by have := h.2.1; omega)
/-- a word that is not least has a minimal one inside -/
theorem cf_min (hK : 2 ≤ K) : ∀ n w, ww_n K w ≤ n → ls w ≠ w → w < 127 → ∃ a p b, w = ww_c K a (ww_c K p b) ∧ rl_red K ls p ∧ p < 127 := by
  intro n
  induction n with
  | zero =>
    intro w hw ne h7
    refine ⟨0, w, 0, by rw [ww_c0, ww_0c], ⟨ne, fun a f b e l => by omega⟩, h7⟩
  | succ n ih =>
    intro w hw ne h7
    rcases Classical.em (rl_red K ls w) with z | z
    · exact ⟨0, w, 0, by rw [ww_c0, ww_0c], z, h7⟩
    · have : ∃ a f b, w = ww_c K a (ww_c K f b) ∧ ww_n K f < ww_n K w ∧ ls f ≠ f := by
        rcases Classical.em (∃ a f b, w = ww_c K a (ww_c K f b) ∧ ww_n K f < ww_n K w ∧ ls f ≠ f) with y | y
        · exact y
        · refine absurd ⟨ne, fun a f b e l => ?_⟩ z
          rcases Classical.em (ls f = f) with q | q
          · exact q
          · exact absurd ⟨a, f, b, e, l, q⟩ y
      obtain ⟨a, f, b, e, l, ne'⟩ := this
      have f7 : f < 127 := by
        have := ww_n2 hK f
        have := ww_fle hK (show ww_n K f + 1 ≤ ww_n K w by omega)
        have := ww_n1 hK w
        omega
      obtain ⟨a', p, b', e', hr, p7⟩ := ih f (by omega) ne' f7
      exact ⟨ww_c K a a', p, ww_c K b' b, by rw [e, e', rw_as hK], hr, p7⟩
/-- a factor that is not least makes the word not least -/
theorem cf_fac (h : cf_H K T L Q ls) {a f b : Nat} (hw : ww_n K (ww_c K a (ww_c K f b)) ≤ L) (ne : ls f ≠ f) : ls (ww_c K a (ww_c K f b)) ≠ ww_c K a (ww_c K f b) := by
  have h2 := tb_2 h.1
  have hf : ww_n K f ≤ L := by rw [ww_cn h2, ww_cn h2] at hw; omega
  have f7 := cf_s h hf
  have lt : ls f < f := by have := cf_le h f7; omega
  have lt2 := rw_tlt h2 a b lt
  have rr := rl_cx h2 a b (h.2.2.2.1 f f7).1 hw (Nat.le_trans (ww_nm h2 (Nat.le_of_lt lt2)) hw)
  have := (h.2.2.2.1 _ (cf_s h hw)).2 _ rr
  omega
theorem cf_irr (h : cf_H K T L Q ls) {w : Nat} (hw : ww_n K w ≤ L) : cf_i K ls w ↔ ls w = w := by
  have h2 := tb_2 h.1
  constructor
  · intro i
    rcases Classical.em (ls w = w) with z | z
    · exact z
    · obtain ⟨a, p, b, e, hr, p7⟩ := cf_min h2 (ww_n K w) w (Nat.le_refl _) z (cf_s h hw)
      exact absurd ⟨a, p, ls p, b, ⟨p7, hr, rfl⟩, e, rfl⟩ (i (ww_c K a (ww_c K (ls p) b)))
  · rintro e v ⟨a, p, q, b, ⟨p7, hr, _⟩, e1, _⟩
    rw [e1] at hw
    exact cf_fac h hw hr.1 (by rw [← e1]; exact e)
theorem cf_wr {s : Nat} : cf_w K ls s s := fun _ h _ => h
theorem cf_wt {s r q : Nat} (h : cf_w K ls s r) (h' : cf_w K ls r q) : cf_w K ls s q := fun P h0 h1 => h' P (h P h0 h1) h1
theorem cf_w1 {s r : Nat} (h : rw_st K (cf_R K ls) s r) : cf_w K ls s r := fun _ h0 h1 => h1 _ _ h0 h
theorem cf_wc (hK : 2 ≤ K) (a b : Nat) {s r : Nat} (h : cf_w K ls s r) : cf_w K ls (ww_c K a (ww_c K s b)) (ww_c K a (ww_c K r b)) :=
  fun P h0 h1 => h (fun z => P (ww_c K a (ww_c K z b))) h0 (fun z v hz st => h1 _ _ hz (rw_stx hK a b st))
theorem cf_wle (h : cf_H K T L Q ls) {s r : Nat} (hs : cf_w K ls s r) : r ≤ s :=
  hs (fun z => z ≤ s) (Nat.le_refl _) (fun z v hz st => by have := rw_lt (tb_2 h.1) (cf_d h) st; omega)
theorem cf_wcn (h : cf_H K T L Q ls) {s r : Nat} (hs : cf_w K ls s r) : rw_cn K (cf_R K ls) (fun z => z ≤ s) s r := by
  refine (hs (fun z => z ≤ s ∧ rw_cn K (cf_R K ls) (fun z => z ≤ s) s z) ⟨Nat.le_refl _, rw_rf⟩ (fun z v hz st => ?_)).2
  have := rw_lt (tb_2 h.1) (cf_d h) st
  have l : v ≤ s := by omega
  exact ⟨l, rw_tr hz.2 (rw_s1 st hz.1 l)⟩
/-- words inside the level reach their least word -/
theorem cf_wl (h : cf_H K T L Q ls) : ∀ w, ww_n K w ≤ L → cf_w K ls w (ls w) := by
  have h2 := tb_2 h.1
  intro w
  induction w using Nat.strongRecOn with
  | ind w ih =>
    intro hw
    rcases Classical.em (ls w = w) with z | z
    · rw [z]; exact cf_wr
    · obtain ⟨a, p, b, e, hr, p7⟩ := cf_min h2 (ww_n K w) w (Nat.le_refl _) z (cf_s h hw)
      have st : rw_st K (cf_R K ls) w (ww_c K a (ww_c K (ls p) b)) := ⟨a, p, ls p, b, ⟨p7, hr, rfl⟩, e, rfl⟩
      have lt := rw_lt h2 (cf_d h) st
      have lv := Nat.le_trans (ww_nm h2 (Nat.le_of_lt lt)) hw
      have rr : rl_r K L Q w (ww_c K a (ww_c K (ls p) b)) := by
        rw [e]; rw [e] at hw
        exact rl_cx h2 a b (h.2.2.2.1 p p7).1 hw lv
      have ee := (rl_me (h.2.2.2.1 w (cf_s h hw)) (h.2.2.2.1 _ (cf_s h lv))).mp rr
      rw [ee]
      exact cf_wt (cf_w1 st) (ih _ lt lv)
/-- the value of h along a way -/
theorem cf_h (h : cf_H K T L Q ls) {hh : Nat → Nat} (h1 : ∀ w, ww_n K w < 2 * L → ∀ v, rw_st K (cf_R K ls) w v → hh v = hh w) {s r : Nat} (hs : ww_n K s < 2 * L) (hr : cf_w K ls s r) : hh r = hh s := by
  refine (hr (fun z => z ≤ s ∧ hh z = hh s) ⟨Nat.le_refl _, rfl⟩ (fun z v hz st => ?_)).2
  have := rw_lt (tb_2 h.1) (cf_d h) st
  exact ⟨by omega, (h1 z (Nat.lt_of_le_of_lt (ww_nm (tb_2 h.1) hz.1) hs) v st).trans hz.2⟩
/-- two different ends refute -/
theorem cf_no (h : cf_H K T L Q ls) {s r q : Nat} (hs : ww_n K s < 2 * L) (hr : cf_w K ls s r) (hq : cf_w K ls s q) (ir : cf_i K ls r) (iq : cf_i K ls q) (ne : r ≠ q) : ¬ cf_Q K L ls := by
  rintro ⟨hh, h1, h2⟩
  have h2' := tb_2 h.1
  have e1 := cf_h h h1 hs hr
  have e2 := cf_h h h1 hs hq
  rw [h2 r (Nat.lt_of_le_of_lt (ww_nm h2' (cf_wle h hr)) hs) ir] at e1
  rw [h2 q (Nat.lt_of_le_of_lt (ww_nm h2' (cf_wle h hq)) hs) iq] at e2
  omega
/-- all long overlaps resolved -/
theorem cf_yes (h : cf_H K T L Q ls) (hc : ∀ f g, f < 127 → g < 127 → rl_red K ls f → rl_red K ls g → ∀ x y z, f = ww_c K x y → g = ww_c K y z → 0 < ww_n K x → 0 < ww_n K y → 0 < ww_n K z → L < ww_n K x + ww_n K y + ww_n K z → ∃ r, cf_w K ls (ww_c K (ls f) z) r ∧ cf_w K ls (ww_c K x (ls g)) r) : cf_Q K L ls := by
  have h2 := tb_2 h.1
  have hd := cf_d h
  let nx : Nat → Nat := fun w => @dite Nat (∃ v, rw_st K (cf_R K ls) w v) (Classical.propDecidable _) (fun q => q.choose) (fun _ => w)
  have nx1 : ∀ w, (∃ v, rw_st K (cf_R K ls) w v) → rw_st K (cf_R K ls) w (nx w) := by
    intro w q
    have : nx w = q.choose := dif_pos q
    rw [this]; exact q.choose_spec
  have nx0 : ∀ w, ¬ (∃ v, rw_st K (cf_R K ls) w v) → nx w = w := fun w q => dif_neg q
  have nxl : ∀ w, nx w ≤ w := by
    intro w
    rcases Classical.em (∃ v, rw_st K (cf_R K ls) w v) with q | q
    · exact Nat.le_of_lt (rw_lt h2 hd (nx1 w q))
    · rw [nx0 w q]; exact Nat.le_refl _
  have zE : ∀ w, kb_z nx w = if nx w = w then w else kb_z nx (nx w) := fun w => kb_zE (N := w) (fun z _ => nxl z) (Nat.le_refl _)
  refine ⟨kb_z nx, ?_, ?_⟩
  · have := rw_cf h2 (R := cf_R K ls) (L := 2 * L - 1) hd cf_f (cf_a h2) ?_ (nf := kb_z nx) ?_
    · intro w hw v st
      exact this w (by omega) v st
    · rintro f r g s ⟨f7, hf, rfl⟩ ⟨g7, hg, rfl⟩ x y z ef eg lx ly lz hl
      have b1 : ww_c K (ls f) z < ww_c K x (ww_c K y z) := by
        rw [← ww_ca h2, ← ef]; exact ww_cl h2 z (hd f _ ⟨f7, hf, rfl⟩)
      have b2 : ww_c K x (ls g) < ww_c K x (ww_c K y z) := by
        rw [← eg]; exact ww_cr h2 x (hd g _ ⟨g7, hg, rfl⟩)
      obtain ⟨r, r1, r2⟩ : ∃ r, cf_w K ls (ww_c K (ls f) z) r ∧ cf_w K ls (ww_c K x (ls g)) r := by
        rcases Nat.lt_or_ge L (ww_n K x + ww_n K y + ww_n K z) with q | q
        · exact hc f g f7 g7 hf hg x y z ef eg lx ly lz q
        · have l0 : ww_n K (ww_c K x (ww_c K y z)) ≤ L := by rw [ww_cn h2, ww_cn h2]; omega
          have l1 := Nat.le_trans (ww_nm h2 (Nat.le_of_lt b1)) l0
          have l2 := Nat.le_trans (ww_nm h2 (Nat.le_of_lt b2)) l0
          have e0 : ww_c K x (ww_c K y z) = ww_c K f z := by rw [ef, ww_ca h2]
          have t1 := rl_cx (K := K) (L := L) (Q := Q) h2 0 z (h.2.2.2.1 f f7).1 (by rw [ww_0c, ← e0]; exact l0) (by rw [ww_0c]; exact l1)
          have t2 := rl_cx (K := K) (L := L) (Q := Q) h2 x 0 (h.2.2.2.1 g g7).1 (by rw [ww_c0, eg]; exact l0) (by rw [ww_c0]; exact l2)
          rw [ww_0c, ww_0c, ← e0] at t1
          rw [ww_c0, ww_c0, eg] at t2
          have ee := (rl_me (h.2.2.2.1 _ (cf_s h l1)) (h.2.2.2.1 _ (cf_s h l2))).mp (rl_tr (rl_sy t1) (by rw [← eg]; rw [← eg] at t2; exact t2))
          exact ⟨ls (ww_c K (ls f) z), cf_wl h _ l1, by rw [ee]; exact cf_wl h _ l2⟩
      exact rw_tr (rw_mo (fun _ _ e => e) (fun w hw => Nat.lt_of_le_of_lt hw b1) (cf_wcn h r1)) (rw_sy (rw_mo (fun _ _ e => e) (fun w hw => Nat.lt_of_le_of_lt hw b2) (cf_wcn h r2)))
    · intro w _ q
      have st := nx1 w q
      have lt := rw_lt h2 hd st
      exact ⟨nx w, st, by rw [zE w, if_neg (by omega)]⟩
  · intro w _ i
    rw [zE w, if_pos (nx0 w (fun ⟨v, hv⟩ => i v hv))]
end
end
section
/-! The component's test of confluence. -/
theorem ww_win {K : Nat} (hK : 2 ≤ K) (a W b : Nat) : (ww_c K a (ww_c K W b) - ww_f K (ww_n K (ww_c K a (ww_c K W b)))) / K ^ ww_n K b % K ^ ww_n K W = W - ww_f K (ww_n K W) := by
  rw [← ww_ca hK, ww_cn hK (ww_c K a W) b, (ww_dv hK (ww_c K a W) b).1, ww_cn hK a W]
  exact (ww_dv hK a W).2
section
variable {K T L : Nat} {Q : Nat → Nat → Prop} {ls : Nat → Nat}
/-- all windows least: no step -/
theorem cf_win (h : cf_H K T L Q ls) {w : Nat} (hl : L < ww_n K w) (hw : ∀ a W b, w = ww_c K a (ww_c K W b) → ww_n K W = L → ls W = W) : cf_i K ls w := by
  have h2 := tb_2 h.1
  rintro v ⟨a, p, q, b, ⟨p7, hr, _⟩, e, _⟩
  have lp := cf_rL h p7 hr
  have n := congrArg (ww_n K) e
  rw [ww_cn h2, ww_cn h2] at n
  rcases Nat.lt_or_ge (ww_n K w - L) (ww_n K a) with z | z
  · obtain ⟨a', W, e', n1, n2⟩ := ww_sp h2 (w := w) (m := ww_n K w - L) (n := L) (by omega)
    obtain ⟨t, et, eW⟩ := ww_lv h2 (e'.symm.trans e) (by omega)
    have := hw a' W 0 (by rw [ww_c0]; exact e') n2
    rw [eW] at this n2
    exact cf_fac h (by omega) hr.1 this
  · obtain ⟨W, b', e', n1, n2⟩ := ww_sp h2 (w := ww_c K p b) (m := L) (n := ww_n K w - ww_n K a - L) (by rw [ww_cn h2]; omega)
    obtain ⟨t, et, _⟩ := ww_lv h2 e' (by omega)
    have := hw a W b' (by rw [← e']; exact e) n1
    have e3 : W = ww_c K 0 (ww_c K p t) := by rw [ww_0c]; exact et
    rw [e3] at this n1
    exact cf_fac h (by omega) hr.1 this
end
section
variable {K T L : Nat} {Q : Nat → Nat → Prop} {ls : Nat → Nat} {f_letters f_topLevel f_capacity f_equations f_taken f_rules f_confluence f_agendaTop f_queueSize f_chainLength : Int32} {a_power a_first a_sizes a_buffer a_equationSide a_ruleRight a_next a_fresh a_ruleLeft a_normalForm a_agendaOne a_agendaTwo a_distance a_queue a_chainWord a_chainEquation a_chainSide a_chainPlace : Nat → Int32}
theorem xc_14 (H : cf_H K T L Q ls) (hX : tb_X K a_power a_first a_sizes) (hN : ∀ w, ww_n K w ≤ L → a_normalForm w = nI (ls w)) {s : Nat} {post : Int32 → Prop} (hp : ∀ r, cf_w K ls s r → cf_i K ls r → post (nI r)) :
    ∀ d x5 w pl, 8 * w + 7 < d + pl → pl ≤ 7 → x5 + d ≤ 65536 → ww_n K w < 2 * L → (∀ a W b, w = ww_c K a (ww_c K W b) → ww_n K W = L → ww_n K a < pl → ls W = W) → cf_w K ls s w →
    ∀ n, d ≤ n → wX_rewriteLong_14 post f_letters f_topLevel f_capacity (nI L) f_equations f_taken f_rules f_confluence f_agendaTop f_queueSize f_chainLength a_power a_first a_sizes a_buffer a_equationSide a_ruleRight a_next a_fresh a_ruleLeft a_normalForm a_agendaOne a_agendaTwo a_distance a_queue a_chainWord a_chainEquation a_chainSide a_chainPlace n (nI w) (nI (ww_n K w)) (nI pl) (nI x5) := by
  have hK := H.1
  have h2 := tb_2 hK
  have hT := tb_T hK
  have hLT := H.2.1
  have hL2 := H.2.2.1
  intro d
  induction d with
  | zero => intro x5 w pl h1 h3; omega
  | succ d ih =>
    intro x5 w pl h1 h3 h4 h5 h6 h7 n hn
    obtain ⟨m, rfl⟩ : ∃ m, n = m + 1 := ⟨n - 1, by omega⟩
    have w15 : w < ww_f K 15 := tb_ln hK (by omega)
    have w31 := tb_w hK w15
    refine br_f (nI_ge (b := 65536) (by omega) (by decide)) ?_
    rcases Nat.lt_or_ge L (ww_n K w) with z | z
    · refine br_f (nI_ge z (by omega)) ?_
      have e1 : nI (ww_n K w) - nI L = nI (ww_n K w - L) := pk_sub (by omega)
      rw [e1]
      rcases Nat.lt_or_ge (ww_n K w - L) pl with y | y
      · refine br_t (nI_lt y (by omega)) ?_
        unfold wX_rewriteLong_144
        refine br_t (nI_lt z (by omega)) (hp w h7 (cf_win H z (fun a W b e n1 => h6 a W b e n1 ?_)))
        have n2 := congrArg (ww_n K) e
        rw [ww_cn h2, ww_cn h2] at n2
        omega
      · refine br_f (nI_nlt y (by omega)) ?_
        rw [pk_sub y]
        obtain ⟨a, w1, e2, n1, n2⟩ := ww_sp h2 (w := w) (m := pl) (n := ww_n K w - pl) (by omega)
        obtain ⟨W, b, e3, n3, n4⟩ := ww_sp h2 (w := w1) (m := L) (n := ww_n K w - L - pl) (by omega)
        have ew : w = ww_c K a (ww_c K W b) := by rw [← e3]; exact e2
        have W7 : W < 127 := tb_127 hK (by omega)
        have win := ww_win h2 a W b
        rw [← ew, n4, n3] at win
        have l1 := ww_n1 h2 w
        have lW := ww_n1 h2 W
        rw [n3] at lW
        have dle : (w - ww_f K (ww_n K w)) / K ^ (ww_n K w - L - pl) ≤ w := Nat.le_trans (Nat.div_le_self _ _) (Nat.sub_le _ _)
        have e7 : (nI w - a_first (nI (ww_n K w)).toNatClampNeg) / a_power (nI (ww_n K w - L - pl)).toNatClampNeg = nI ((w - ww_f K (ww_n K w)) / K ^ (ww_n K w - L - pl)) := by
          rw [xt_f hX (by omega), xt_p hX (by omega), pk_sub l1, pk_div (by omega) (ww_pos h2 _) (tb_pw hK (by omega))]
        refine nm_e ⟨vp_in_nI (by omega) (by decide), vp_in_nI (by omega) (by decide), xt_p0 hK hX (by omega), nm_r e7 ⟨vp_in_nI (by omega) (by decide), xt_p0 hK hX (by omega), vp_in_nI (by omega) (by decide), ?_⟩⟩
        have e8 : nI ((w - ww_f K (ww_n K w)) / K ^ (ww_n K w - L - pl)) - nI ((w - ww_f K (ww_n K w)) / K ^ (ww_n K w - L - pl)) / a_power (nI L).toNatClampNeg * a_power (nI L).toNatClampNeg + a_first (nI L).toNatClampNeg = nI W := by
          rw [xt_f hX (by omega), xt_p hX (by omega), pk_rem (by omega) (ww_pos h2 _) (tb_pw hK (by omega)), win, nI_add]
          exact congrArg nI (by omega)
        refine nm_r e8 ⟨vp_in_nI W7 (by decide), nm_r (e' := nI (ls W)) (by rw [nI_clamp (by omega)]; exact hN W (by omega)) ?_⟩
        have lsW := cf_le H W7
        refine pk_eq (ls W) W (fun e => ?_) (fun ne => ?_)
        · refine nm_r (nI_1 pl) (nm_r (nI_1 x5) (ih (x5 + 1) w (pl + 1) (by omega) (by omega) (by omega) h5 (fun a' W' b' e' q1 q2 => ?_) h7 m (by omega)))
          rcases Nat.lt_or_ge (ww_n K a') pl with q | q
          · exact h6 a' W' b' e' q1 q
          · have u1 := ww_cx' h2 (e'.symm.trans ew) (by omega)
            have u2 := ww_cx' h2 u1.2 (by omega)
            rw [u2.1]; exact e
        · have lt : ls W < W := by omega
          have lt2 := rw_tlt h2 a b lt
          rw [← ew] at lt2
          have nn := ww_nm h2 (Nat.le_of_lt lt2)
          have rch : cf_w K ls s (ww_c K a (ww_c K (ls W) b)) := by
            refine cf_wt h7 ?_
            have := cf_wc h2 a b (cf_wl H W (by omega))
            rw [← ew] at this; exact this
          have rep := xl_repl (K := K) (T := T) (post := fun r_48 => (wpX_lengthOf (fun r_78 => (∀ x5_108 : Int32, x5_108 = nI x5 + 1 → (wX_rewriteLong_14 post f_letters f_topLevel f_capacity (nI L) f_equations f_taken f_rules f_confluence f_agendaTop f_queueSize f_chainLength a_power a_first a_sizes a_buffer a_equationSide a_ruleRight a_next a_fresh a_ruleLeft a_normalForm a_agendaOne a_agendaTwo a_distance a_queue a_chainWord a_chainEquation a_chainSide a_chainPlace m r_48 r_78 0 x5_108))) (f_letters, f_topLevel, f_capacity, nI L, f_equations, f_taken, f_rules, f_confluence, f_agendaTop, f_queueSize, f_chainLength, a_power, a_first, a_sizes, a_buffer, a_equationSide, a_ruleRight, a_next, a_fresh, a_ruleLeft, a_normalForm, a_agendaOne, a_agendaTwo, a_distance, a_queue, a_chainWord, a_chainEquation, a_chainSide, a_chainPlace) r_48)) (f_level := nI L) (f_letters := f_letters) (f_topLevel := f_topLevel) (f_capacity := f_capacity) (f_equations := f_equations) (f_taken := f_taken) (f_rules := f_rules) (f_confluence := f_confluence) (f_agendaTop := f_agendaTop) (f_queueSize := f_queueSize) (f_chainLength := f_chainLength) (a_buffer := a_buffer) (a_equationSide := a_equationSide) (a_ruleRight := a_ruleRight) (a_next := a_next) (a_fresh := a_fresh) (a_ruleLeft := a_ruleLeft) (a_normalForm := a_normalForm) (a_agendaOne := a_agendaOne) (a_agendaTwo := a_agendaTwo) (a_distance := a_distance) (a_queue := a_queue) (a_chainWord := a_chainWord) (a_chainEquation := a_chainEquation) (a_chainSide := a_chainSide) (a_chainPlace := a_chainPlace) hK hX (y := ls W) w15 (tb_big hK (by omega)) ew (xl_len hK hX (tb_ln hK (by omega)) (nm_r (nI_1 x5) (ih (x5 + 1) (ww_c K a (ww_c K (ls W) b)) 0 (by omega) (by omega) (by omega) (by omega) (fun a' W' b' e' q1 q2 => by omega) rch m (by omega))))
          rw [n1, n3] at rep
          exact rep
    · refine br_t (nI_le z (by omega)) ?_
      unfold wX_rewriteLong_144
      have w7 := cf_s H z
      refine br_f (nI_nlt z (by omega)) ⟨vp_in_nI w7 (by decide), ?_⟩
      rw [nI_clamp (by omega), hN w z]
      have l2 := Nat.le_trans (ww_nm h2 (cf_le H w7)) z
      exact hp (ls w) (cf_wt h7 (cf_wl H w z)) ((cf_irr H l2).mpr (cf_id H w7))
theorem xc_rl (H : cf_H K T L Q ls) (hX : tb_X K a_power a_first a_sizes) (hN : ∀ w, ww_n K w ≤ L → a_normalForm w = nI (ls w)) {s : Nat} (hs : ww_n K s < 2 * L) {post : Int32 → Prop} (hp : ∀ r, cf_w K ls s r → cf_i K ls r → post (nI r)) :
    wpX_rewriteLong post (f_letters, f_topLevel, f_capacity, nI L, f_equations, f_taken, f_rules, f_confluence, f_agendaTop, f_queueSize, f_chainLength, a_power, a_first, a_sizes, a_buffer, a_equationSide, a_ruleRight, a_next, a_fresh, a_ruleLeft, a_normalForm, a_agendaOne, a_agendaTwo, a_distance, a_queue, a_chainWord, a_chainEquation, a_chainSide, a_chainPlace) (nI s) := by
  have hK := H.1
  have hT := tb_T hK
  have hLT := H.2.1
  have s15 : s < ww_f K 15 := tb_ln hK (by omega)
  have s4 : s < 4095 := by
    have l := (ww_nle (tb_2 hK) (w := s) (n := 2 * T - 1)).mp (by omega)
    have e : ww_f K (2 * T - 1 + 1) ≤ 4095 := by
      rcases hK with ⟨rfl, rfl⟩ | ⟨rfl, rfl⟩
      · decide
      · decide
    omega
  unfold wpX_rewriteLong
  exact xl_len hK hX s15 ⟨8 * s + 8, xc_14 H hX hN hp (8 * s + 8) 0 s 0 (by omega) (by omega) (by omega) hs (fun a W b _ _ q => by omega) cf_wr _ (Nat.le_refl _)⟩
theorem xc_27 (H : cf_H K T L Q ls) (hX : tb_X K a_power a_first a_sizes) (hN : ∀ w, ww_n K w ≤ L → a_normalForm w = nI (ls w)) {f g : Nat} (f7 : f < 127) (g7 : g < 127) (hf : rl_red K ls f) (hg : rl_red K ls g) {lim : Nat} (hlim : lim + L = ww_n K f + ww_n K g)
    {post : Int32 → Prop} (h0 : ¬ cf_Q K L ls → post 0) :
    ∀ d sh, sh + d = lim + 1 → 1 ≤ sh → ((∀ x y z, f = ww_c K x y → g = ww_c K y z → 0 < ww_n K x → sh ≤ ww_n K y → 0 < ww_n K z → L < ww_n K x + ww_n K y + ww_n K z → ∃ r, cf_w K ls (ww_c K (ls f) z) r ∧ cf_w K ls (ww_c K x (ls g)) r) → post 1) →
    ∀ n, d < n → wX_confluentPair_27 post (nI f) (nI g) (nI (ww_n K f)) (nI (ww_n K g)) (nI lim) f_letters f_topLevel f_capacity (nI L) f_equations f_taken f_rules f_confluence f_agendaTop f_queueSize f_chainLength a_power a_first a_sizes a_buffer a_equationSide a_ruleRight a_next a_fresh a_ruleLeft a_normalForm a_agendaOne a_agendaTwo a_distance a_queue a_chainWord a_chainEquation a_chainSide a_chainPlace n (nI sh) := by
  have hK := H.1
  have h2 := tb_2 hK
  have hT := tb_T hK
  have hLT := H.2.1
  have lf := cf_rL H f7 hf
  have lg := cf_rL H g7 hg
  have stop : ∀ sh, (ww_n K f ≤ sh ∨ ww_n K g ≤ sh ∨ lim ≤ sh) → ((∀ x y z, f = ww_c K x y → g = ww_c K y z → 0 < ww_n K x → sh ≤ ww_n K y → 0 < ww_n K z → L < ww_n K x + ww_n K y + ww_n K z → ∃ r, cf_w K ls (ww_c K (ls f) z) r ∧ cf_w K ls (ww_c K x (ls g)) r) → post 1) → post 1 := by
    intro sh hs h1
    refine h1 (fun x y z e1 e2 q1 q2 q3 q4 => ?_)
    have a1 := congrArg (ww_n K) e1
    have a2 := congrArg (ww_n K) e2
    rw [ww_cn h2] at a1 a2
    omega
  intro d
  induction d with
  | zero =>
    intro sh hd hs h1 n hn
    obtain ⟨m, rfl⟩ : ∃ m, n = m + 1 := ⟨n - 1, by omega⟩
    have p1 := stop sh (by omega) h1
    exact pk_le (ww_n K f) sh (fun _ => p1) (fun _ => pk_le (ww_n K g) sh (fun _ => p1) (fun _ => br_t (nI_le (by omega) (by omega)) p1))
  | succ d ih =>
    intro sh hd hs h1 n hn
    obtain ⟨m, rfl⟩ : ∃ m, n = m + 1 := ⟨n - 1, by omega⟩
    refine pk_le (ww_n K f) sh (fun q => stop sh (by omega) h1) (fun q1 => pk_le (ww_n K g) sh (fun q => stop sh (by omega) h1) (fun q2 => pk_le lim sh (fun q => stop sh (by omega) h1) (fun q3 => ?_)))
    obtain ⟨x, y, ef, nx, ny⟩ := ww_sp h2 (w := f) (m := ww_n K f - sh) (n := sh) (by omega)
    obtain ⟨y', z, eg, ny', nz⟩ := ww_sp h2 (w := g) (m := sh) (n := ww_n K g - sh) (by omega)
    have goOn : (y = y' → ∃ r, cf_w K ls (ww_c K (ls f) z) r ∧ cf_w K ls (ww_c K x (ls g)) r) → ∀ x6 : Int32, x6 = nI sh + 1 → wX_confluentPair_27 post (nI f) (nI g) (nI (ww_n K f)) (nI (ww_n K g)) (nI lim) f_letters f_topLevel f_capacity (nI L) f_equations f_taken f_rules f_confluence f_agendaTop f_queueSize f_chainLength a_power a_first a_sizes a_buffer a_equationSide a_ruleRight a_next a_fresh a_ruleLeft a_normalForm a_agendaOne a_agendaTwo a_distance a_queue a_chainWord a_chainEquation a_chainSide a_chainPlace m x6 := by
      intro hy
      refine nm_r (nI_1 sh) (ih (sh + 1) (by omega) (by omega) (fun k => h1 (fun x1 y1 z1 e1 e2 z2 z3 z4 z5 => ?_)) m (by omega))
      rcases Nat.lt_or_ge sh (ww_n K y1) with q | q
      · exact k x1 y1 z1 e1 e2 z2 q z4 z5
      · have u1 := ww_cx h2 (ef.symm.trans e1) (by omega)
        have u2 := ww_cx' h2 (eg.symm.trans e2) (by omega)
        rw [← u1.1, ← u2.2]
        exact hy (u1.2.trans u2.1.symm)
    rw [← ny]
    refine xl_ovl hK hX (tb_big hK f7) (tb_big hK g7) ef eg (by omega) (fun ey => ?_) (fun ne => ?_)
    · have egy : g = ww_c K y z := by rw [ey]; exact eg
      have lsf := cf_le H f7
      have lsg := cf_le H g7
      have n1 := ww_nm h2 lsf
      have n2 := ww_nm h2 lsg
      have a1 := congrArg (ww_n K) ef
      have a2 := congrArg (ww_n K) egy
      rw [ww_cn h2] at a1 a2
      have er : a_normalForm (nI f).toNatClampNeg = nI (ls f) := by rw [nI_clamp (by omega)]; exact hN f lf
      have es : a_normalForm (nI g).toNatClampNeg = nI (ls g) := by rw [nI_clamp (by omega)]; exact hN g lg
      refine br_f (by decide) ⟨vp_in_nI f7 (by decide), ?_⟩
      rw [er]
      refine xl_rf hK hX (tb_big hK g7) egy ⟨vp_in_nI g7 (by decide), ?_⟩
      rw [es]
      refine xl_rs hK hX (tb_big hK f7) (tb_big hK (by omega)) ef ?_
      have l1 : ww_n K (ww_c K (ls f) z) < 2 * L := by rw [ww_cn h2]; omega
      have l2 : ww_n K (ww_c K x (ls g)) < 2 * L := by rw [ww_cn h2]; omega
      have l3 : ww_n K (ww_c K x (ww_c K y z)) < 2 * L := by rw [ww_cn h2, ww_cn h2]; omega
      have s1 : cf_w K ls (ww_c K x (ww_c K y z)) (ww_c K (ls f) z) := by
        have := cf_wc h2 0 z (cf_w1 (s := f) (r := ls f) (K := K) (ls := ls) ⟨0, f, ls f, 0, ⟨f7, hf, rfl⟩, by rw [ww_c0, ww_0c], by rw [ww_c0, ww_0c]⟩)
        rw [ww_0c, ww_0c, ef, ww_ca h2, ← ef] at this
        exact this
      have s2 : cf_w K ls (ww_c K x (ww_c K y z)) (ww_c K x (ls g)) := by
        have := cf_wc h2 x 0 (cf_w1 (s := g) (r := ls g) (K := K) (ls := ls) ⟨0, g, ls g, 0, ⟨g7, hg, rfl⟩, by rw [ww_c0, ww_0c], by rw [ww_c0, ww_0c]⟩)
        rw [ww_c0, ww_c0] at this
        rw [← egy]; exact this
      refine xc_rl H hX hN l1 (fun p' p1 p2 => ?_)
      refine xc_rl H hX hN l2 (fun q' r1 r2 => ?_)
      rw [ny]
      have b1 : p' < 2 ^ 31 := tb_w hK (tb_ln hK (by have := ww_nm h2 (cf_wle H p1); omega))
      have b2 : q' < 2 ^ 31 := tb_w hK (tb_ln hK (by have := ww_nm h2 (cf_wle H r1); omega))
      refine pk_eq p' q' (fun e => ?_) (fun ne => ?_)
      · exact goOn (fun _ => ⟨p', p1, by rw [e]; exact r1⟩)
      · exact h0 (cf_no H l3 (cf_wt s1 p1) (cf_wt s2 r1) p2 r2 ne)
    · rw [ny]
      exact br_t rfl (goOn (fun e => absurd e ne))
theorem xc_cp (H : cf_H K T L Q ls) (hX : tb_X K a_power a_first a_sizes) (hN : ∀ w, ww_n K w ≤ L → a_normalForm w = nI (ls w)) {f g : Nat} (f7 : f < 127) (g7 : g < 127) (hf : rl_red K ls f) (hg : rl_red K ls g)
    {post : Int32 → Prop} (h0 : ¬ cf_Q K L ls → post 0)
    (h1 : (∀ x y z, f = ww_c K x y → g = ww_c K y z → 0 < ww_n K x → 0 < ww_n K y → 0 < ww_n K z → L < ww_n K x + ww_n K y + ww_n K z → ∃ r, cf_w K ls (ww_c K (ls f) z) r ∧ cf_w K ls (ww_c K x (ls g)) r) → post 1) :
    wpX_confluentPair post (f_letters, f_topLevel, f_capacity, nI L, f_equations, f_taken, f_rules, f_confluence, f_agendaTop, f_queueSize, f_chainLength, a_power, a_first, a_sizes, a_buffer, a_equationSide, a_ruleRight, a_next, a_fresh, a_ruleLeft, a_normalForm, a_agendaOne, a_agendaTwo, a_distance, a_queue, a_chainWord, a_chainEquation, a_chainSide, a_chainPlace) (nI f) (nI g) := by
  have hK := H.1
  have h2 := tb_2 hK
  have hT := tb_T hK
  have hLT := H.2.1
  have lf := cf_rL H f7 hf
  have lg := cf_rL H g7 hg
  unfold wpX_confluentPair
  refine xl_len hK hX (tb_big hK f7) (xl_len hK hX (tb_big hK g7) ?_)
  rw [nI_add]
  rcases Nat.lt_or_ge (ww_n K f + ww_n K g) L with q | q
  · refine nm_e ⟨1, ?_⟩
    have p1 : post 1 := h1 (fun x y z e1 e2 q1 q2 q3 q4 => by
      have a1 := congrArg (ww_n K) e1
      have a2 := congrArg (ww_n K) e2
      rw [ww_cn h2] at a1 a2
      omega)
    have es : nI (ww_n K f + ww_n K g) - nI L ≤ (1 : Int32) := by
      rw [Int32.le_iff_toInt_le, pk_sub_toInt (by omega) (by omega)]
      show _ ≤ (1 : Int)
      omega
    exact br_c (fun _ => p1) (fun _ => br_c (fun _ => p1) (fun _ => br_t es p1))
  · exact nm_r (pk_sub q) ⟨ww_n K f + ww_n K g - L + 1, xc_27 H hX hN f7 g7 hf hg (by omega) h0 (ww_n K f + ww_n K g - L) 1 (by omega) (by omega) h1 _ (by omega)⟩
/-- the list of the left sides -/
def xc_L (K : Nat) (ls : Nat → Nat) (nr : Nat) (rl : Nat → Nat) (a_ruleLeft : Nat → Int32) : Prop :=
  nr ≤ 127 ∧ (∀ i, i < nr → a_ruleLeft i = nI (rl i) ∧ rl i < 127 ∧ rl_red K ls (rl i)) ∧ (∀ z, z < 127 → rl_red K ls z → ∃ i, i < nr ∧ rl i = z)
/-- one pair resolved -/
def xc_J (K L : Nat) (ls : Nat → Nat) (f g : Nat) : Prop := ∀ x y z, f = ww_c K x y → g = ww_c K y z → 0 < ww_n K x → 0 < ww_n K y → 0 < ww_n K z → L < ww_n K x + ww_n K y + ww_n K z → ∃ r, cf_w K ls (ww_c K (ls f) z) r ∧ cf_w K ls (ww_c K x (ls g)) r
theorem xc_12 (H : cf_H K T L Q ls) (hX : tb_X K a_power a_first a_sizes) (hN : ∀ w, ww_n K w ≤ L → a_normalForm w = nI (ls w)) {nr : Nat} {rl : Nat → Nat} (hR : xc_L K ls nr rl a_ruleLeft) {i : Nat} (hi : i < nr)
    {post : Int32 → Prop} (h0 : ¬ cf_Q K L ls → post 0) {J2 : Int32 → Prop} : ∀ d j, j + d = nr → ((∀ j', j ≤ j' → j' < nr → xc_J K L ls (rl i) (rl j')) → J2 (nI (i + 1))) → ∀ n, d < n →
    wX_allPairsConfluent_12 post J2 (nI i) f_letters f_topLevel f_capacity (nI L) f_equations f_taken (nI nr) f_confluence f_agendaTop f_queueSize f_chainLength a_power a_first a_sizes a_buffer a_equationSide a_ruleRight a_next a_fresh a_ruleLeft a_normalForm a_agendaOne a_agendaTwo a_distance a_queue a_chainWord a_chainEquation a_chainSide a_chainPlace n (nI j) := by
  have r7 := hR.1
  intro d
  induction d with
  | zero =>
    intro j hj h1 n hn
    obtain ⟨m, rfl⟩ : ∃ m, n = m + 1 := ⟨n - 1, by omega⟩
    exact br_t (nI_le (by omega) (by omega)) (nm_r (nI_1 i) (h1 (fun j' q1 q2 => by omega)))
  | succ d ih =>
    intro j hj h1 n hn
    obtain ⟨m, rfl⟩ : ∃ m, n = m + 1 := ⟨n - 1, by omega⟩
    have ri := hR.2.1 i hi
    have rj := hR.2.1 j (by omega)
    have ei : a_ruleLeft (nI i).toNatClampNeg = nI (rl i) := by rw [nI_clamp (by omega)]; exact ri.1
    have ej : a_ruleLeft (nI j).toNatClampNeg = nI (rl j) := by rw [nI_clamp (by omega)]; exact rj.1
    refine br_f (nI_ge (by omega) (by omega)) ⟨vp_in_nI (by omega) (by decide), vp_in_nI (by omega) (by decide), ?_⟩
    rw [ei, ej]
    refine xc_cp H hX hN ri.2.1 rj.2.1 ri.2.2 rj.2.2 (fun q => br_t rfl (h0 q)) (fun k => br_f (by decide) (nm_r (nI_1 j) (ih (j + 1) (by omega) (fun k2 => h1 (fun j' q1 q2 => ?_)) m (by omega))))
    rcases Nat.lt_or_ge j j' with q | q
    · exact k2 j' q q2
    · have : j' = j := by omega
      rw [this]; exact k
theorem xc_2 (H : cf_H K T L Q ls) (hX : tb_X K a_power a_first a_sizes) (hN : ∀ w, ww_n K w ≤ L → a_normalForm w = nI (ls w)) {nr : Nat} {rl : Nat → Nat} (hR : xc_L K ls nr rl a_ruleLeft)
    {post : Int32 → Prop} (h0 : ¬ cf_Q K L ls → post 0) : ∀ d i, i + d = nr → ((∀ i', i ≤ i' → i' < nr → ∀ j', j' < nr → xc_J K L ls (rl i') (rl j')) → post 1) → ∀ n, d < n →
    wX_allPairsConfluent_2 post f_letters f_topLevel f_capacity (nI L) f_equations f_taken (nI nr) f_confluence f_agendaTop f_queueSize f_chainLength a_power a_first a_sizes a_buffer a_equationSide a_ruleRight a_next a_fresh a_ruleLeft a_normalForm a_agendaOne a_agendaTwo a_distance a_queue a_chainWord a_chainEquation a_chainSide a_chainPlace n (nI i) := by
  have r7 := hR.1
  intro d
  induction d with
  | zero =>
    intro i hi h1 n hn
    obtain ⟨m, rfl⟩ : ∃ m, n = m + 1 := ⟨n - 1, by omega⟩
    exact br_t (nI_le (by omega) (by omega)) (h1 (fun i' q1 q2 => by omega))
  | succ d ih =>
    intro i hi h1 n hn
    obtain ⟨m, rfl⟩ : ∃ m, n = m + 1 := ⟨n - 1, by omega⟩
    refine br_f (nI_ge (by omega) (by omega)) ⟨nr + 1, xc_12 H hX hN hR (by omega) h0 nr 0 (by omega) (fun k => ih (i + 1) (by omega) (fun k2 => h1 (fun i' q1 q2 j' q3 => ?_)) m (by omega)) _ (by omega)⟩
    rcases Nat.lt_or_ge i i' with q | q
    · exact k2 i' q q2 j' q3
    · have : i' = i := by omega
      rw [this]; exact k j' (Nat.zero_le _) q3
theorem xc_all (H : cf_H K T L Q ls) (hX : tb_X K a_power a_first a_sizes) (hN : ∀ w, ww_n K w ≤ L → a_normalForm w = nI (ls w)) {nr : Nat} {rl : Nat → Nat} (hR : xc_L K ls nr rl a_ruleLeft)
    {post : Int32 → Prop} (h0 : ¬ cf_Q K L ls → post 0) (h1 : cf_Q K L ls → post 1) : wpX_allPairsConfluent post (f_letters, f_topLevel, f_capacity, nI L, f_equations, f_taken, nI nr, f_confluence, f_agendaTop, f_queueSize, f_chainLength, a_power, a_first, a_sizes, a_buffer, a_equationSide, a_ruleRight, a_next, a_fresh, a_ruleLeft, a_normalForm, a_agendaOne, a_agendaTwo, a_distance, a_queue, a_chainWord, a_chainEquation, a_chainSide, a_chainPlace) := by
  unfold wpX_allPairsConfluent
  refine ⟨nr + 1, xc_2 H hX hN hR h0 nr 0 (by omega) (fun k => h1 (cf_yes H (fun f g f7 g7 hf hg => ?_))) _ (by omega)⟩
  obtain ⟨i, hi, ei⟩ := hR.2.2 f f7 hf
  obtain ⟨j, hj, ej⟩ := hR.2.2 g g7 hg
  have := k i (Nat.zero_le _) hi j hj
  rw [ei, ej] at this
  exact this
end
end
section
/-! The reference's test of confluence. -/
def yv_I (K : Nat) (ls la : Nat → Nat) (x : Nat) : Prop := cf_w K ls x (la x) ∧ cf_i K ls (la x) ∧ ∀ v, rw_st K (cf_R K ls) x v → la v = la x
section
variable {K T L : Nat} {Q : Nat → Nat → Prop} {ls la : Nat → Nat} {w : Nat}
theorem yv_irr {x : Nat} (h : yv_I K ls la x) : cf_i K ls x ↔ la x = x := by
  constructor
  · intro i
    exact h.1 (fun z => z = x) rfl (fun z v e st => by subst e; exact absurd st (i v))
  · intro e
    have := h.2.1
    rw [e] at this; exact this
theorem yv_al (H : cf_H K T L Q ls) (h : ∀ y, y < w → yv_I K ls la y) {x y : Nat} (hx : x < w) (hr : cf_w K ls x y) : la y = la x := by
  refine (hr (fun z => z ≤ x ∧ la z = la x) ⟨Nat.le_refl _, rfl⟩ (fun z v hz st => ?_)).2
  have := rw_lt (tb_2 H.1) (cf_d H) st
  exact ⟨by omega, ((h z (by omega)).2.2 v st).trans hz.2⟩
theorem yv_cs (hK : 2 ≤ K) {v b a u w' : Nat} (e1 : w = ww_c K v b) (e2 : w = ww_c K a u) (nb : ww_n K b = 1) (na : ww_n K a = 1) (st : rw_st K (cf_R K ls) w w') :
    (w < 127 ∧ rl_red K ls w ∧ w' = ls w) ∨ (∃ v', rw_st K (cf_R K ls) v v' ∧ w' = ww_c K v' b) ∨ (∃ u', rw_st K (cf_R K ls) u u' ∧ w' = ww_c K a u') := by
  obtain ⟨x, p, q, y, hr, e3, e4⟩ := st
  rcases Nat.eq_zero_or_pos (ww_n K y) with z | z
  · have y0 := ww_n00 hK z
    subst y0
    rcases Nat.eq_zero_or_pos (ww_n K x) with z' | z'
    · have x0 := ww_n00 hK z'
      subst x0
      rw [ww_c0, ww_0c] at e3 e4
      subst e3; subst e4
      exact Or.inl ⟨hr.1, hr.2.1, hr.2.2⟩
    · obtain ⟨x1, x2, ex, h1, h2, _⟩ := ww_first hK z'
      rw [ex, ww_ca hK] at e3 e4
      have k := ww_cx' hK (e2.symm.trans e3) (by rw [na, ww_n1c hK h1 h2])
      refine Or.inr (Or.inr ⟨_, ⟨x2, p, q, 0, hr, k.2, rfl⟩, ?_⟩)
      rw [k.1]; exact e4
  · obtain ⟨y1, y2, ey, h1, h2, _⟩ := ww_last hK z
    rw [ey, ← ww_ca hK p, ← ww_ca hK x] at e3
    rw [ey, ← ww_ca hK q, ← ww_ca hK x] at e4
    have k := ww_cx hK (e1.symm.trans e3) (by rw [nb, ww_n1c hK h1 h2])
    refine Or.inr (Or.inl ⟨_, ⟨x, p, q, y1, hr, k.1, rfl⟩, ?_⟩)
    rw [k.2]; exact e4
theorem yv_sv (hK : 2 ≤ K) {v b : Nat} {r : Nat} (h : cf_w K ls v r) : cf_w K ls (ww_c K v b) (ww_c K r b) := by
  have := cf_wc hK 0 b h
  rw [ww_0c, ww_0c] at this; exact this
theorem yv_su (hK : 2 ≤ K) {a u : Nat} {r : Nat} (h : cf_w K ls u r) : cf_w K ls (ww_c K a u) (ww_c K a r) := by
  have := cf_wc hK a 0 h
  rw [ww_c0, ww_c0] at this; exact this
/-- the value at the next word -/
theorem yv_nx (H : cf_H K T L Q ls) (h : ∀ y, y < w → yv_I K ls la y) {v b a u r : Nat} (e1 : w = ww_c K v b) (e2 : w = ww_c K a u) (nb : ww_n K b = 1) (na : ww_n K a = 1) (hv : v < w) (hu : u < w)
    (hw : cf_w K ls w r) (hi : cf_i K ls r) (h1 : w < 127 → rl_red K ls w → la (ls w) = r) (h2 : la v ≠ v → la (ww_c K (la v) b) = r) (h3 : la u ≠ u → la (ww_c K a (la u)) = r) :
    ∀ y, y < w + 1 → yv_I K ls (gu la w r) y := by
  have hK := tb_2 H.1
  intro y hy
  have low : ∀ z, z < w → gu la w r z = la z := fun z hz => gu_n (by omega)
  rcases Nat.lt_or_ge y w with z | z
  · have k := h y z
    refine ⟨by rw [low y z]; exact k.1, by rw [low y z]; exact k.2.1, fun v' st => ?_⟩
    have := rw_lt hK (cf_d H) st
    rw [low y z, low v' (by omega)]
    exact k.2.2 v' st
  · have e : y = w := by omega
    subst e
    have gs : gu la y r y = r := gu_s
    refine ⟨by rw [gs]; exact hw, by rw [gs]; exact hi, fun w' st => ?_⟩
    have lt := rw_lt hK (cf_d H) st
    rw [gs, low w' lt]
    rcases yv_cs hK e1 e2 nb na st with ⟨k1, k2, k3⟩ | ⟨v', k1, k2⟩ | ⟨u', k1, k2⟩
    · rw [k3]; exact h1 k1 k2
    · have kv := h v hv
      have l1 := rw_lt hK (cf_d H) k1
      have ne : la v ≠ v := fun q => (yv_irr kv).mpr q v' k1
      rw [← h2 ne, ← kv.2.2 v' k1]
      rw [k2]; rw [k2] at lt
      exact (yv_al H h lt (yv_sv hK (h v' (by omega)).1)).symm
    · have ku := h u hu
      have l1 := rw_lt hK (cf_d H) k1
      have ne : la u ≠ u := fun q => (yv_irr ku).mpr q u' k1
      rw [← h3 ne, ← ku.2.2 u' k1]
      rw [k2]; rw [k2] at lt
      exact (yv_al H h lt (yv_su hK (h u' (by omega)).1)).symm
/-- inside a minimal word nothing can be rewritten -/
theorem yv_rd (H : cf_H K T L Q ls) (h : ∀ y, y < w → yv_I K ls la y) (hr : rl_red K ls w) {x f y : Nat} (e : w = ww_c K x (ww_c K f y)) (hl : ww_n K f < ww_n K w) (hf : f < w) : la f = f := by
  have hK := tb_2 H.1
  refine (yv_irr (h f hf)).mp ?_
  rintro v ⟨a, p, q, b, ⟨p7, k2, _⟩, e1, _⟩
  have n := congrArg (ww_n K) e1
  rw [ww_cn hK, ww_cn hK] at n
  exact k2.1 (hr.2 _ p _ (by rw [e, e1, rw_as hK]) (by omega))
theorem yv_Q (H : cf_H K T L Q ls) (h : ∀ y, y < ww_f K (2 * L) → yv_I K ls la y) : cf_Q K L ls := by
  have hK := tb_2 H.1
  exact ⟨la, fun w hw v st => (h w ((ww_nlt hK).mp hw)).2.2 v st, fun w hw i => (yv_irr (h w ((ww_nlt hK).mp hw))).mp i⟩
end
section
variable {K T L : Nat} {Q : Nat → Nat → Prop} {ls : Nat → Nat} {f_top f_capacity f_count f_taken f_chainN : Int32} {a_buffer a_equation a_least a_ruleLeft a_chainWord a_chainStep a_old a_dist a_link : Nat → Int32}
theorem yc_59 (H : cf_H K T L Q ls) (hg : yl_g ls a_least) (hr : ∀ w, w < 127 → a_ruleLeft w = yb (rl_red K ls w)) {post : Int32 → SY → Prop} (h0 : ∀ a_last : Nat → Int32, ¬ cf_Q K L ls → post 0 (nI K, f_top, f_capacity, nI L, f_count, f_taken, f_chainN, a_buffer, a_equation, a_least, a_ruleLeft, a_chainWord, a_chainStep, a_old, a_dist, a_link, a_last))
    {J9 J47 : (Int32 → (Nat → Int32) → (Nat → Int32) → (Nat → Int32) → (Nat → Int32) → (Nat → Int32) → (Nat → Int32) → (Nat → Int32) → (Nat → Int32) → (Nat → Int32) → (Nat → Int32) → Prop)} {x1 : Int32} {n1 a : Nat} (hn1 : n1 + 1 < 2 * L) (ha : 1 ≤ a) (ha2 : a ≤ K)
    (hc : ∀ (la : Nat → Nat) (a_last : Nat → Int32), (∀ y, y < a * K ^ n1 + ww_f K (n1 + 1) → a_last y = nI (la y) ∧ yv_I K ls la y) → J47 (nI (a + 1)) a_buffer a_equation a_least a_ruleLeft a_chainWord a_chainStep a_old a_dist a_link a_last) :
    ∀ d u, u + d = ww_f K (n1 + 1) → ww_f K n1 ≤ u → ∀ n, d < n → ∀ (la : Nat → Nat) (a_last : Nat → Int32), (∀ y, y < a * K ^ n1 + u → a_last y = nI (la y) ∧ yv_I K ls la y) →
    wY_confluent_59 post J9 J47 x1 (nI (K ^ n1)) (nI (ww_f K n1)) (nI (ww_f K (n1 + 1))) (nI a) (nI K) f_top f_capacity (nI L) f_count f_taken f_chainN n (nI u) a_buffer a_equation a_least a_ruleLeft a_chainWord a_chainStep a_old a_dist a_link a_last := by
  have hK := H.1
  have h2 := tb_2 hK
  have hk3 := tb_3 hK
  have hT := tb_T hK
  have hLT := H.2.1
  have b31 : ww_f K (n1 + 1) < 2 ^ 31 := tb_f hK (by omega)
  intro d
  induction d with
  | zero =>
    intro u hu hf n hn la a_last hp
    obtain ⟨m, rfl⟩ : ∃ m, n = m + 1 := ⟨n - 1, by omega⟩
    have : u = ww_f K (n1 + 1) := by omega
    subst this
    exact br_t (nI_le (Nat.le_refl _) b31) (nm_r (nI_1 a) (hc la a_last hp))
  | succ d ih =>
    intro u hu hf n hn la a_last hp
    obtain ⟨m, rfl⟩ : ∃ m, n = m + 1 := ⟨n - 1, by omega⟩
    have nu : ww_n K u = n1 := ww_nu h2 hf (by omega)
    have na : ww_n K a = 1 := ww_n1c h2 ha ha2
    have ew : a * K ^ n1 + u = ww_c K a u := by rw [← nu]; rfl
    rw [ew] at hp
    have lw : ww_n K (ww_c K a u) = n1 + 1 := by rw [ww_cn h2]; omega
    obtain ⟨v, b, ev, hb1, hb2, nv⟩ := ww_last h2 (w := ww_c K a u) (by omega)
    have nb : ww_n K b = 1 := ww_n1c h2 hb1 hb2
    have ev' : ww_c K a u = v * K + b := by rw [ev, ww_cx1 h2 v hb1 hb2]
    have e7 : nI a * nI (K ^ n1) + nI u = nI (ww_c K a u) := by rw [pk_mul, nI_add, ew]
    have w15 : ww_c K a u < ww_f K 15 := tb_ln hK (by omega)
    have w31 := tb_w hK w15
    have w4 : ww_c K a u < 4095 := by
      have l := (ww_nle h2 (w := ww_c K a u) (n := 2 * T - 1)).mp (by omega)
      have e : ww_f K (2 * T - 1 + 1) ≤ 4095 := by
        rcases hK with ⟨rfl, rfl⟩ | ⟨rfl, rfl⟩
        · decide
        · decide
      omega
    have vK : v ≤ v * K := Nat.le_mul_of_pos_right v (by omega)
    have hv : v < ww_c K a u := by omega
    have hu' : u < ww_c K a u := by
      have := ww_cl h2 u (show 0 < a by omega)
      rw [ww_0c] at this; exact this
    have e8 : (nI (ww_c K a u) - 1) / nI K = nI v := by
      have dv : (ww_c K a u - 1) / K = v := by
        have e3 : ww_c K a u - 1 = (b - 1) + K * v := by rw [ev', Nat.mul_comm]; omega
        rw [e3, Nat.add_mul_div_left _ _ (by omega), Nat.div_eq_of_lt (by omega)]; omega
      rw [show (1 : Int32) = nI 1 from rfl, pk_sub (by omega), pk_div (by omega) (by omega) (by omega), dv]
    have e9 : nI (ww_c K a u) - nI v * nI K = nI b := by
      rw [pk_mul, pk_sub (by omega)]; exact congrArg nI (by omega)
    have la_le : ∀ y, y < ww_c K a u → la y ≤ y := fun y hy => cf_wle H (hp y hy).2.1
    have pr : ∀ y, y < ww_c K a u → yv_I K ls la y := fun y hy => (hp y hy).2
    have cl : ∀ y, y < 4095 → (nI y).toNatClampNeg = y := fun y hy => nI_clamp (by omega)
    -- the two joins behind the first value
    have go : ∀ (r0 : Nat) (al : Nat → Int32), (∀ y, y < ww_c K a u → al y = nI (la y)) → al (ww_c K a u) = nI r0 → r0 < 4095 →
        ((ww_c K a u < 127 ∧ rl_red K ls (ww_c K a u) ∧ r0 = la (ls (ww_c K a u))) ∨ (¬ (ww_c K a u < 127 ∧ rl_red K ls (ww_c K a u)) ∧ r0 = ww_c K a u)) →
        wY_confluent_143 post J9 J47 (wY_confluent_59 post J9 J47 x1 (nI (K ^ n1)) (nI (ww_f K n1)) (nI (ww_f K (n1 + 1))) (nI a) (nI K) f_top f_capacity (nI L) f_count f_taken f_chainN m) x1 (nI (K ^ n1)) (nI (ww_f K n1)) (nI (ww_f K (n1 + 1))) (nI a) (nI u) (nI (ww_c K a u)) (nI v) (nI b) (nI K) f_top f_capacity (nI L) f_count f_taken f_chainN a_buffer a_equation a_least a_ruleLeft a_chainWord a_chainStep a_old a_dist a_link al := by
      intro r0 al hal hw0 r04 hcase
      have redv : ww_c K a u < 127 ∧ rl_red K ls (ww_c K a u) → la v = v ∧ la u = u := by
        rintro ⟨_, k2⟩
        refine ⟨yv_rd H pr k2 (x := 0) (f := v) (y := b) (by rw [ww_0c]; exact ev) (by omega) hv, yv_rd H pr k2 (x := a) (f := u) (y := 0) (by rw [ww_c0]) (by omega) hu'⟩
      -- the end of a turn
      have endT : ∀ (r : Nat) (al2 : Nat → Int32), (∀ y, y < ww_c K a u → al2 y = nI (la y)) → al2 (ww_c K a u) = nI r → cf_w K ls (ww_c K a u) r → cf_i K ls r →
          (ww_c K a u < 127 → rl_red K ls (ww_c K a u) → la (ls (ww_c K a u)) = r) → (la v ≠ v → la (ww_c K (la v) b) = r) → (la u ≠ u → la (ww_c K a (la u)) = r) →
          ∀ x6 : Int32, x6 = nI u + 1 → wY_confluent_59 post J9 J47 x1 (nI (K ^ n1)) (nI (ww_f K n1)) (nI (ww_f K (n1 + 1))) (nI a) (nI K) f_top f_capacity (nI L) f_count f_taken f_chainN m x6 a_buffer a_equation a_least a_ruleLeft a_chainWord a_chainStep a_old a_dist a_link al2 := by
        intro r al2 q1 q2 q3 q4 q5 q6 q7
        refine nm_r (nI_1 u) (ih (u + 1) (by omega) (by omega) m (by omega) (gu la (ww_c K a u) r) al2 (fun y hy => ?_))
        have hy' : y < ww_c K a u + 1 := by omega
        refine ⟨?_, yv_nx H pr ev rfl nb na hv hu' q3 q4 q5 q6 q7 y hy'⟩
        rcases Nat.lt_or_ge y (ww_c K a u) with z | z
        · rw [gu_n (by omega)]; exact q1 y z
        · have : y = ww_c K a u := by omega
          rw [this, gu_s]; exact q2
      -- the second join
      have go2 : ∀ (r1 : Nat) (al2 : Nat → Int32), (∀ y, y < ww_c K a u → al2 y = nI (la y)) → al2 (ww_c K a u) = nI r1 → r1 < 4095 → (la v ≠ v → r1 = la (ww_c K (la v) b)) → (la v = v → r1 = r0) →
          wY_confluent_182 post J9 J47 (wY_confluent_59 post J9 J47 x1 (nI (K ^ n1)) (nI (ww_f K n1)) (nI (ww_f K (n1 + 1))) (nI a) (nI K) f_top f_capacity (nI L) f_count f_taken f_chainN m) x1 (nI (K ^ n1)) (nI (ww_f K n1)) (nI (ww_f K (n1 + 1))) (nI a) (nI u) (nI (ww_c K a u)) (nI v) (nI K) f_top f_capacity (nI L) f_count f_taken f_chainN a_buffer a_equation a_least a_ruleLeft a_chainWord a_chainStep a_old a_dist a_link al2 := by
        intro r1 al2 q1 q2 r14 q3 q4
        unfold wY_confluent_182
        have eu : al2 (nI u).toNatClampNeg = nI (la u) := by rw [cl u (by omega)]; exact q1 u hu'
        have lu := la_le u hu'
        have lv := la_le v hv
        have chv : la v ≠ v → cf_w K ls (ww_c K a u) (la (ww_c K (la v) b)) ∧ cf_i K ls (la (ww_c K (la v) b)) := by
          intro ne
          have lt : ww_c K (la v) b < ww_c K a u := by
            have := ww_cl h2 b (show la v < v by omega)
            rw [← ev] at this; exact this
          refine ⟨cf_wt (r := ww_c K (la v) b) ?_ (pr _ lt).1, (pr _ lt).2.1⟩
          have := yv_sv h2 (b := b) (pr v hv).1
          rw [← ev] at this; exact this
        refine ⟨vp_in_nI (by omega) (by decide), ?_⟩
        rw [eu]
        refine pk_eq (la u) u (fun eqU => ?_) (fun neU => ?_)
        · -- nothing in the tail
          refine endT r1 al2 q1 q2 ?_ ?_ (fun k1 k2 => ?_) (fun ne => (q3 ne).symm) (fun ne => absurd eqU ne)
          · rcases Classical.em (la v = v) with y | y
            · rw [q4 y]
              rcases hcase with ⟨k1, k2, k3⟩ | ⟨k1, k3⟩
              · have l1 := (cf_d H) _ _ ⟨k1, k2, rfl⟩
                rw [k3]
                refine cf_wt (cf_w1 (r := ls (ww_c K a u)) ⟨0, _, _, 0, ⟨k1, k2, rfl⟩, by rw [ww_c0, ww_0c], by rw [ww_c0, ww_0c]⟩) (pr _ l1).1
              · rw [k3]; exact cf_wr
            · rw [q3 y]; exact (chv y).1
          · rcases Classical.em (la v = v) with y | y
            · rw [q4 y]
              rcases hcase with ⟨k1, k2, k3⟩ | ⟨k1, k3⟩
              · have l1 := (cf_d H) _ _ ⟨k1, k2, rfl⟩
                rw [k3]; exact (pr _ l1).2.1
              · rw [k3]
                intro w' st
                rcases yv_cs h2 ev rfl nb na st with ⟨z1, z2, _⟩ | ⟨v', z1, _⟩ | ⟨u', z1, _⟩
                · exact k1 ⟨z1, z2⟩
                · exact (yv_irr (pr v hv)).mpr y v' z1
                · exact (yv_irr (pr u hu')).mpr eqU u' z1
            · rw [q3 y]; exact (chv y).2
          · have y := (redv ⟨k1, k2⟩).1
            rw [q4 y]
            rcases hcase with ⟨_, _, k3⟩ | ⟨k3, _⟩
            · exact k3.symm
            · exact absurd ⟨k1, k2⟩ k3
        · have ltU : la u < u := by omega
          have ltT : ww_c K a (la u) < ww_c K a u := ww_cr h2 a ltU
          have cht : cf_w K ls (ww_c K a u) (la (ww_c K a (la u))) := cf_wt (yv_su h2 (pr u hu').1) (pr _ ltT).1
          have et : al2 (nI (ww_c K a (la u))).toNatClampNeg = nI (la (ww_c K a (la u))) := by rw [cl _ (by omega)]; exact q1 _ ltT
          have ev2 : al2 (nI v).toNatClampNeg = nI (la v) := by rw [cl v (by omega)]; exact q1 v hv
          have e2w : al2 (nI (ww_c K a u)).toNatClampNeg = nI r1 := by rw [cl _ w4]; exact q2
          have lt := la_le _ ltT
          have last : (la v ≠ v → la (ww_c K (la v) b) = la (ww_c K a (la u))) → wY_confluent_240 post J9 J47 (wY_confluent_59 post J9 J47 x1 (nI (K ^ n1)) (nI (ww_f K n1)) (nI (ww_f K (n1 + 1))) (nI a) (nI K) f_top f_capacity (nI L) f_count f_taken f_chainN m) x1 (nI (K ^ n1)) (nI (ww_f K n1)) (nI (ww_f K (n1 + 1))) (nI a) (nI u) (nI (ww_c K a u)) (nI (ww_c K a (la u))) (nI K) f_top f_capacity (nI L) f_count f_taken f_chainN a_buffer a_equation a_least a_ruleLeft a_chainWord a_chainStep a_old a_dist a_link al2 := by
            intro hq
            unfold wY_confluent_240
            rw [et, cl _ w4]
            refine ⟨vp_in_nI (by omega) (by decide), vp_in_nI w4 (by decide), nm_e (endT (la (ww_c K a (la u))) _ (fun y hy => ?_) pk_us cht (pr _ ltT).2.1 (fun k1 k2 => ?_) hq (fun _ => rfl))⟩
            · rw [pk_un (by omega)]; exact q1 y hy
            · exact absurd (redv ⟨k1, k2⟩).2 neU
          refine ⟨vp_in_nI (by omega) (by decide), yl_join hK (tb_ln hK (by have := ww_nm h2 lu; omega)) ⟨vp_in_nI (by omega) (by decide), ?_⟩⟩
          rw [ev2]
          refine pk_eq (la v) v (fun e => last (fun ne => absurd e ne)) (fun neV => ⟨vp_in_nI (by omega) (by decide), vp_in_nI w4 (by decide), ?_⟩)
          rw [et, e2w]
          refine pk_eq (la (ww_c K a (la u))) r1 (fun e => last (fun ne => by rw [e]; exact (q3 ne).symm)) (fun ne => ?_)
          refine h0 al2 (cf_no H (s := ww_c K a u) (by omega) cht (chv neV).1 (pr _ ltT).2.1 (chv neV).2 (by rw [← q3 neV]; exact ne))
      unfold wY_confluent_143
      have evv : al (nI v).toNatClampNeg = nI (la v) := by rw [cl v (by omega)]; exact hal v hv
      have lv := la_le v hv
      refine ⟨vp_in_nI (by omega) (by decide), ?_⟩
      rw [evv]
      refine pk_eq (la v) v (fun e => go2 r0 al hal hw0 r04 (fun ne => absurd e ne) (fun _ => rfl)) (fun ne => ?_)
      have lt : ww_c K (la v) b < ww_c K a u := by
        have := ww_cl h2 b (show la v < v by omega)
        rw [← ev] at this; exact this
      have ei : nI (la v) * nI K + nI b = nI (ww_c K (la v) b) := by rw [pk_mul, nI_add, ww_cx1 h2 _ hb1 hb2]
      have l2 := la_le _ lt
      rw [ei, cl _ w4, cl _ (by omega), hal _ lt]
      refine ⟨vp_in_nI (by omega) (by decide), vp_in_nI (by omega) (by decide), vp_in_nI w4 (by decide), nm_e (go2 (la (ww_c K (la v) b)) _ (fun y hy => ?_) pk_us (by omega) (fun _ => rfl) (fun e => absurd e ne))⟩
      rw [pk_un (by omega)]; exact hal y hy
    refine br_f (nI_ge (by omega) b31) (nm_r e7 ⟨nI_ne0 (by omega) (by omega), nm_r e8 (nm_r e9 ⟨vp_in_nI w4 (by decide), ?_⟩)⟩)
    rw [cl _ w4]
    have up1 : ∀ y, y < ww_c K a u → upd a_last (ww_c K a u) (nI (ww_c K a u)) y = nI (la y) := fun y hy => by
      rw [pk_un (by omega)]; exact (hp y hy).1
    refine nm_e (pk_le 127 (ww_c K a u) (fun k => go _ _ up1 pk_us w4 (Or.inr ⟨fun q => by omega, rfl⟩)) (fun k => ⟨vp_in_nI k (by decide), ?_⟩))
    rw [hr _ k]
    rcases Classical.em (rl_red K ls (ww_c K a u)) with z | z
    · refine br_f (by rw [yb_t z]; decide) ?_
      have l1 := (cf_d H) _ _ ⟨k, z, rfl⟩
      have l2 := la_le _ l1
      rw [hg _ k, cl (ls (ww_c K a u)) (by omega), up1 _ l1]
      refine ⟨vp_in_nI k (by decide), vp_in_nI (by omega) (by decide), vp_in_nI w4 (by decide), nm_e (go (la (ls (ww_c K a u))) _ (fun y hy => ?_) pk_us (by omega) (Or.inl ⟨k, z, rfl⟩))⟩
      rw [pk_un (by omega)]; exact up1 y hy
    · exact br_t (by rw [yb_f z]) (go _ _ up1 pk_us w4 (Or.inr ⟨fun q => z q.2, rfl⟩))
theorem yc_47 (H : cf_H K T L Q ls) (hg : yl_g ls a_least) (hr : ∀ w, w < 127 → a_ruleLeft w = yb (rl_red K ls w)) {post : Int32 → SY → Prop} (h0 : ∀ a_last : Nat → Int32, ¬ cf_Q K L ls → post 0 (nI K, f_top, f_capacity, nI L, f_count, f_taken, f_chainN, a_buffer, a_equation, a_least, a_ruleLeft, a_chainWord, a_chainStep, a_old, a_dist, a_link, a_last))
    {J9 : (Int32 → (Nat → Int32) → (Nat → Int32) → (Nat → Int32) → (Nat → Int32) → (Nat → Int32) → (Nat → Int32) → (Nat → Int32) → (Nat → Int32) → (Nat → Int32) → (Nat → Int32) → Prop)} {n1 : Nat} (hn1 : n1 + 1 < 2 * L)
    (hc : ∀ (la : Nat → Nat) (a_last : Nat → Int32), (∀ y, y < ww_f K (n1 + 2) → a_last y = nI (la y) ∧ yv_I K ls la y) → J9 (nI (n1 + 2)) a_buffer a_equation a_least a_ruleLeft a_chainWord a_chainStep a_old a_dist a_link a_last) :
    ∀ d a, a + d = K + 1 → 1 ≤ a → ∀ n, d < n → ∀ (la : Nat → Nat) (a_last : Nat → Int32), (∀ y, y < a * K ^ n1 + ww_f K n1 → a_last y = nI (la y) ∧ yv_I K ls la y) →
    wY_confluent_47 post J9 (nI (n1 + 1)) (nI (K ^ n1)) (nI (ww_f K n1)) (nI (ww_f K (n1 + 1))) (nI K) f_top f_capacity (nI L) f_count f_taken f_chainN n (nI a) a_buffer a_equation a_least a_ruleLeft a_chainWord a_chainStep a_old a_dist a_link a_last := by
  have hK := H.1
  have h2 := tb_2 hK
  have hk3 := tb_3 hK
  have f1 := ww_f1 K n1
  intro d
  induction d with
  | zero =>
    intro a ha h1 n hn la a_last hp
    obtain ⟨m, rfl⟩ : ∃ m, n = m + 1 := ⟨n - 1, by omega⟩
    have : a = K + 1 := by omega
    subst this
    refine br_t (nI_lt (by omega) (by omega)) (nm_r (nI_1 (n1 + 1)) (hc la a_last (fun y hy => hp y ?_)))
    have f2 := ww_f1 K (n1 + 1)
    have e : (K + 1) * K ^ n1 = K ^ (n1 + 1) + K ^ n1 := by rw [Nat.add_mul, Nat.one_mul, Nat.pow_succ, Nat.mul_comm K]
    have e2 : ww_f K (n1 + 2) = ww_f K (n1 + 1 + 1) := rfl
    omega
  | succ d ih =>
    intro a ha h1 n hn la a_last hp
    obtain ⟨m, rfl⟩ : ∃ m, n = m + 1 := ⟨n - 1, by omega⟩
    refine br_f (nI_nlt (by omega) (by omega)) ⟨K ^ n1 + 1, ?_⟩
    refine yc_59 H hg hr h0 hn1 h1 (by omega) (fun la' a_last' hp' => ih (a + 1) (by omega) (by omega) m (by omega) la' a_last' (fun y hy => hp' y ?_)) (K ^ n1) _ f1.symm (Nat.le_refl _) _ (by omega) la a_last hp
    rw [Nat.add_mul, Nat.one_mul] at hy
    omega
theorem yc_9 (H : cf_H K T L Q ls) (hg : yl_g ls a_least) (hr : ∀ w, w < 127 → a_ruleLeft w = yb (rl_red K ls w)) {post : Int32 → SY → Prop} (h0 : ∀ a_last : Nat → Int32, ¬ cf_Q K L ls → post 0 (nI K, f_top, f_capacity, nI L, f_count, f_taken, f_chainN, a_buffer, a_equation, a_least, a_ruleLeft, a_chainWord, a_chainStep, a_old, a_dist, a_link, a_last)) (h1 : ∀ a_last : Nat → Int32, cf_Q K L ls → post 1 (nI K, f_top, f_capacity, nI L, f_count, f_taken, f_chainN, a_buffer, a_equation, a_least, a_ruleLeft, a_chainWord, a_chainStep, a_old, a_dist, a_link, a_last)) :
    ∀ d n1, n1 + 1 + d = 2 * L → ∀ n, d < n → ∀ (la : Nat → Nat) (a_last : Nat → Int32), (∀ y, y < ww_f K (n1 + 1) → a_last y = nI (la y) ∧ yv_I K ls la y) →
    wY_confluent_9 post (nI K) f_top f_capacity (nI L) f_count f_taken f_chainN n (nI (n1 + 1)) a_buffer a_equation a_least a_ruleLeft a_chainWord a_chainStep a_old a_dist a_link a_last := by
  have hK := H.1
  have h2 := tb_2 hK
  have hT := tb_T hK
  have hLT := H.2.1
  have e2L : (2 : Int32) * nI L = nI (2 * L) := by rw [show (2 : Int32) = nI 2 from rfl, pk_mul]
  intro d
  induction d with
  | zero =>
    intro n1 hn n hnn la a_last hp
    obtain ⟨m, rfl⟩ : ∃ m, n = m + 1 := ⟨n - 1, by omega⟩
    refine br_t (by rw [e2L]; exact nI_le (by omega) (by omega)) (h1 a_last (yv_Q H (la := la) (fun y hy => (hp y ?_).2)))
    rw [show n1 + 1 = 2 * L by omega]; exact hy
  | succ d ih =>
    intro n1 hn n hnn la a_last hp
    obtain ⟨m, rfl⟩ : ∃ m, n = m + 1 := ⟨n - 1, by omega⟩
    refine br_f (by rw [e2L]; exact nI_ge (by omega) (by omega)) ?_
    have e1 : nI (n1 + 1) - 1 = nI n1 := nI_pred n1
    rw [e1]
    have fin : ∃ n47, wY_confluent_47 post (wY_confluent_9 post (nI K) f_top f_capacity (nI L) f_count f_taken f_chainN m) (nI (n1 + 1)) (nI (K ^ n1)) (nI (ww_f K n1)) (nI (ww_f K (n1 + 1))) (nI K) f_top f_capacity (nI L) f_count f_taken f_chainN n47 1 a_buffer a_equation a_least a_ruleLeft a_chainWord a_chainStep a_old a_dist a_link a_last := by
      refine ⟨K + 1, yc_47 H hg hr h0 (by omega) (fun la' a_last' hp' => ih (n1 + 1) (by omega) m (by omega) la' a_last' hp') K 1 (by omega) (by omega) _ (by omega) la a_last (fun y hy => hp y ?_)⟩
      have := ww_f1 K n1
      rw [Nat.one_mul] at hy
      omega
    refine yl_pow (by omega) ?_
    cases n1 with
    | zero =>
      have e3 : nI (0 + 1) - 2 = -1 := by decide
      rw [e3]
      exact yl_siz0 (yl_siz (by omega) fin)
    | succ n2 =>
      have e3 : nI (n2 + 1 + 1) - 2 = nI n2 := pk_sub (a := n2 + 1 + 1) (b := 2) (by omega)
      rw [e3]
      exact yl_siz (by omega) (yl_siz (by omega) fin)
theorem yc_all (H : cf_H K T L Q ls) (hg : yl_g ls a_least) (hr : ∀ w, w < 127 → a_ruleLeft w = yb (rl_red K ls w)) {post : Int32 → SY → Prop} (h0 : ∀ a_last : Nat → Int32, ¬ cf_Q K L ls → post 0 (nI K, f_top, f_capacity, nI L, f_count, f_taken, f_chainN, a_buffer, a_equation, a_least, a_ruleLeft, a_chainWord, a_chainStep, a_old, a_dist, a_link, a_last)) (h1 : ∀ a_last : Nat → Int32, cf_Q K L ls → post 1 (nI K, f_top, f_capacity, nI L, f_count, f_taken, f_chainN, a_buffer, a_equation, a_least, a_ruleLeft, a_chainWord, a_chainStep, a_old, a_dist, a_link, a_last)) {a_last : Nat → Int32} :
    wpY_confluent post (nI K, f_top, f_capacity, nI L, f_count, f_taken, f_chainN, a_buffer, a_equation, a_least, a_ruleLeft, a_chainWord, a_chainStep, a_old, a_dist, a_link, a_last) := by
  have h2 := tb_2 H.1
  have hL := H.2.2.1
  unfold wpY_confluent
  refine nm_e ⟨2 * L, yc_9 H hg hr h0 h1 (2 * L - 1) 0 (by omega) _ (by omega) (fun _ => 0) _ (fun y hy => ?_)⟩
  have e : ww_f K (0 + 1) = 1 := by simp [ww_f]
  have y0 : y = 0 := by omega
  subst y0
  have i0 : cf_i K ls 0 := by
    rintro v ⟨a, p, q, b, hr', e1, _⟩
    have n := congrArg (ww_n K) e1
    rw [ww_cn h2, ww_cn h2, ww_n0] at n
    have p0 := ww_n00 h2 (w := p) (by omega)
    have := cf_d H p q hr'
    omega
  exact ⟨pk_us, cf_wr, i0, fun v st => absurd st (i0 v)⟩
end
end
section
/-! Equation steps, distances, chains. The number of a step: 16 * equation + 8 * side + place. -/
def ch_s (K L : Nat) (E : Nat → Nat) (t m u v : Nat) : Prop := m / 16 < t ∧ ∃ a b, ww_n K a = m % 8 ∧ u = ww_c K a (ww_c K (E (2 * (m / 16) + m / 8 % 2)) b) ∧ v = ww_c K a (ww_c K (E (2 * (m / 16) + 1 - m / 8 % 2)) b) ∧ ww_n K u ≤ L ∧ ww_n K v ≤ L
def ch_l (K L : Nat) (E : Nat → Nat) (t u v : Nat) : Prop := ∃ m, ch_s K L E t m u v
def ch_r (K L : Nat) (E : Nat → Nat) (t to : Nat) : Nat → Nat → Prop
  | 0, v => v = to
  | d + 1, v => ∃ u, ch_r K L E t to d u ∧ ch_l K L E t v u
def ch_d (K L : Nat) (E : Nat → Nat) (t to d v : Nat) : Prop := ch_r K L E t to d v ∧ ∀ j, j < d → ¬ ch_r K L E t to j v
/-- the next word of a chain, and the step to it -/
def ch_n (K L : Nat) (E : Nat → Nat) (t to j w v m : Nat) : Prop :=
  ch_d K L E t to j v ∧ ch_s K L E t m w v ∧ (∀ v', ch_l K L E t w v' → ch_d K L E t to j v' → v ≤ v') ∧ (∀ m', m' < m → ¬ ch_s K L E t m' w v)
section
variable {K L t to : Nat} {E : Nat → Nat}
theorem ch_sy {m u v : Nat} (h : ch_s K L E t m u v) : ∃ m', ch_s K L E t m' v u := by
  obtain ⟨h1, a, b, h2, h3, h4, h5, h6⟩ := h
  rcases Nat.lt_or_ge (m / 8 % 2) 1 with z | z
  · refine ⟨m + 8, by omega, a, b, by omega, ?_, ?_, h6, h5⟩
    · rw [show 2 * ((m + 8) / 16) + (m + 8) / 8 % 2 = 2 * (m / 16) + 1 - m / 8 % 2 by omega]; exact h4
    · rw [show 2 * ((m + 8) / 16) + 1 - (m + 8) / 8 % 2 = 2 * (m / 16) + m / 8 % 2 by omega]; exact h3
  · refine ⟨m - 8, by omega, a, b, by omega, ?_, ?_, h6, h5⟩
    · rw [show 2 * ((m - 8) / 16) + (m - 8) / 8 % 2 = 2 * (m / 16) + 1 - m / 8 % 2 by omega]; exact h4
    · rw [show 2 * ((m - 8) / 16) + 1 - (m - 8) / 8 % 2 = 2 * (m / 16) + m / 8 % 2 by omega]; exact h3
theorem ch_ly {u v : Nat} (h : ch_l K L E t u v) : ch_l K L E t v u := by
  obtain ⟨m, h⟩ := h
  exact ch_sy h
theorem ch_ll {u v : Nat} (h : ch_l K L E t u v) : ww_n K u ≤ L ∧ ww_n K v ≤ L := by
  obtain ⟨m, h1, a, b, h2, h3, h4, h5, h6⟩ := h
  exact ⟨h5, h6⟩
theorem ch_su (hK : 2 ≤ K) {m u v v' : Nat} (h : ch_s K L E t m u v) (h' : ch_s K L E t m u v') : v = v' := by
  obtain ⟨_, a, b, h2, h3, h4, _, _⟩ := h
  obtain ⟨_, a', b', k2, k3, k4, _, _⟩ := h'
  have x := ww_cx' hK (h3.symm.trans k3) (by omega)
  have y := ww_cx' hK x.2 rfl
  rw [h4, k4, x.1, y.2]
theorem ch_du {d d' v : Nat} (h : ch_d K L E t to d v) (h' : ch_d K L E t to d' v) : d = d' := by
  rcases Nat.lt_trichotomy d d' with z | z | z
  · exact absurd h.1 (h'.2 d z)
  · exact z
  · exact absurd h'.1 (h.2 d' z)
theorem ch_ex {d v : Nat} (h : ch_r K L E t to d v) : ∃ d', d' ≤ d ∧ ch_d K L E t to d' v := by
  induction d using Nat.strongRecOn with
  | ind d ih =>
    rcases Classical.em (∃ j, j < d ∧ ch_r K L E t to j v) with ⟨j, hj, hr⟩ | z
    · obtain ⟨d', h1, h2⟩ := ih j hj hr
      exact ⟨d', by omega, h2⟩
    · exact ⟨d, Nat.le_refl _, h, fun j hj hr => z ⟨j, hj, hr⟩⟩
theorem ch_pr {d v : Nat} (h : ch_d K L E t to (d + 1) v) : ∃ u, ch_d K L E t to d u ∧ ch_l K L E t v u := by
  obtain ⟨u, h1, h2⟩ := h.1
  exact ⟨u, ⟨h1, fun j hj hr => h.2 (j + 1) (by omega) ⟨u, hr, h2⟩⟩, h2⟩
theorem ch_0 : ch_d K L E t to 0 to := ⟨rfl, fun j hj => by omega⟩
theorem ch_00 {v : Nat} (h : ch_d K L E t to 0 v) : v = to := h.1
theorem ch_nx {d u v : Nat} (h : ch_d K L E t to d u) (hl : ch_l K L E t v u) : ∃ d', d' ≤ d + 1 ∧ ch_d K L E t to d' v := ch_ex (d := d + 1) ⟨u, h.1, hl⟩
theorem ch_len (hto : ww_n K to ≤ L) {d v : Nat} (h : ch_d K L E t to d v) : ww_n K v ≤ L := by
  cases d with
  | zero => rw [ch_00 h]; exact hto
  | succ d => obtain ⟨u, _, hl⟩ := ch_pr h
              exact (ch_ll hl).1
/-- a distance is below the number of words -/
theorem ch_bd (hK : 2 ≤ K) (hto : ww_n K to ≤ L) : ∀ d v, ch_d K L E t to d v → d + 1 ≤ cq_n (fun w => ∃ j, j ≤ d ∧ ch_d K L E t to j w) (ww_f K (L + 1)) := by
  intro d
  induction d with
  | zero => intro v h
            exact cq_pos (P := fun w => ∃ j, j ≤ 0 ∧ ch_d K L E t to j w) (a := to) ⟨0, Nat.le_refl _, ch_0⟩ ((ww_nle hK).mp hto)
  | succ d ih =>
    intro v h
    obtain ⟨u, hu, _⟩ := ch_pr h
    have i := ih u hu
    have lt := cq_lt (P := fun w => ∃ j, j ≤ d ∧ ch_d K L E t to j w) (Q := fun w => ∃ j, j ≤ d + 1 ∧ ch_d K L E t to j w) (a := v) (fun ⟨j, hj, hd⟩ => by have := ch_du h hd; omega) ⟨d + 1, Nat.le_refl _, h⟩ (N := ww_f K (L + 1)) (fun k _ ⟨j, hj, hd⟩ => ⟨j, by omega, hd⟩) ((ww_nle hK).mp (ch_len hto h))
    omega
theorem ch_b (hK : 2 ≤ K) (hto : ww_n K to ≤ L) {d v : Nat} (h : ch_d K L E t to d v) : d < ww_f K (L + 1) := by
  have := ch_bd hK hto d v h
  have := cq_le (fun w => ∃ j, j ≤ d ∧ ch_d K L E t to j w) (ww_f K (L + 1))
  omega
theorem ch_nu (hK : 2 ≤ K) {j w v m v' m' : Nat} (h : ch_n K L E t to j w v m) (h' : ch_n K L E t to j w v' m') : v = v' ∧ m = m' := by
  have e : v = v' := Nat.le_antisymm (h.2.2.1 v' ⟨m', h'.2.1⟩ h'.1) (h'.2.2.1 v ⟨m, h.2.1⟩ h.1)
  subst e
  refine ⟨rfl, ?_⟩
  rcases Nat.lt_trichotomy m m' with z | z | z
  · exact absurd h.2.1 (h'.2.2.2 m z)
  · exact z
  · exact absurd h'.2.1 (h.2.2.2 m' z)
end
/-- a whole chain -/
def ch_C (K L : Nat) (E : Nat → Nat) (t to D from' : Nat) (pw ps : Nat → Nat) : Prop := pw 0 = from' ∧ ∀ i, i < D → ch_n K L E t to (D - i - 1) (pw i) (pw (i + 1)) (ps i)
theorem ch_Cu {K L t to D from' : Nat} {E pw ps pw' ps' : Nat → Nat} (hK : 2 ≤ K) (h : ch_C K L E t to D from' pw ps) (h' : ch_C K L E t to D from' pw' ps') : ∀ i, i ≤ D → pw i = pw' i ∧ (i < D → ps i = ps' i) := by
  have key : ∀ i, i ≤ D → pw i = pw' i := by
    intro i
    induction i with
    | zero => intro _; rw [h.1, h'.1]
    | succ i ih =>
      intro hi
      have e := ih (by omega)
      have a := h.2 i (by omega)
      have b := h'.2 i (by omega)
      rw [← e] at b
      exact (ch_nu hK a b).1
  intro i hi
  refine ⟨key i hi, fun lt => ?_⟩
  have a := h.2 i lt
  have b := h'.2 i lt
  rw [← key i hi] at b
  exact (ch_nu hK a b).2
/-! breadth first search: marks, queue -/
def bf_I (K L : Nat) (E : Nat → Nat) (t to h : Nat) (dd : Nat → Option Nat) (qq : Nat → Nat) (qn : Nat) : Prop :=
  dd to = some 0 ∧ h ≤ qn ∧ (∀ i, i < qn → ∃ d, dd (qq i) = some d ∧ ch_d K L E t to d (qq i)) ∧ (∀ w, dd w ≠ none → ∃ i, i < qn ∧ qq i = w) ∧
  qn = cq_n (fun w => dd w ≠ none) 127 ∧
  (∀ i j di dj, i ≤ j → j < qn → dd (qq i) = some di → dd (qq j) = some dj → di ≤ dj) ∧
  (∀ i j di dj, h ≤ i → i < qn → j < qn → dd (qq i) = some di → dd (qq j) = some dj → dj ≤ di + 1) ∧
  (∀ i, i < h → ∀ w, ch_l K L E t (qq i) w → dd w ≠ none)
section
variable {K T L t to : Nat} {E : Nat → Nat} {h : Nat} {dd : Nat → Option Nat} {qq : Nat → Nat} {qn : Nat}
theorem bf_ex (I : bf_I K L E t to h dd qq qn) {w d : Nat} (e : dd w = some d) : ch_d K L E t to d w := by
  obtain ⟨i, hi, rfl⟩ := I.2.2.2.1 w (by rw [e]; exact fun q => by cases q)
  obtain ⟨d', e', hd⟩ := I.2.2.1 i hi
  rw [e] at e'
  rw [Option.some.inj e']; exact hd
/-- nearer words than a waiting one are marked -/
theorem bf_cm (I : bf_I K L E t to h dd qq qn) {D : Nat} (hD : ∀ i di, h ≤ i → i < qn → dd (qq i) = some di → D ≤ di) : ∀ j, j ≤ D → ∀ w, ch_d K L E t to j w → dd w ≠ none := by
  intro j
  induction j with
  | zero => intro _ w hw; rw [ch_00 hw, I.1]; exact fun q => by cases q
  | succ j ih =>
    intro hj w hw
    obtain ⟨u, hu, hl⟩ := ch_pr hw
    obtain ⟨i, hi, rfl⟩ := I.2.2.2.1 u (ih (by omega) u hu)
    obtain ⟨d', e', hd⟩ := I.2.2.1 i hi
    have ed := ch_du hd hu
    rcases Nat.lt_or_ge i h with z | z
    · exact I.2.2.2.2.2.2.2 i z w (ch_ly hl)
    · have := hD i d' z hi e'
      omega
theorem bf_127 (hK : tb_K K T) (hL : L ≤ T) (hto : ww_n K to ≤ L) (I : bf_I K L E t to h dd qq qn) : ∀ w, dd w ≠ none → w < 127 := by
  intro w hw
  obtain ⟨d, e⟩ := Option.ne_none_iff_exists'.mp hw
  exact tb_127 hK (Nat.le_trans (ch_len hto (bf_ex I e)) hL)
/-- a new mark beside the head -/
theorem bf_mk (I : bf_I K L E t to h dd qq qn) (hh : h < qn) {d v : Nat} (hd : dd (qq h) = some d) (hl : ch_l K L E t (qq h) v) (hv : dd v = none) (v7 : v < 127) :
    bf_I K L E t to h (gu dd v (some (d + 1))) (gu qq qn v) (qn + 1) ∧ qn < 127 := by
  have I' := I
  obtain ⟨h1, h2, h3, h4, h5, h6, h7, h8⟩ := I'
  have ex : ch_d K L E t to (d + 1) v := by
    obtain ⟨d', l', hd'⟩ := ch_nx (bf_ex I hd) (ch_ly hl)
    rcases Nat.lt_or_ge d' (d + 1) with z | z
    · have := bf_cm I (D := d) (fun i di q1 q2 q3 => h6 h i d di q1 q2 hd q3) d' (by omega) v hd'
      exact absurd hv this
    · have : d' = d + 1 := by omega
      rw [← this]; exact hd'
  have nev : ∀ w, dd w ≠ none → w ≠ v := fun w hw e => hw (by rw [e]; exact hv)
  have old : ∀ w, w ≠ v → gu dd v (some (d + 1)) w = dd w := fun w hw => gu_n hw
  have oq : ∀ i, i < qn → gu qq qn v i = qq i := fun i hi => gu_n (by omega)
  have oqd : ∀ i, i < qn → gu dd v (some (d + 1)) (gu qq qn v i) = dd (qq i) := fun i hi => by
    rw [oq i hi]
    refine old _ (nev _ ?_)
    obtain ⟨d', e', _⟩ := h3 i hi
    rw [e']; exact fun q => by cases q
  have nq : gu dd v (some (d + 1)) (gu qq qn v qn) = some (d + 1) := by rw [gu_s, gu_s]
  have top : ∀ i di, i < qn → dd (qq i) = some di → di ≤ d + 1 := fun i di hi e => h7 h i d di (Nat.le_refl _) hh hi hd e
  have cnt : cq_n (fun w => gu dd v (some (d + 1)) w ≠ none) 127 = qn + 1 := by
    have a1 := cq_lt (P := fun w => dd w ≠ none) (Q := fun w => gu dd v (some (d + 1)) w ≠ none) (a := v) (N := 127) (fun q => q hv) (by rw [gu_s]; exact fun q => by cases q) (fun k _ hk => by rw [old k (nev k hk)]; exact hk) v7
    have a2 := cq_add (P := fun w => dd w ≠ none) (Q := fun w => gu dd v (some (d + 1)) w ≠ none) v (N := 127) (fun k _ hk q => by rw [old k hk] at q; exact q)
    omega
  refine ⟨⟨?_, by omega, fun i hi => ?_, fun w hw => ?_, cnt.symm, fun i j di dj hij hj ei ej => ?_, fun i j di dj hi hiq hj ei ej => ?_, fun i hi w hlw => ?_⟩, ?_⟩
  · rw [old to (nev to (by rw [h1]; exact fun q => by cases q))]; exact h1
  · rcases Nat.lt_or_ge i qn with z | z
    · rw [oqd i z, oq i z]; exact h3 i z
    · have : i = qn := by omega
      subst this
      exact ⟨d + 1, nq, by rw [gu_s]; exact ex⟩
  · rcases Classical.em (w = v) with z | z
    · exact ⟨qn, by omega, by rw [gu_s]; exact z.symm⟩
    · rw [old w z] at hw
      obtain ⟨i, hi, e⟩ := h4 w hw
      exact ⟨i, by omega, by rw [oq i hi]; exact e⟩
  · rcases Nat.lt_or_ge j qn with z | z
    · rw [oqd i (by omega)] at ei; rw [oqd j z] at ej
      exact h6 i j di dj hij z ei ej
    · have : j = qn := by omega
      subst this
      rw [nq] at ej
      have ej := Option.some.inj ej
      rcases Nat.lt_or_ge i j with y | y
      · rw [oqd i y] at ei
        have := top i di y ei
        omega
      · have : i = j := by omega
        subst this
        rw [nq] at ei
        have ei := Option.some.inj ei
        omega
  · rcases Nat.lt_or_ge j qn with z | z
    · rw [oqd j z] at ej
      have t1 := top j dj z ej
      rcases Nat.lt_or_ge i qn with y | y
      · rw [oqd i y] at ei
        exact h7 i j di dj hi y z ei ej
      · have : i = qn := by omega
        subst this
        rw [nq] at ei
        have ei := Option.some.inj ei
        omega
    · have : j = qn := by omega
      subst this
      rw [nq] at ej
      have ej := Option.some.inj ej
      rcases Nat.lt_or_ge i j with y | y
      · rw [oqd i y] at ei
        have := h6 h i d di hi y hd ei
        omega
      · have : i = j := by omega
        subst this
        rw [nq] at ei
        have ei := Option.some.inj ei
        omega
  · rw [oq i (by omega)] at hlw
    have := h8 i hi w hlw
    rw [old w (nev w this)]; exact this
  · have := cq_le (fun w => gu dd v (some (d + 1)) w ≠ none) 127
    omega
/-- the head is done -/
theorem bf_hd (I : bf_I K L E t to h dd qq qn) (hh : h < qn) (hn : ∀ w, ch_l K L E t (qq h) w → dd w ≠ none) : bf_I K L E t to (h + 1) dd qq qn := by
  obtain ⟨h1, h2, h3, h4, h5, h6, h7, h8⟩ := I
  refine ⟨h1, hh, h3, h4, h5, h6, fun i j di dj hi => h7 i j di dj (by omega), fun i hi w hl => ?_⟩
  rcases Nat.lt_or_ge i h with z | z
  · exact h8 i z w hl
  · have : i = h := by omega
    subst this
    exact hn w hl
theorem bf_0 (hto : to < 127) (qq : Nat → Nat) (hq : qq 0 = to) : bf_I K L E t to 0 (gu (fun _ => none) to (some 0)) qq 1 := by
  have d0 : ∀ w, gu (fun _ => none) to (some 0) w ≠ none → w = to := fun w hw => by
    rcases Classical.em (w = to) with z | z
    · exact z
    · exact absurd (gu_n z) hw
  have zero : ∀ i d, i < 1 → gu (fun _ => none) to (some 0) (qq i) = some d → d = 0 := by
    intro i d hi e
    have : i = 0 := by omega
    subst this
    rw [hq, gu_s] at e
    exact (Option.some.inj e).symm
  refine ⟨gu_s, by omega, fun i hi => ⟨0, ?_, ?_⟩, fun w hw => ⟨0, by omega, by rw [hq]; exact (d0 w hw).symm⟩, ?_, fun i j di dj hij hj ei ej => ?_, fun i j di dj _ hi hj ei ej => ?_, fun i hi => by omega⟩
  · have : i = 0 := by omega
    rw [this, hq]; exact gu_s
  · have : i = 0 := by omega
    rw [this, hq]; exact ch_0
  · have a1 := cq_pos (P := fun w => gu (fun _ => (none : Option Nat)) to (some 0) w ≠ none) (a := to) (by rw [gu_s]; exact fun q => by cases q) hto
    have a2 := cq_add (P := fun _ => False) (Q := fun w => gu (fun _ => (none : Option Nat)) to (some 0) w ≠ none) to (N := 127) (fun k _ hk q => hk (d0 k q))
    have a3 := cq_z (P := fun _ => False) (N := 127) (fun _ _ q => q)
    omega
  · have := zero i di (by omega) ei; omega
  · have := zero j dj hj ej; omega
/-- at the end: exact and complete below the distance of a marked word -/
theorem bf_end (I : bf_I K L E t to h dd qq qn) {x D : Nat} (hx : dd x = some D) {j v : Nat} (hj : j < D) : dd v = some j ↔ ch_d K L E t to j v := by
  constructor
  · exact fun e => bf_ex I e
  · intro hd
    obtain ⟨i, hi, e⟩ := I.2.2.2.1 x (by rw [hx]; exact fun q => by cases q)
    have ex : dd (qq i) = some D := by rw [e]; exact hx
    have m := bf_cm I (D := D - 1) (fun k dk q1 q2 q3 => by
      have := I.2.2.2.2.2.2.1 k i dk D q1 q2 hi q3 ex
      omega) j (by omega) v hd
    obtain ⟨d', e'⟩ := Option.ne_none_iff_exists'.mp m
    have := ch_du (bf_ex I e') hd
    rw [← this]; exact e'
/-- at the end of the queue: all that can be reached is marked -/
theorem bf_all (I : bf_I K L E t to qn dd qq qn) {j v : Nat} (hd : ch_d K L E t to j v) : dd v ≠ none :=
  bf_cm I (D := j) (fun i di q1 q2 => by omega) j (Nat.le_refl _) v hd
end
end
section
/-! The component's search for chains. -/
theorem ch_mk {K L t e s q u v : Nat} {E : Nat → Nat} (he : e < t) (hs : s < 2) (hq : q < 8) : ch_s K L E t (16 * e + 8 * s + q) u v ↔ ∃ a b, ww_n K a = q ∧ u = ww_c K a (ww_c K (E (2 * e + s)) b) ∧ v = ww_c K a (ww_c K (E (2 * e + 1 - s)) b) ∧ ww_n K u ≤ L ∧ ww_n K v ≤ L := by
  unfold ch_s
  have e1 : (16 * e + 8 * s + q) / 16 = e := by omega
  have e2 : (16 * e + 8 * s + q) / 8 % 2 = s := by omega
  have e3 : (16 * e + 8 * s + q) % 8 = q := by omega
  rw [e1, e2, e3]
  exact ⟨fun h => h.2, fun h => ⟨he, h⟩⟩
theorem ch_dec (m : Nat) : m = 16 * (m / 16) + 8 * (m / 8 % 2) + m % 8 ∧ m / 8 % 2 < 2 ∧ m % 8 < 8 := by omega
/-- what the search knows of the equations -/
def eq_H (K T L : Nat) (E : Nat → Nat) (t : Nat) (a_equationSide : Nat → Int32) : Prop := tb_K K T ∧ L ≤ T ∧ t ≤ 8 ∧ (∀ i, i < 16 → a_equationSide i = nI (E i)) ∧ (∀ i, i < 2 * t → ww_n K (E i) ≤ L)
theorem eq_i0 {e s : Nat} : (2 : Int32) * nI e + nI s = nI (2 * e + s) := by rw [show (2 : Int32) = nI 2 from rfl, pk_mul, nI_add]
theorem eq_i1 {e s : Nat} (hs : s < 2) : (2 : Int32) * nI e + 1 - nI s = nI (2 * e + 1 - s) := by rw [show (2 : Int32) = nI 2 from rfl, pk_mul, nI_1, pk_sub (by omega)]
section
variable {K T L t : Nat} {E : Nat → Nat} {f_letters f_topLevel f_capacity f_equations f_taken f_rules f_confluence f_agendaTop f_queueSize f_chainLength : Int32} {a_power a_first a_sizes a_buffer a_equationSide a_ruleRight a_next a_fresh a_ruleLeft a_normalForm a_agendaOne a_agendaTwo a_distance a_queue a_chainWord a_chainEquation a_chainSide a_chainPlace : Nat → Int32}
theorem xs_lp (H : eq_H K T L E t a_equationSide) (hX : tb_X K a_power a_first a_sizes) {w e s : Nat} (hw : ww_n K w ≤ L) (he : e < t) (hs : s < 2) {post : Int32 → Prop}
    (h0 : (∀ q v, q < 8 → ¬ ch_s K L E t (16 * e + 8 * s + q) w v) → post (-1))
    (h1 : ∀ last, last + ww_n K (E (2 * e + s)) = ww_n K w → last + ww_n K (E (2 * e + 1 - s)) ≤ L → post (nI last)) :
    wpX_lastPlace post (f_letters, f_topLevel, f_capacity, nI L, f_equations, f_taken, f_rules, f_confluence, f_agendaTop, f_queueSize, f_chainLength, a_power, a_first, a_sizes, a_buffer, a_equationSide, a_ruleRight, a_next, a_fresh, a_ruleLeft, a_normalForm, a_agendaOne, a_agendaTwo, a_distance, a_queue, a_chainWord, a_chainEquation, a_chainSide, a_chainPlace) (nI w) (nI e) (nI s) := by
  obtain ⟨hK, hL, ht, hE, hEL⟩ := H
  have h2 := tb_2 hK
  have hT := tb_T hK
  have l1 := hEL (2 * e + s) (by omega)
  have l2 := hEL (2 * e + 1 - s) (by omega)
  have b1 : E (2 * e + s) < 127 := tb_127 hK (by omega)
  have b2 : E (2 * e + 1 - s) < 127 := tb_127 hK (by omega)
  have b3 : w < 127 := tb_127 hK (by omega)
  unfold wpX_lastPlace; dsimp only
  rw [eq_i0, eq_i1 hs, nI_clamp (by omega), nI_clamp (by omega), hE _ (by omega), hE _ (by omega)]
  refine ⟨vp_in_nI (by omega) (by decide), xl_len hK hX (tb_big hK b1) ⟨vp_in_nI (by omega) (by decide), xl_len hK hX (tb_big hK b2) (xl_len hK hX (tb_big hK b3) ?_)⟩⟩
  have none : (ww_n K w < ww_n K (E (2 * e + s)) ∨ L + ww_n K (E (2 * e + s)) < ww_n K w + ww_n K (E (2 * e + 1 - s))) → post (-1) := by
    intro hh
    refine h0 (fun q v hq k => ?_)
    obtain ⟨a, b, k1, k2, k3, k4, k5⟩ := (ch_mk he hs hq).mp k
    have n1 := congrArg (ww_n K) k2
    have n2 := congrArg (ww_n K) k3
    rw [ww_cn h2, ww_cn h2] at n1 n2
    omega
  rcases Nat.lt_or_ge (ww_n K w) (ww_n K (E (2 * e + s))) with z | z
  · exact nm_e (br_t (pk_sneg (by omega) z) (none (Or.inl z)))
  · refine nm_r (pk_sub z) (br_f (nI_pos (by omega)) ?_)
    rw [nI_add]
    exact pk_le _ L (fun k => h1 _ (by omega) k) (fun k => none (Or.inr (by omega)))
theorem xs_sc (H : eq_H K T L E t a_equationSide) (hX : tb_X K a_power a_first a_sizes) {w e s q : Nat} (hw : ww_n K w ≤ L) (he : e < t) (hs : s < 2) (hq : q + ww_n K (E (2 * e + s)) ≤ ww_n K w) (hl : ww_n K w + ww_n K (E (2 * e + 1 - s)) ≤ L + ww_n K (E (2 * e + s))) {post : Int32 → Prop}
    (h0 : (∀ v, ¬ ch_s K L E t (16 * e + 8 * s + q) w v) → post (-1)) (h1 : ∀ v, v < 127 → ch_s K L E t (16 * e + 8 * s + q) w v → post (nI v)) :
    wpX_successor post (f_letters, f_topLevel, f_capacity, nI L, f_equations, f_taken, f_rules, f_confluence, f_agendaTop, f_queueSize, f_chainLength, a_power, a_first, a_sizes, a_buffer, a_equationSide, a_ruleRight, a_next, a_fresh, a_ruleLeft, a_normalForm, a_agendaOne, a_agendaTwo, a_distance, a_queue, a_chainWord, a_chainEquation, a_chainSide, a_chainPlace) (nI w) (nI e) (nI s) (nI q) := by
  obtain ⟨hK, hL, ht, hE, hEL⟩ := H
  have h2 := tb_2 hK
  have hT := tb_T hK
  have l1 := hEL (2 * e + s) (by omega)
  have l2 := hEL (2 * e + 1 - s) (by omega)
  have b1 : E (2 * e + s) < 127 := tb_127 hK (by omega)
  have b2 : E (2 * e + 1 - s) < 127 := tb_127 hK (by omega)
  have b3 : w < 127 := tb_127 hK (by omega)
  have q8 : q < 8 := by omega
  obtain ⟨a, w1, e1, n1, n2⟩ := ww_sp h2 (w := w) (m := q) (n := ww_n K w - q) (by omega)
  obtain ⟨W, b, e2, n3, n4⟩ := ww_sp h2 (w := w1) (m := ww_n K (E (2 * e + s))) (n := ww_n K w - ww_n K (E (2 * e + s)) - q) (by omega)
  have ew : w = ww_c K a (ww_c K W b) := by rw [← e2]; exact e1
  have win := ww_win h2 a W b
  rw [← ew, n4, n3] at win
  have f1 := ww_n1 h2 w
  have f2 := ww_n1 h2 W
  have f3 := ww_n1 h2 (E (2 * e + s))
  rw [n3] at f2
  have W15 : W < 127 := tb_127 hK (by omega)
  have dle : (w - ww_f K (ww_n K w)) / K ^ (ww_n K w - ww_n K (E (2 * e + s)) - q) ≤ w := Nat.le_trans (Nat.div_le_self _ _) (Nat.sub_le _ _)
  unfold wpX_successor; dsimp only
  rw [eq_i0, eq_i1 hs, nI_clamp (show 2 * e + s < 2 ^ 31 by omega), nI_clamp (show 2 * e + 1 - s < 2 ^ 31 by omega), hE _ (by omega), hE _ (by omega)]
  refine ⟨vp_in_nI (by omega) (by decide), nm_e (xl_len hK hX (tb_big hK b1) (xl_len hK hX (tb_big hK b3) ?_))⟩
  have es : nI (ww_n K w) - nI (ww_n K (E (2 * e + s))) - nI q = nI (ww_n K w - ww_n K (E (2 * e + s)) - q) := by
    rw [pk_sub (by omega), pk_sub (by omega)]
  refine nm_r es (br_t (nI_pos' (by omega)) ⟨vp_in_nI (by omega) (by decide), vp_in_nI (by omega) (by decide), xt_p0 hK hX (by omega), ?_⟩)
  have e7 : (nI w - a_first (nI (ww_n K w)).toNatClampNeg) / a_power (nI (ww_n K w - ww_n K (E (2 * e + s)) - q)).toNatClampNeg = nI ((w - ww_f K (ww_n K w)) / K ^ (ww_n K w - ww_n K (E (2 * e + s)) - q)) := by
    rw [xt_f hX (by omega), xt_p hX (by omega), pk_sub f1, pk_div (by omega) (ww_pos h2 _) (tb_pw hK (by omega))]
  refine nm_r e7 ⟨vp_in_nI (by omega) (by decide), xt_p0 hK hX (by omega), vp_in_nI (by omega) (by decide), ?_⟩
  rw [xt_p hX (by omega), xt_f hX (by omega), pk_rem (by omega) (ww_pos h2 _) (tb_pw hK (by omega)), win, pk_sub f3]
  refine pk_eq _ _ (fun k => ⟨vp_in_nI (by omega) (by decide), ?_⟩) (fun k => h0 (fun v k' => ?_))
  · have eW : W = E (2 * e + s) := by omega
    rw [eW] at ew
    rw [← n1]
    refine xl_repl hK hX (tb_big hK b3) (tb_big hK b2) ew ?_
    have lv : ww_n K (ww_c K a (ww_c K (E (2 * e + 1 - s)) b)) ≤ L := by rw [ww_cn h2, ww_cn h2]; omega
    exact h1 _ (tb_127 hK (by omega)) ((ch_mk he hs q8).mpr ⟨a, b, n1, ew, rfl, hw, lv⟩)
  · obtain ⟨a', b', k1, k2, _⟩ := (ch_mk he hs q8).mp k'
    have u1 := ww_cx' h2 (ew.symm.trans k2) (by omega)
    have u2 := ww_cx' h2 u1.2 n3
    rw [u2.1] at k
    exact k rfl
end
/-- the marks and the queue in the arrays -/
def bx (dd : Nat → Option Nat) (qq : Nat → Nat) (qn : Nat) (a_distance a_queue : Nat → Int32) (f_queueSize : Int32) : Prop :=
  (∀ w, w < 127 → a_distance w = ge_o (dd w)) ∧ (∀ i, i < qn → a_queue i = nI (qq i)) ∧ f_queueSize = nI qn
theorem bx_d {K L t to h : Nat} {E : Nat → Nat} {dd : Nat → Option Nat} {qq : Nat → Nat} {qn : Nat} (hK : 2 ≤ K) (hto : ww_n K to ≤ L) (I : bf_I K L E t to h dd qq qn) {w d : Nat} (e : dd w = some d) : d < ww_f K (L + 1) := ch_b hK hto (bf_ex I e)
section
variable {K T L t to h cw : Nat} {E : Nat → Nat} {f_letters f_topLevel f_capacity f_equations f_taken f_rules f_confluence f_agendaTop f_chainLength : Int32} {a_power a_first a_sizes a_buffer a_equationSide a_ruleRight a_next a_fresh a_ruleLeft a_normalForm a_agendaOne a_agendaTwo a_chainWord a_chainEquation a_chainSide a_chainPlace : Nat → Int32}
theorem xs_29 (H : eq_H K T L E t a_equationSide) (hX : tb_X K a_power a_first a_sizes) (hto : ww_n K to ≤ L) (hcw : ww_n K cw ≤ L) {e s last : Nat} (he : e < t) (hs : s < 2) (hl1 : last + ww_n K (E (2 * e + s)) = ww_n K cw) (hl2 : last + ww_n K (E (2 * e + 1 - s)) ≤ L)
    {post : SX → Prop} {J2 J12 : (Int32 → Int32 → (Nat → Int32) → (Nat → Int32) → (Nat → Int32) → (Nat → Int32) → (Nat → Int32) → (Nat → Int32) → (Nat → Int32) → (Nat → Int32) → (Nat → Int32) → (Nat → Int32) → (Nat → Int32) → (Nat → Int32) → (Nat → Int32) → (Nat → Int32) → (Nat → Int32) → (Nat → Int32) → (Nat → Int32) → (Nat → Int32) → Prop)} : ∀ d q, q + d = last + 1 → ∀ n, d < n →
    ∀ (dd : Nat → Option Nat) (qq : Nat → Nat) (qn : Nat) (f_queueSize : Int32) (a_distance a_queue : Nat → Int32), bx dd qq qn a_distance a_queue f_queueSize → bf_I K L E t to h dd qq qn → h < qn → qq h = cw →
    (∀ (dd' : Nat → Option Nat) (qq' : Nat → Nat) (qn' : Nat) (f_queueSize : Int32) (a_distance a_queue : Nat → Int32), bx dd' qq' qn' a_distance a_queue f_queueSize → bf_I K L E t to h dd' qq' qn' → h < qn' → qq' h = cw → (∀ w, dd w ≠ none → dd' w ≠ none) →
      (∀ q' v, q ≤ q' → q' < 8 → ch_s K L E t (16 * e + 8 * s + q') cw v → dd' v ≠ none) → J12 (nI (s + 1)) f_queueSize a_power a_first a_sizes a_buffer a_equationSide a_ruleRight a_next a_fresh a_ruleLeft a_normalForm a_agendaOne a_agendaTwo a_distance a_queue a_chainWord a_chainEquation a_chainSide a_chainPlace) →
    wX_spread_29 post J2 J12 (nI cw) (nI e) (nI s) (nI last) f_letters f_topLevel f_capacity (nI L) f_equations f_taken f_rules f_confluence f_agendaTop f_chainLength n (nI q) f_queueSize a_power a_first a_sizes a_buffer a_equationSide a_ruleRight a_next a_fresh a_ruleLeft a_normalForm a_agendaOne a_agendaTwo a_distance a_queue a_chainWord a_chainEquation a_chainSide a_chainPlace := by
  have H' := H
  obtain ⟨hK, hL, ht, hE, hEL⟩ := H'
  have h2 := tb_2 hK
  have hT := tb_T hK
  have cn : ww_f K (L + 1) ≤ 127 := Nat.le_trans (ww_fle h2 (by omega)) (tb_f7 hK).2.2
  have cw7 : cw < 127 := tb_127 hK (by omega)
  intro d
  induction d with
  | zero =>
    intro q hq n hn dd qq qn f_queueSize a_distance a_queue hb hI hh hqh hc
    obtain ⟨m, rfl⟩ : ∃ m, n = m + 1 := ⟨n - 1, by omega⟩
    refine br_t (nI_lt (by omega) (by omega)) (nm_r (nI_1 s) (hc dd qq qn _ _ _ hb hI hh hqh (fun _ h => h) (fun q' v h1 h3 k => ?_)))
    obtain ⟨a, b, k1, k2, k3, k4, k5⟩ := (ch_mk he hs h3).mp k
    have n1 := congrArg (ww_n K) k2
    rw [ww_cn h2, ww_cn h2] at n1
    omega
  | succ d ih =>
    intro q hq n hn dd qq qn f_queueSize a_distance a_queue hb hI hh hqh hc
    obtain ⟨m, rfl⟩ : ∃ m, n = m + 1 := ⟨n - 1, by omega⟩
    refine br_f (nI_nlt (by omega) (by omega)) ?_
    have goOn : ∀ (dd1 : Nat → Option Nat) (qq1 : Nat → Nat) (qn1 : Nat) (f_queueSize : Int32) (a_distance a_queue : Nat → Int32), bx dd1 qq1 qn1 a_distance a_queue f_queueSize → bf_I K L E t to h dd1 qq1 qn1 → h < qn1 → qq1 h = cw → (∀ w, dd w ≠ none → dd1 w ≠ none) →
        (∀ v, ch_s K L E t (16 * e + 8 * s + q) cw v → dd1 v ≠ none) → ∀ x5 : Int32, x5 = nI q + 1 → wX_spread_29 post J2 J12 (nI cw) (nI e) (nI s) (nI last) f_letters f_topLevel f_capacity (nI L) f_equations f_taken f_rules f_confluence f_agendaTop f_chainLength m x5 f_queueSize a_power a_first a_sizes a_buffer a_equationSide a_ruleRight a_next a_fresh a_ruleLeft a_normalForm a_agendaOne a_agendaTwo a_distance a_queue a_chainWord a_chainEquation a_chainSide a_chainPlace := by
      intro dd1 qq1 qn1 f_queueSize a_distance a_queue k1 k2 k3 k4 k5 k6
      refine nm_r (nI_1 q) (ih (q + 1) (by omega) m (by omega) dd1 qq1 qn1 _ _ _ k1 k2 k3 k4 ?_)
      intro dd' qq' qn' f_queueSize a_distance a_queue g1 g2 g3 g4 g5 g6
      refine hc dd' qq' qn' _ _ _ g1 g2 g3 g4 (fun w hw => g5 w (k5 w hw)) (fun q' v h1 h3 k => ?_)
      rcases Nat.lt_or_ge q q' with z | z
      · exact g6 q' v z h3 k
      · have : q' = q := by omega
        rw [this] at k
        exact g5 v (k6 v k)
    refine xs_sc H hX hcw he hs (by omega) (by omega) (fun hno => ?_) (fun v v7 hv => ?_)
    · exact br_t (by decide) (goOn dd qq qn _ _ _ hb hI hh hqh (fun _ h => h) (fun v k => absurd k (hno v)))
    · have ev : a_distance (nI v).toNatClampNeg = ge_o (dd v) := by rw [nI_clamp (by omega)]; exact hb.1 v v7
      refine br_f (nI_pos (by omega)) ⟨vp_in_nI v7 (by decide), ?_⟩
      rw [ev]
      rcases Option.eq_none_or_eq_some (dd v) with z | ⟨dv, z⟩
      · obtain ⟨dc, e1, e2⟩ := hI.2.2.1 h hh
        rw [hqh] at e1
        have bd := bx_d h2 hto hI e1
        have ec : a_distance (nI cw).toNatClampNeg = nI dc := by rw [nI_clamp (by omega), hb.1 cw cw7, e1]; rfl
        have mk := bf_mk hI hh (d := dc) (v := v) (by rw [hqh]; exact e1) (by rw [hqh]; exact ⟨_, hv⟩) z v7
        have hqs := hb.2.2
        subst hqs
        rw [z]
        refine br_f (by decide) (br_f (nI_ge (b := 127) mk.2 (by decide)) ⟨vp_in_nI cw7 (by decide), vp_in_nI v7 (by decide), ?_⟩)
        rw [ec, nI_1, nI_clamp (show v < 2 ^ 31 by omega), nI_clamp (show qn < 2 ^ 31 by omega)]
        refine nm_e ⟨vp_in_nI mk.2 (by decide), nm_e (nm_r (nI_1 qn) (goOn _ _ _ _ _ _ ⟨ge_up (e := ge_o) (y := some (dc + 1)) hb.1 rfl, ge_ag hb.2.1, rfl⟩ mk.1 (by omega) ?_ (fun w hw => ?_) (fun v' k => ?_)))⟩
        · rw [gu_n (by omega)]; exact hqh
        · rcases Classical.em (w = v) with y | y
          · subst y; exact absurd z hw
          · rw [gu_n y]; exact hw
        · have : v' = v := ch_su h2 k hv
          rw [this, gu_s]; exact fun q => by cases q
      · have bd := bx_d h2 hto hI z
        rw [z]
        refine br_t (nI_pos' (by omega)) (goOn dd qq qn _ _ _ hb hI hh hqh (fun _ h => h) (fun v' k => ?_))
        have : v' = v := ch_su h2 k hv
        rw [this, z]; exact fun q => by cases q
theorem xs_12 (H : eq_H K T L E t a_equationSide) (hX : tb_X K a_power a_first a_sizes) (hto : ww_n K to ≤ L) (hcw : ww_n K cw ≤ L) {e : Nat} (he : e < t)
    {post : SX → Prop} {J2 : (Int32 → Int32 → (Nat → Int32) → (Nat → Int32) → (Nat → Int32) → (Nat → Int32) → (Nat → Int32) → (Nat → Int32) → (Nat → Int32) → (Nat → Int32) → (Nat → Int32) → (Nat → Int32) → (Nat → Int32) → (Nat → Int32) → (Nat → Int32) → (Nat → Int32) → (Nat → Int32) → (Nat → Int32) → (Nat → Int32) → (Nat → Int32) → Prop)} : ∀ d s, s + d = 2 → ∀ n, d < n →
    ∀ (dd : Nat → Option Nat) (qq : Nat → Nat) (qn : Nat) (f_queueSize : Int32) (a_distance a_queue : Nat → Int32), bx dd qq qn a_distance a_queue f_queueSize → bf_I K L E t to h dd qq qn → h < qn → qq h = cw →
    (∀ (dd' : Nat → Option Nat) (qq' : Nat → Nat) (qn' : Nat) (f_queueSize : Int32) (a_distance a_queue : Nat → Int32), bx dd' qq' qn' a_distance a_queue f_queueSize → bf_I K L E t to h dd' qq' qn' → h < qn' → qq' h = cw → (∀ w, dd w ≠ none → dd' w ≠ none) →
      (∀ s' q' v, s ≤ s' → s' < 2 → q' < 8 → ch_s K L E t (16 * e + 8 * s' + q') cw v → dd' v ≠ none) → J2 (nI (e + 1)) f_queueSize a_power a_first a_sizes a_buffer a_equationSide a_ruleRight a_next a_fresh a_ruleLeft a_normalForm a_agendaOne a_agendaTwo a_distance a_queue a_chainWord a_chainEquation a_chainSide a_chainPlace) →
    wX_spread_12 post J2 (nI cw) (nI e) f_letters f_topLevel f_capacity (nI L) f_equations f_taken f_rules f_confluence f_agendaTop f_chainLength n (nI s) f_queueSize a_power a_first a_sizes a_buffer a_equationSide a_ruleRight a_next a_fresh a_ruleLeft a_normalForm a_agendaOne a_agendaTwo a_distance a_queue a_chainWord a_chainEquation a_chainSide a_chainPlace := by
  have hT := tb_T H.1
  have hL := H.2.1
  intro d
  induction d with
  | zero =>
    intro s hs n hn dd qq qn f_queueSize a_distance a_queue hb hI hh hqh hc
    obtain ⟨m, rfl⟩ : ∃ m, n = m + 1 := ⟨n - 1, by omega⟩
    exact br_t (nI_lt (a := 1) (by omega) (by omega)) (nm_r (nI_1 e) (hc dd qq qn _ _ _ hb hI hh hqh (fun _ h => h) (fun s' q' v h1 h3 => by omega)))
  | succ d ih =>
    intro s hs n hn dd qq qn f_queueSize a_distance a_queue hb hI hh hqh hc
    obtain ⟨m, rfl⟩ : ∃ m, n = m + 1 := ⟨n - 1, by omega⟩
    refine br_f (nI_nlt (a := 1) (by omega) (by decide)) ?_
    have goOn : ∀ (dd1 : Nat → Option Nat) (qq1 : Nat → Nat) (qn1 : Nat) (f_queueSize : Int32) (a_distance a_queue : Nat → Int32), bx dd1 qq1 qn1 a_distance a_queue f_queueSize → bf_I K L E t to h dd1 qq1 qn1 → h < qn1 → qq1 h = cw → (∀ w, dd w ≠ none → dd1 w ≠ none) →
        (∀ q' v, 0 ≤ q' → q' < 8 → ch_s K L E t (16 * e + 8 * s + q') cw v → dd1 v ≠ none) → wX_spread_12 post J2 (nI cw) (nI e) f_letters f_topLevel f_capacity (nI L) f_equations f_taken f_rules f_confluence f_agendaTop f_chainLength m (nI (s + 1)) f_queueSize a_power a_first a_sizes a_buffer a_equationSide a_ruleRight a_next a_fresh a_ruleLeft a_normalForm a_agendaOne a_agendaTwo a_distance a_queue a_chainWord a_chainEquation a_chainSide a_chainPlace := by
      intro dd1 qq1 qn1 f_queueSize a_distance a_queue k1 k2 k3 k4 k5 k6
      refine ih (s + 1) (by omega) m (by omega) dd1 qq1 qn1 _ _ _ k1 k2 k3 k4 ?_
      intro dd' qq' qn' f_queueSize a_distance a_queue g1 g2 g3 g4 g5 g6
      refine hc dd' qq' qn' _ _ _ g1 g2 g3 g4 (fun w hw => g5 w (k5 w hw)) (fun s' q' v h1 h3 h4 k => ?_)
      rcases Nat.lt_or_ge s s' with z | z
      · exact g6 s' q' v z h3 h4 k
      · have : s' = s := by omega
        rw [this] at k
        exact g5 v (k6 q' v (Nat.zero_le _) h4 k)
    refine xs_lp H hX hcw he (by omega) (fun hno => ⟨1, ?_⟩) (fun last l1 l2 => ⟨last + 2, ?_⟩)
    · exact br_t (by decide) (nm_r (nI_1 s) (goOn dd qq qn _ _ _ hb hI hh hqh (fun _ h => h) (fun q' v _ h3 k => absurd k (hno q' v h3))))
    · exact xs_29 H hX hto hcw he (by omega) l1 l2 (last + 1) 0 (by omega) _ (by omega) dd qq qn _ _ _ hb hI hh hqh goOn
theorem xs_2 (H : eq_H K T L E t a_equationSide) (hX : tb_X K a_power a_first a_sizes) (hto : ww_n K to ≤ L) (hcw : ww_n K cw ≤ L)
    {post : SX → Prop} : ∀ d e, e + d = t → ∀ n, d < n →
    ∀ (dd : Nat → Option Nat) (qq : Nat → Nat) (qn : Nat) (f_queueSize : Int32) (a_distance a_queue : Nat → Int32), bx dd qq qn a_distance a_queue f_queueSize → bf_I K L E t to h dd qq qn → h < qn → qq h = cw →
    (∀ (dd' : Nat → Option Nat) (qq' : Nat → Nat) (qn' : Nat) (f_queueSize : Int32) (a_distance a_queue : Nat → Int32), bx dd' qq' qn' a_distance a_queue f_queueSize → bf_I K L E t to h dd' qq' qn' → h < qn' → qq' h = cw → (∀ w, dd w ≠ none → dd' w ≠ none) →
      (∀ m v, 16 * e ≤ m → ch_s K L E t m cw v → dd' v ≠ none) → post (f_letters, f_topLevel, f_capacity, nI L, f_equations, nI t, f_rules, f_confluence, f_agendaTop, f_queueSize, f_chainLength, a_power, a_first, a_sizes, a_buffer, a_equationSide, a_ruleRight, a_next, a_fresh, a_ruleLeft, a_normalForm, a_agendaOne, a_agendaTwo, a_distance, a_queue, a_chainWord, a_chainEquation, a_chainSide, a_chainPlace)) →
    wX_spread_2 post (nI cw) f_letters f_topLevel f_capacity (nI L) f_equations (nI t) f_rules f_confluence f_agendaTop f_chainLength n (nI e) f_queueSize a_power a_first a_sizes a_buffer a_equationSide a_ruleRight a_next a_fresh a_ruleLeft a_normalForm a_agendaOne a_agendaTwo a_distance a_queue a_chainWord a_chainEquation a_chainSide a_chainPlace := by
  have ht := H.2.2.1
  intro d
  induction d with
  | zero =>
    intro e hs n hn dd qq qn f_queueSize a_distance a_queue hb hI hh hqh hc
    obtain ⟨m, rfl⟩ : ∃ m, n = m + 1 := ⟨n - 1, by omega⟩
    refine br_t (nI_le (by omega) (by omega)) (hc dd qq qn _ _ _ hb hI hh hqh (fun _ h => h) (fun m v h1 k => ?_))
    have := k.1
    omega
  | succ d ih =>
    intro e hs n hn dd qq qn f_queueSize a_distance a_queue hb hI hh hqh hc
    obtain ⟨m, rfl⟩ : ∃ m, n = m + 1 := ⟨n - 1, by omega⟩
    refine br_f (nI_ge (by omega) (by omega)) ⟨3, ?_⟩
    refine xs_12 H hX hto hcw (by omega) 2 0 rfl 3 (by decide) dd qq qn _ _ _ hb hI hh hqh ?_
    intro dd1 qq1 qn1 f_queueSize a_distance a_queue k1 k2 k3 k4 k5 k6
    refine ih (e + 1) (by omega) m (by omega) dd1 qq1 qn1 _ _ _ k1 k2 k3 k4 ?_
    intro dd' qq' qn' f_queueSize a_distance a_queue g1 g2 g3 g4 g5 g6
    refine hc dd' qq' qn' _ _ _ g1 g2 g3 g4 (fun w hw => g5 w (k5 w hw)) (fun m v h1 k => ?_)
    rcases Nat.lt_or_ge m (16 * (e + 1)) with z | z
    · have dm := ch_dec m
      have e1 : m / 16 = e := by omega
      rw [dm.1, e1] at k
      exact g5 v (k6 _ _ v (Nat.zero_le _) dm.2.1 dm.2.2 k)
    · exact g6 m v z k
theorem xs_45 (H : eq_H K T L E t a_equationSide) (hX : tb_X K a_power a_first a_sizes) (hto : ww_n K to ≤ L) {x : Nat} (hx : x < 127)
    {post : SX → Prop} (hc : ∀ (h : Nat) (dd' : Nat → Option Nat) (qq' : Nat → Nat) (qn' : Nat) (f_queueSize : Int32) (a_distance a_queue : Nat → Int32), bx dd' qq' qn' a_distance a_queue f_queueSize → bf_I K L E t to h dd' qq' qn' → (dd' x ≠ none ∨ h = qn') → post (f_letters, f_topLevel, f_capacity, nI L, f_equations, nI t, f_rules, f_confluence, f_agendaTop, f_queueSize, f_chainLength, a_power, a_first, a_sizes, a_buffer, a_equationSide, a_ruleRight, a_next, a_fresh, a_ruleLeft, a_normalForm, a_agendaOne, a_agendaTwo, a_distance, a_queue, a_chainWord, a_chainEquation, a_chainSide, a_chainPlace)) :
    ∀ d h, h + d = 127 → ∀ n, d < n → ∀ (dd : Nat → Option Nat) (qq : Nat → Nat) (qn : Nat) (f_queueSize : Int32) (a_distance a_queue : Nat → Int32), bx dd qq qn a_distance a_queue f_queueSize → bf_I K L E t to h dd qq qn →
    wX_measure_45 post (nI x) n (nI h) f_letters f_topLevel f_capacity (nI L) f_equations (nI t) f_rules f_confluence f_agendaTop f_queueSize f_chainLength a_power a_first a_sizes a_buffer a_equationSide a_ruleRight a_next a_fresh a_ruleLeft a_normalForm a_agendaOne a_agendaTwo a_distance a_queue a_chainWord a_chainEquation a_chainSide a_chainPlace := by
  have hK := H.1
  have h2 := tb_2 hK
  have hL := H.2.1
  have cn : ww_f K (L + 1) ≤ 127 := Nat.le_trans (ww_fle h2 (by omega)) (tb_f7 hK).2.2
  intro d
  induction d with
  | zero =>
    intro h hd n hn dd qq qn f_queueSize a_distance a_queue hb hI
    obtain ⟨m, rfl⟩ : ∃ m, n = m + 1 := ⟨n - 1, by omega⟩
    have q1 := hI.2.1
    have q2 := hI.2.2.2.2.1
    have q3 := cq_le (fun w => dd w ≠ none) 127
    have hqs := hb.2.2
    subst hqs
    exact br_t (nI_le (by omega) (by omega)) (hc h dd qq qn _ _ _ hb hI (Or.inr (by omega)))
  | succ d ih =>
    intro h hd n hn dd qq qn f_queueSize a_distance a_queue hb hI
    obtain ⟨m, rfl⟩ : ∃ m, n = m + 1 := ⟨n - 1, by omega⟩
    have q1 := hI.2.1
    have q2 := hI.2.2.2.2.1
    have q3 := cq_le (fun w => dd w ≠ none) 127
    have hqs := hb.2.2
    subst hqs
    refine pk_le qn h (fun k => hc h dd qq qn _ _ _ hb hI (Or.inr (by omega))) (fun k => ?_)
    have ex : a_distance (nI x).toNatClampNeg = ge_o (dd x) := by rw [nI_clamp (by omega)]; exact hb.1 x hx
    refine br_f (nI_ge (b := 127) (by omega) (by decide)) ⟨vp_in_nI hx (by decide), ?_⟩
    rw [ex]
    rcases Option.eq_none_or_eq_some (dd x) with z | ⟨dx, z⟩
    · rw [z]
      have eq : a_queue (nI h).toNatClampNeg = nI (qq h) := by rw [nI_clamp (by omega)]; exact hb.2.1 h k
      refine br_f (by decide) ⟨vp_in_nI (by omega) (by decide), ?_⟩
      rw [eq]
      obtain ⟨dc, e1, e2⟩ := hI.2.2.1 h k
      unfold wpX_spread
      refine ⟨t + 1, xs_2 H hX hto (ch_len hto e2) t 0 (by omega) _ (by omega) dd qq qn _ _ _ hb hI k rfl ?_⟩
      intro dd' qq' qn' f_queueSize a_distance a_queue g1 g2 g3 g4 g5 g6
      exact nm_r (nI_1 h) (ih (h + 1) (by omega) m (by omega) dd' qq' qn' _ _ _ g1 (bf_hd g2 g3 (fun w ⟨mm, hm⟩ => g6 mm w (by omega) (by rw [← g4]; exact hm))))
    · have bd := bx_d h2 hto hI z
      rw [z]
      exact br_t (nI_pos' (by omega)) (hc h dd qq qn _ _ _ hb hI (Or.inl (by rw [z]; exact fun q => by cases q)))
theorem xs_m2 (H : eq_H K T L E t a_equationSide) (hX : tb_X K a_power a_first a_sizes) (hto : ww_n K to ≤ L) {x : Nat} (hx : x < 127) {f_queueSize : Int32} {a_queue : Nat → Int32}
    {post : SX → Prop} (hc : ∀ (h : Nat) (dd' : Nat → Option Nat) (qq' : Nat → Nat) (qn' : Nat) (f_queueSize : Int32) (a_distance a_queue : Nat → Int32), bx dd' qq' qn' a_distance a_queue f_queueSize → bf_I K L E t to h dd' qq' qn' → (dd' x ≠ none ∨ h = qn') → post (f_letters, f_topLevel, f_capacity, nI L, f_equations, nI t, f_rules, f_confluence, f_agendaTop, f_queueSize, f_chainLength, a_power, a_first, a_sizes, a_buffer, a_equationSide, a_ruleRight, a_next, a_fresh, a_ruleLeft, a_normalForm, a_agendaOne, a_agendaTwo, a_distance, a_queue, a_chainWord, a_chainEquation, a_chainSide, a_chainPlace)) :
    ∀ d j, j + d = 127 → ∀ n, d < n → ∀ (a_distance : Nat → Int32), (∀ w, w < j → a_distance w = -1) → wX_measure_2 post (nI x) (nI to) f_letters f_topLevel f_capacity (nI L) f_equations (nI t) f_rules f_confluence f_agendaTop f_queueSize f_chainLength n (nI j) a_power a_first a_sizes a_buffer a_equationSide a_ruleRight a_next a_fresh a_ruleLeft a_normalForm a_agendaOne a_agendaTwo a_distance a_queue a_chainWord a_chainEquation a_chainSide a_chainPlace := by
  have hK := H.1
  have to7 : to < 127 := tb_127 hK (by have := H.2.1; omega)
  intro d
  induction d with
  | zero =>
    intro j hj n hn a_distance h
    obtain ⟨m, rfl⟩ : ∃ m, n = m + 1 := ⟨n - 1, by omega⟩
    refine br_t (nI_le (a := 127) (by omega) (by omega)) ?_
    rw [nI_clamp (by omega)]
    refine ⟨vp_in_nI to7 (by decide), nm_e (nm_e ⟨128, xs_45 H hX hto hx hc 127 0 rfl 128 (by decide) (gu (fun _ => none) to (some 0)) (fun _ => to) 1 _ _ _ ⟨ge_up (e := ge_o) (g := fun _ => none) (y := some 0) (fun w hw => h w (by omega)) rfl, fun i hi => ?_, rfl⟩ (bf_0 to7 _ rfl)⟩)⟩
    have : i = 0 := by omega
    rw [this, pk_us]
  | succ d ih =>
    intro j hj n hn a_distance h
    obtain ⟨m, rfl⟩ : ∃ m, n = m + 1 := ⟨n - 1, by omega⟩
    have cl : (nI j).toNatClampNeg = j := nI_clamp (by omega)
    refine br_f (nI_ge (b := 127) (by omega) (by decide)) ?_
    rw [cl]
    refine ⟨vp_in_nI (by omega) (by decide), nm_e (nm_r (nI_1 j) (ih (j + 1) (by omega) m (by omega) _ (fun w hw => ?_)))⟩
    rcases Classical.em (w = j) with q | q
    · subst q; exact pk_us
    · rw [pk_un q]; exact h w (by omega)
theorem xs_me (H : eq_H K T L E t a_equationSide) (hX : tb_X K a_power a_first a_sizes) (hto : ww_n K to ≤ L) {x : Nat} (hx : x < 127) {f_queueSize : Int32} {a_distance a_queue : Nat → Int32}
    {post : SX → Prop} (hc : ∀ (h : Nat) (dd' : Nat → Option Nat) (qq' : Nat → Nat) (qn' : Nat) (f_queueSize : Int32) (a_distance a_queue : Nat → Int32), bx dd' qq' qn' a_distance a_queue f_queueSize → bf_I K L E t to h dd' qq' qn' → (dd' x ≠ none ∨ h = qn') → post (f_letters, f_topLevel, f_capacity, nI L, f_equations, nI t, f_rules, f_confluence, f_agendaTop, f_queueSize, f_chainLength, a_power, a_first, a_sizes, a_buffer, a_equationSide, a_ruleRight, a_next, a_fresh, a_ruleLeft, a_normalForm, a_agendaOne, a_agendaTwo, a_distance, a_queue, a_chainWord, a_chainEquation, a_chainSide, a_chainPlace)) :
    wpX_measure post (f_letters, f_topLevel, f_capacity, nI L, f_equations, nI t, f_rules, f_confluence, f_agendaTop, f_queueSize, f_chainLength, a_power, a_first, a_sizes, a_buffer, a_equationSide, a_ruleRight, a_next, a_fresh, a_ruleLeft, a_normalForm, a_agendaOne, a_agendaTwo, a_distance, a_queue, a_chainWord, a_chainEquation, a_chainSide, a_chainPlace) (nI x) (nI to) := by
  unfold wpX_measure
  exact ⟨128, xs_m2 H hX hto hx hc 127 0 rfl 128 (by decide) _ (fun w h => by omega)⟩
end
end
section
/-! The component's chain is stored. -/
/-- the stored steps below an index -/
def cx_H (ps : Nat → Nat) (i : Nat) (a_chainEquation a_chainSide a_chainPlace : Nat → Int32) : Prop :=
  ∀ k, k < i → a_chainEquation k = nI (ps k / 16) ∧ a_chainSide k = nI (ps k / 8 % 2) ∧ a_chainPlace k = nI (ps k % 8)
/-- the best step among those with smaller numbers -/
def cs_I (K L : Nat) (E : Nat → Nat) (t to j w m0 idx : Nat) (best : Int32) (a_chainEquation a_chainSide a_chainPlace : Nat → Int32) : Prop :=
  (best = -1 ∧ ∀ m, m < m0 → ∀ v, ch_s K L E t m w v → ¬ ch_d K L E t to j v) ∨
  (∃ v m, best = nI v ∧ v < 127 ∧ m < m0 ∧ ch_s K L E t m w v ∧ ch_d K L E t to j v ∧ (∀ m', m' < m0 → ∀ v', ch_s K L E t m' w v' → ch_d K L E t to j v' → v ≤ v') ∧ (∀ m', m' < m → ¬ ch_s K L E t m' w v) ∧
    a_chainEquation idx = nI (m / 16) ∧ a_chainSide idx = nI (m / 8 % 2) ∧ a_chainPlace idx = nI (m % 8))
section
variable {K T L t to : Nat} {E : Nat → Nat}
/-- steps that aren't there may be passed over -/
theorem cs_up {j w m0 m1 idx : Nat} {best : Int32} {a b c : Nat → Int32} (hm : m0 ≤ m1) (h : cs_I K L E t to j w m0 idx best a b c) (hn : ∀ m, m0 ≤ m → m < m1 → ∀ v, ch_s K L E t m w v → ¬ ch_d K L E t to j v) : cs_I K L E t to j w m1 idx best a b c := by
  rcases h with ⟨h1, h2⟩ | ⟨v, m, h1, h2, h3, h4, h5, h6, h7, h8⟩
  · refine Or.inl ⟨h1, fun m hm' v k => ?_⟩
    rcases Nat.lt_or_ge m m0 with z | z
    · exact h2 m z v k
    · exact hn m z hm' v k
  · refine Or.inr ⟨v, m, h1, h2, by omega, h4, h5, fun m' hm' v' k kd => ?_, h7, h8⟩
    rcases Nat.lt_or_ge m' m0 with z | z
    · exact h6 m' z v' k kd
    · exact absurd kd (hn m' z hm' v' k)
end
section
variable {K T L t to : Nat} {E : Nat → Nat} {j w idx : Nat} {ps : Nat → Nat} {f_letters f_topLevel f_capacity f_equations f_taken f_rules f_confluence f_agendaTop f_queueSize f_chainLength : Int32} {a_power a_first a_sizes a_buffer a_equationSide a_ruleRight a_next a_fresh a_ruleLeft a_normalForm a_agendaOne a_agendaTwo a_distance a_queue a_chainWord : Nat → Int32}
theorem xc_38 (H : eq_H K T L E t a_equationSide) (hX : tb_X K a_power a_first a_sizes) (hw : ww_n K w ≤ L) (hi : idx < 127) (hd : ∀ v, v < 127 → (a_distance v = nI j ↔ ch_d K L E t to j v)) {e s last : Nat} (he : e < t) (hs : s < 2) (hl1 : last + ww_n K (E (2 * e + s)) = ww_n K w) (hl2 : last + ww_n K (E (2 * e + 1 - s)) ≤ L)
    {post : Int32 → SX → Prop} {J6 J18 : (Int32 → Int32 → (Nat → Int32) → (Nat → Int32) → (Nat → Int32) → (Nat → Int32) → (Nat → Int32) → (Nat → Int32) → (Nat → Int32) → (Nat → Int32) → (Nat → Int32) → (Nat → Int32) → (Nat → Int32) → (Nat → Int32) → (Nat → Int32) → (Nat → Int32) → (Nat → Int32) → (Nat → Int32) → (Nat → Int32) → (Nat → Int32) → Prop)}
    (hc : ∀ (best : Int32) (a_chainEquation a_chainSide a_chainPlace : Nat → Int32), cx_H ps idx a_chainEquation a_chainSide a_chainPlace → cs_I K L E t to j w (16 * e + 8 * s + 8) idx best a_chainEquation a_chainSide a_chainPlace → J18 best (nI (s + 1)) a_power a_first a_sizes a_buffer a_equationSide a_ruleRight a_next a_fresh a_ruleLeft a_normalForm a_agendaOne a_agendaTwo a_distance a_queue a_chainWord a_chainEquation a_chainSide a_chainPlace) :
    ∀ d q, q + d = last + 1 → ∀ n, d < n → ∀ (best : Int32) (a_chainEquation a_chainSide a_chainPlace : Nat → Int32), cx_H ps idx a_chainEquation a_chainSide a_chainPlace → cs_I K L E t to j w (16 * e + 8 * s + q) idx best a_chainEquation a_chainSide a_chainPlace →
    wX_chooseStep_38 post J6 J18 (nI idx) (nI w) (nI j) (nI e) (nI s) (nI last) f_letters f_topLevel f_capacity (nI L) f_equations f_taken f_rules f_confluence f_agendaTop f_queueSize f_chainLength n best (nI q) a_power a_first a_sizes a_buffer a_equationSide a_ruleRight a_next a_fresh a_ruleLeft a_normalForm a_agendaOne a_agendaTwo a_distance a_queue a_chainWord a_chainEquation a_chainSide a_chainPlace := by
  have H' := H
  obtain ⟨hK, hL, ht, hE, hEL⟩ := H'
  have h2 := tb_2 hK
  have hT := tb_T hK
  intro d
  induction d with
  | zero =>
    intro q hq n hn best a_chainEquation a_chainSide a_chainPlace hx hI
    obtain ⟨m, rfl⟩ : ∃ m, n = m + 1 := ⟨n - 1, by omega⟩
    refine br_t (nI_lt (by omega) (by omega)) (nm_r (nI_1 s) (hc best _ _ _ hx (cs_up (by omega) hI (fun m h1 h3 v k => ?_))))
    have dm := ch_dec m
    have e1 : m / 16 = e := by omega
    have e2 : m / 8 % 2 = s := by omega
    rw [dm.1, e1, e2] at k
    obtain ⟨a, b, k1, k2, k3, k4, k5⟩ := (ch_mk he hs dm.2.2).mp k
    have n1 := congrArg (ww_n K) k2
    rw [ww_cn h2, ww_cn h2] at n1
    omega
  | succ d ih =>
    intro q hq n hn best a_chainEquation a_chainSide a_chainPlace hx hI
    obtain ⟨m, rfl⟩ : ∃ m, n = m + 1 := ⟨n - 1, by omega⟩
    refine br_f (nI_nlt (by omega) (by omega)) ?_
    have keep : (∀ v, ch_s K L E t (16 * e + 8 * s + q) w v → ¬ ch_d K L E t to j v) → ∀ x8 : Int32, x8 = nI q + 1 → wX_chooseStep_38 post J6 J18 (nI idx) (nI w) (nI j) (nI e) (nI s) (nI last) f_letters f_topLevel f_capacity (nI L) f_equations f_taken f_rules f_confluence f_agendaTop f_queueSize f_chainLength m best x8 a_power a_first a_sizes a_buffer a_equationSide a_ruleRight a_next a_fresh a_ruleLeft a_normalForm a_agendaOne a_agendaTwo a_distance a_queue a_chainWord a_chainEquation a_chainSide a_chainPlace := by
      intro hno
      refine nm_r (nI_1 q) (ih (q + 1) (by omega) m (by omega) best _ _ _ hx (cs_up (by omega) hI (fun m' h1 h3 v k => ?_)))
      have : m' = 16 * e + 8 * s + q := by omega
      rw [this] at k
      exact hno v k
    refine xs_sc H hX hw he hs (by omega) (by omega) (fun hno => ?_) (fun v v7 hv => ?_)
    · exact br_t (by decide) (keep (fun v k => absurd k (hno v)))
    · refine br_f (nI_pos (by omega)) ⟨vp_in_nI v7 (by decide), ?_⟩
      rw [nI_clamp (show v < 2 ^ 31 by omega)]
      rcases Classical.em (ch_d K L E t to j v) with z | z
      · refine br_t ((hd v v7).mpr z) ?_
        have put : (∀ m', m' < 16 * e + 8 * s + q → ∀ v', ch_s K L E t m' w v' → ch_d K L E t to j v' → v < v') → wX_chooseStep_86 post J6 J18 (wX_chooseStep_38 post J6 J18 (nI idx) (nI w) (nI j) (nI e) (nI s) (nI last) f_letters f_topLevel f_capacity (nI L) f_equations f_taken f_rules f_confluence f_agendaTop f_queueSize f_chainLength m) (nI idx) (nI w) (nI j) (nI e) (nI s) (nI last) (nI q) (nI v) f_letters f_topLevel f_capacity (nI L) f_equations f_taken f_rules f_confluence f_agendaTop f_queueSize f_chainLength a_power a_first a_sizes a_buffer a_equationSide a_ruleRight a_next a_fresh a_ruleLeft a_normalForm a_agendaOne a_agendaTwo a_distance a_queue a_chainWord a_chainEquation a_chainSide a_chainPlace := by
          intro hlt
          unfold wX_chooseStep_86
          rw [nI_clamp (by omega)]
          refine ⟨vp_in_nI hi (by decide), nm_e ⟨vp_in_nI hi (by decide), nm_e ⟨vp_in_nI hi (by decide), nm_e (nm_r (nI_1 q) (ih (q + 1) (by omega) m (by omega) (nI v) _ _ _ (fun k hk => ?_) (Or.inr ⟨v, 16 * e + 8 * s + q, rfl, v7, by omega, hv, z, fun m' hm' v' k kd => ?_, fun m' hm' k => ?_, ?_, ?_, ?_⟩)))⟩⟩⟩
          · rw [pk_un (by omega), pk_un (by omega), pk_un (by omega)]; exact hx k hk
          · rcases Nat.lt_or_ge m' (16 * e + 8 * s + q) with y | y
            · exact Nat.le_of_lt (hlt m' y v' k kd)
            · have : m' = 16 * e + 8 * s + q := by omega
              rw [this] at k
              rw [ch_su h2 k hv]; exact Nat.le_refl _
          · have := hlt m' hm' v k z
            omega
          · rw [pk_us]; exact congrArg nI (by omega)
          · rw [pk_us]; exact congrArg nI (by omega)
          · rw [pk_us]; exact congrArg nI (by omega)
        rcases hI with ⟨b1, b2⟩ | ⟨v0, m0, b1, b2, b3, b4, b5, b6, b7, b8⟩
        · subst b1
          exact br_t (by decide) (put (fun m' hm' v' k kd => absurd kd (b2 m' hm' v' k)))
        · subst b1
          refine br_f (nI_pos (by omega)) (pk_le v0 v (fun le => ?_) (fun lt => put (fun m' hm' v' k kd => ?_)))
          · refine nm_r (nI_1 q) (ih (q + 1) (by omega) m (by omega) (nI v0) _ _ _ hx (Or.inr ⟨v0, m0, rfl, b2, by omega, b4, b5, fun m' hm' v' k kd => ?_, b7, b8⟩))
            rcases Nat.lt_or_ge m' (16 * e + 8 * s + q) with y | y
            · exact b6 m' y v' k kd
            · have : m' = 16 * e + 8 * s + q := by omega
              rw [this] at k
              rw [ch_su h2 k hv]; exact le
          · have := b6 m' hm' v' k kd
            omega
      · refine br_f (fun q => z ((hd v v7).mp q)) (keep (fun v' k => ?_))
        rw [ch_su h2 k hv]; exact z
theorem xc_18 (H : eq_H K T L E t a_equationSide) (hX : tb_X K a_power a_first a_sizes) (hw : ww_n K w ≤ L) (hi : idx < 127) (hd : ∀ v, v < 127 → (a_distance v = nI j ↔ ch_d K L E t to j v)) {e : Nat} (he : e < t)
    {post : Int32 → SX → Prop} {J6 : (Int32 → Int32 → (Nat → Int32) → (Nat → Int32) → (Nat → Int32) → (Nat → Int32) → (Nat → Int32) → (Nat → Int32) → (Nat → Int32) → (Nat → Int32) → (Nat → Int32) → (Nat → Int32) → (Nat → Int32) → (Nat → Int32) → (Nat → Int32) → (Nat → Int32) → (Nat → Int32) → (Nat → Int32) → (Nat → Int32) → (Nat → Int32) → Prop)}
    (hc : ∀ (best : Int32) (a_chainEquation a_chainSide a_chainPlace : Nat → Int32), cx_H ps idx a_chainEquation a_chainSide a_chainPlace → cs_I K L E t to j w (16 * (e + 1)) idx best a_chainEquation a_chainSide a_chainPlace → J6 best (nI (e + 1)) a_power a_first a_sizes a_buffer a_equationSide a_ruleRight a_next a_fresh a_ruleLeft a_normalForm a_agendaOne a_agendaTwo a_distance a_queue a_chainWord a_chainEquation a_chainSide a_chainPlace) :
    ∀ d s, s + d = 2 → ∀ n, d < n → ∀ (best : Int32) (a_chainEquation a_chainSide a_chainPlace : Nat → Int32), cx_H ps idx a_chainEquation a_chainSide a_chainPlace → cs_I K L E t to j w (16 * e + 8 * s) idx best a_chainEquation a_chainSide a_chainPlace →
    wX_chooseStep_18 post J6 (nI idx) (nI w) (nI j) (nI e) f_letters f_topLevel f_capacity (nI L) f_equations f_taken f_rules f_confluence f_agendaTop f_queueSize f_chainLength n best (nI s) a_power a_first a_sizes a_buffer a_equationSide a_ruleRight a_next a_fresh a_ruleLeft a_normalForm a_agendaOne a_agendaTwo a_distance a_queue a_chainWord a_chainEquation a_chainSide a_chainPlace := by
  intro d
  induction d with
  | zero =>
    intro s hs n hn best a_chainEquation a_chainSide a_chainPlace hx hI
    obtain ⟨m, rfl⟩ : ∃ m, n = m + 1 := ⟨n - 1, by omega⟩
    refine br_t (nI_lt (a := 1) (by omega) (by omega)) (nm_r (nI_1 e) (hc best _ _ _ hx ?_))
    rw [show 16 * (e + 1) = 16 * e + 8 * s by omega]; exact hI
  | succ d ih =>
    intro s hs n hn best a_chainEquation a_chainSide a_chainPlace hx hI
    obtain ⟨m, rfl⟩ : ∃ m, n = m + 1 := ⟨n - 1, by omega⟩
    refine br_f (nI_nlt (a := 1) (by omega) (by decide)) ?_
    have next : ∀ (best : Int32) (a_chainEquation a_chainSide a_chainPlace : Nat → Int32), cx_H ps idx a_chainEquation a_chainSide a_chainPlace → cs_I K L E t to j w (16 * e + 8 * s + 8) idx best a_chainEquation a_chainSide a_chainPlace → wX_chooseStep_18 post J6 (nI idx) (nI w) (nI j) (nI e) f_letters f_topLevel f_capacity (nI L) f_equations f_taken f_rules f_confluence f_agendaTop f_queueSize f_chainLength m best (nI (s + 1)) a_power a_first a_sizes a_buffer a_equationSide a_ruleRight a_next a_fresh a_ruleLeft a_normalForm a_agendaOne a_agendaTwo a_distance a_queue a_chainWord a_chainEquation a_chainSide a_chainPlace := by
      intro best a_chainEquation a_chainSide a_chainPlace k1 k2
      refine ih (s + 1) (by omega) m (by omega) best _ _ _ k1 ?_
      rw [show 16 * e + 8 * (s + 1) = 16 * e + 8 * s + 8 by omega]; exact k2
    refine xs_lp H hX hw he (by omega) (fun hno => ⟨1, ?_⟩) (fun last l1 l2 => ⟨last + 2, ?_⟩)
    · refine br_t (by decide) (nm_r (nI_1 s) (next best _ _ _ hx (cs_up (by omega) hI (fun m' h1 h3 v k => ?_))))
      have dm := ch_dec m'
      have e1 : m' / 16 = e := by omega
      have e2 : m' / 8 % 2 = s := by omega
      rw [dm.1, e1, e2] at k
      exact absurd k (hno _ v dm.2.2)
    · exact xc_38 H hX hw hi hd he (by omega) l1 l2 next (last + 1) 0 (by omega) _ (by omega) best _ _ _ hx hI
theorem xc_6 (H : eq_H K T L E t a_equationSide) (hX : tb_X K a_power a_first a_sizes) (hw : ww_n K w ≤ L) (hi : idx < 127) (hd : ∀ v, v < 127 → (a_distance v = nI j ↔ ch_d K L E t to j v))
    {post : Int32 → SX → Prop}
    (hc : ∀ (best : Int32) (a_chainEquation a_chainSide a_chainPlace : Nat → Int32), cx_H ps idx a_chainEquation a_chainSide a_chainPlace → cs_I K L E t to j w (16 * t) idx best a_chainEquation a_chainSide a_chainPlace → post best (f_letters, f_topLevel, f_capacity, nI L, f_equations, nI t, f_rules, f_confluence, f_agendaTop, f_queueSize, f_chainLength, a_power, a_first, a_sizes, a_buffer, a_equationSide, a_ruleRight, a_next, a_fresh, a_ruleLeft, a_normalForm, a_agendaOne, a_agendaTwo, a_distance, a_queue, a_chainWord, a_chainEquation, a_chainSide, a_chainPlace)) :
    ∀ d e, e + d = t → ∀ n, d < n → ∀ (best : Int32) (a_chainEquation a_chainSide a_chainPlace : Nat → Int32), cx_H ps idx a_chainEquation a_chainSide a_chainPlace → cs_I K L E t to j w (16 * e) idx best a_chainEquation a_chainSide a_chainPlace →
    wX_chooseStep_6 post (nI idx) (nI w) (nI j) f_letters f_topLevel f_capacity (nI L) f_equations (nI t) f_rules f_confluence f_agendaTop f_queueSize f_chainLength n best (nI e) a_power a_first a_sizes a_buffer a_equationSide a_ruleRight a_next a_fresh a_ruleLeft a_normalForm a_agendaOne a_agendaTwo a_distance a_queue a_chainWord a_chainEquation a_chainSide a_chainPlace := by
  have ht := H.2.2.1
  intro d
  induction d with
  | zero =>
    intro e hs n hn best a_chainEquation a_chainSide a_chainPlace hx hI
    obtain ⟨m, rfl⟩ : ∃ m, n = m + 1 := ⟨n - 1, by omega⟩
    have : e = t := by omega
    subst this
    exact br_t (nI_le (by omega) (by omega)) (hc best _ _ _ hx hI)
  | succ d ih =>
    intro e hs n hn best a_chainEquation a_chainSide a_chainPlace hx hI
    obtain ⟨m, rfl⟩ : ∃ m, n = m + 1 := ⟨n - 1, by omega⟩
    refine br_f (nI_ge (by omega) (by omega)) ⟨3, ?_⟩
    exact xc_18 H hX hw hi hd (by omega) (fun best _ _ _ k1 k2 => ih (e + 1) (by omega) m (by omega) best _ _ _ k1 k2) 2 0 rfl 3 (by decide) best _ _ _ hx hI
/-- the chosen step -/
theorem xc_cs (H : eq_H K T L E t a_equationSide) (hX : tb_X K a_power a_first a_sizes) (hw : ww_n K w ≤ L) (hi : idx < 127) (hd : ∀ v, v < 127 → (a_distance v = nI j ↔ ch_d K L E t to j v)) (hex : ∃ v, ch_l K L E t w v ∧ ch_d K L E t to j v)
    {a_chainEquation a_chainSide a_chainPlace : Nat → Int32} (hx : cx_H ps idx a_chainEquation a_chainSide a_chainPlace) {post : Int32 → SX → Prop}
    (hc : ∀ (v m : Nat) (a_chainEquation a_chainSide a_chainPlace : Nat → Int32), ch_n K L E t to j w v m → cx_H (gu ps idx m) (idx + 1) a_chainEquation a_chainSide a_chainPlace → post (nI v) (f_letters, f_topLevel, f_capacity, nI L, f_equations, nI t, f_rules, f_confluence, f_agendaTop, f_queueSize, f_chainLength, a_power, a_first, a_sizes, a_buffer, a_equationSide, a_ruleRight, a_next, a_fresh, a_ruleLeft, a_normalForm, a_agendaOne, a_agendaTwo, a_distance, a_queue, a_chainWord, a_chainEquation, a_chainSide, a_chainPlace)) :
    wpX_chooseStep post (f_letters, f_topLevel, f_capacity, nI L, f_equations, nI t, f_rules, f_confluence, f_agendaTop, f_queueSize, f_chainLength, a_power, a_first, a_sizes, a_buffer, a_equationSide, a_ruleRight, a_next, a_fresh, a_ruleLeft, a_normalForm, a_agendaOne, a_agendaTwo, a_distance, a_queue, a_chainWord, a_chainEquation, a_chainSide, a_chainPlace) (nI idx) (nI w) (nI j) := by
  unfold wpX_chooseStep
  refine ⟨t + 1, xc_6 H hX hw hi hd (ps := ps) ?_ t 0 (by omega) _ (by omega) (-1) _ _ _ hx (Or.inl ⟨rfl, fun m hm => by omega⟩)⟩
  intro best a_chainEquation a_chainSide a_chainPlace k1 k2
  rcases k2 with ⟨b1, b2⟩ | ⟨v0, m0, b1, b2, b3, b4, b5, b6, b7, b8⟩
  · obtain ⟨v, ⟨m, hm⟩, hv⟩ := hex
    have := hm.1
    exact absurd hv (b2 m (by omega) v hm)
  · subst b1
    refine hc v0 m0 _ _ _ ⟨b5, b4, fun v' ⟨m', hm'⟩ kd => b6 m' (by have := hm'.1; omega) v' hm' kd, b7⟩ (fun k hk => ?_)
    rcases Classical.em (k = idx) with z | z
    · subst z; rw [gu_s]; exact b8
    · rw [gu_n z]; exact k1 k (by omega)
end
section
variable {K T L t to : Nat} {E : Nat → Nat} {f_letters f_topLevel f_capacity f_equations f_taken f_rules f_confluence f_agendaTop f_queueSize f_chainLength : Int32} {a_power a_first a_sizes a_buffer a_equationSide a_ruleRight a_next a_fresh a_ruleLeft a_normalForm a_agendaOne a_agendaTwo a_distance a_queue : Nat → Int32}
theorem xc_s12 (H : eq_H K T L E t a_equationSide) (hX : tb_X K a_power a_first a_sizes) (hto : ww_n K to ≤ L) {x D : Nat} (D7 : D < 127) (hd : ∀ j, j < D → ∀ v, v < 127 → (a_distance v = nI j ↔ ch_d K L E t to j v)) {post : SX → Prop}
    (hc : ∀ (pw ps : Nat → Nat) (a_chainWord a_chainEquation a_chainSide a_chainPlace : Nat → Int32), ch_C K L E t to D x pw ps → (∀ k, k < D + 1 → a_chainWord k = nI (pw k)) → cx_H ps D a_chainEquation a_chainSide a_chainPlace → post (f_letters, f_topLevel, f_capacity, nI L, f_equations, nI t, f_rules, f_confluence, f_agendaTop, f_queueSize, nI D, a_power, a_first, a_sizes, a_buffer, a_equationSide, a_ruleRight, a_next, a_fresh, a_ruleLeft, a_normalForm, a_agendaOne, a_agendaTwo, a_distance, a_queue, a_chainWord, a_chainEquation, a_chainSide, a_chainPlace)) :
    ∀ d i, i + d = D → ∀ n, d < n → ∀ (pw ps : Nat → Nat) (a_chainWord a_chainEquation a_chainSide a_chainPlace : Nat → Int32), pw 0 = x → (∀ k, k < i → ch_n K L E t to (D - k - 1) (pw k) (pw (k + 1)) (ps k)) → ch_d K L E t to (D - i) (pw i) → (∀ k, k < i → a_chainWord k = nI (pw k)) → cx_H ps i a_chainEquation a_chainSide a_chainPlace →
    wX_storeChain_12 post (nI D) n (nI (pw i)) (nI i) f_letters f_topLevel f_capacity (nI L) f_equations (nI t) f_rules f_confluence f_agendaTop f_queueSize f_chainLength a_power a_first a_sizes a_buffer a_equationSide a_ruleRight a_next a_fresh a_ruleLeft a_normalForm a_agendaOne a_agendaTwo a_distance a_queue a_chainWord a_chainEquation a_chainSide a_chainPlace := by
  have hK := H.1
  have h2 := tb_2 hK
  have hL := H.2.1
  intro d
  induction d with
  | zero =>
    intro i hi n hn pw ps a_chainWord a_chainEquation a_chainSide a_chainPlace h0 h1 h3 h4 h5
    obtain ⟨m, rfl⟩ : ∃ m, n = m + 1 := ⟨n - 1, by omega⟩
    have : i = D := by omega
    subst this
    refine br_t (nI_le (by omega) (by omega)) ?_
    rw [nI_clamp (by omega)]
    refine ⟨vp_in_nI D7 (by decide), nm_e (hc pw ps _ _ _ _ ⟨h0, h1⟩ (fun k hk => ?_) h5)⟩
    rcases Classical.em (k = i) with z | z
    · subst z; exact pk_us
    · rw [pk_un z]; exact h4 k (by omega)
  | succ d ih =>
    intro i hi n hn pw ps a_chainWord a_chainEquation a_chainSide a_chainPlace h0 h1 h3 h4 h5
    obtain ⟨m, rfl⟩ : ∃ m, n = m + 1 := ⟨n - 1, by omega⟩
    refine br_f (nI_ge (by omega) (by omega)) ?_
    rw [nI_clamp (by omega), pk_sub (show i ≤ D by omega), show (1 : Int32) = nI 1 from rfl, pk_sub (show 1 ≤ D - i by omega)]
    refine ⟨vp_in_nI (by omega) (by decide), nm_e ?_⟩
    have h3' : ch_d K L E t to (D - i - 1 + 1) (pw i) := by rw [show D - i - 1 + 1 = D - i by omega]; exact h3
    obtain ⟨u, hu, hl⟩ := ch_pr h3'
    refine xc_cs H hX (ch_len hto h3) (by omega) (hd (D - i - 1) (by omega)) ⟨u, hl, hu⟩ h5 ?_
    intro v mm a_chainEquation a_chainSide a_chainPlace k1 k2
    refine nm_r (nI_1 i) ?_
    have key := ih (i + 1) (by omega) m (by omega) (gu pw (i + 1) v) (gu ps i mm) (upd a_chainWord i (nI (pw i))) a_chainEquation a_chainSide a_chainPlace (by rw [gu_n (by omega)]; exact h0) (fun k hk => ?_) (by rw [gu_s, show D - (i + 1) = D - i - 1 by omega]; exact k1.1) (fun k hk => ?_) k2
    · rw [gu_s] at key; exact key
    · rcases Classical.em (k = i) with z | z
      · subst z; rw [gu_s, gu_s, gu_n (by omega)]; exact k1
      · rw [gu_n z, gu_n (by omega), gu_n (by omega)]; exact h1 k (by omega)
    · rcases Classical.em (k = i) with z | z
      · subst z; rw [pk_us, gu_n (by omega)]
      · rw [pk_un z, gu_n (by omega)]; exact h4 k (by omega)
theorem xc_st (H : eq_H K T L E t a_equationSide) (hX : tb_X K a_power a_first a_sizes) (hto : ww_n K to ≤ L) {x D : Nat} (x7 : x < 127) (D7 : D < 127) (hxd : ch_d K L E t to D x) (ex : a_distance x = nI D) (hd : ∀ j, j < D → ∀ v, v < 127 → (a_distance v = nI j ↔ ch_d K L E t to j v)) {post : SX → Prop}
    {a_chainWord a_chainEquation a_chainSide a_chainPlace : Nat → Int32}
    (hc : ∀ (pw ps : Nat → Nat) (a_chainWord a_chainEquation a_chainSide a_chainPlace : Nat → Int32), ch_C K L E t to D x pw ps → (∀ k, k < D + 1 → a_chainWord k = nI (pw k)) → cx_H ps D a_chainEquation a_chainSide a_chainPlace → post (f_letters, f_topLevel, f_capacity, nI L, f_equations, nI t, f_rules, f_confluence, f_agendaTop, f_queueSize, nI D, a_power, a_first, a_sizes, a_buffer, a_equationSide, a_ruleRight, a_next, a_fresh, a_ruleLeft, a_normalForm, a_agendaOne, a_agendaTwo, a_distance, a_queue, a_chainWord, a_chainEquation, a_chainSide, a_chainPlace)) :
    wpX_storeChain post (f_letters, f_topLevel, f_capacity, nI L, f_equations, nI t, f_rules, f_confluence, f_agendaTop, f_queueSize, f_chainLength, a_power, a_first, a_sizes, a_buffer, a_equationSide, a_ruleRight, a_next, a_fresh, a_ruleLeft, a_normalForm, a_agendaOne, a_agendaTwo, a_distance, a_queue, a_chainWord, a_chainEquation, a_chainSide, a_chainPlace) (nI x) := by
  unfold wpX_storeChain; dsimp only
  rw [nI_clamp (by omega), ex]
  exact ⟨vp_in_nI x7 (by decide), nm_e ⟨D + 1, xc_s12 H hX hto D7 hd hc D 0 (by omega) _ (by omega) (fun _ => x) (fun _ => 0) _ _ _ _ rfl (fun k hk => by omega) hxd (fun k hk => by omega) (fun k hk => by omega)⟩⟩
end
end
section
/-! The reference's steps, distances and chain. -/
/-- all steps with numbers below m0 are written down -/
def yf_J (K L : Nat) (E : Nat → Nat) (t m0 : Nat) (a_link : Nat → Int32) : Prop :=
  ∀ u v, u < ww_f K (L + 1) → v < ww_f K (L + 1) → (a_link (u * 127 + v) = 0 ∧ ∀ m, m < m0 → ¬ ch_s K L E t m u v) ∨ (∃ m, a_link (u * 127 + v) = nI (1 + m) ∧ ch_s K L E t m u v ∧ ∀ m', m' < m → ¬ ch_s K L E t m' u v)
def yf_I (K L : Nat) (E : Nat → Nat) (t e s a b : Nat) (a_link : Nat → Int32) : Prop :=
  ∀ u v, u < ww_f K (L + 1) → v < ww_f K (L + 1) → (a_link (u * 127 + v) = 0 ∧ (∀ m, m < 16 * e + 8 * s → ¬ ch_s K L E t m u v) ∧ (∀ a' b', (a' < a ∨ (a' = a ∧ b' < b)) → ¬ (u = ww_c K a' (ww_c K (E (2 * e + s)) b') ∧ v = ww_c K a' (ww_c K (E (2 * e + 1 - s)) b')))) ∨ (∃ m, a_link (u * 127 + v) = nI (1 + m) ∧ ch_s K L E t m u v ∧ ∀ m', m' < m → ¬ ch_s K L E t m' u v)
section
variable {K T L t : Nat} {E : Nat → Nat} {f_top f_capacity f_count f_chainN : Int32} {a_buffer a_equation a_least a_ruleLeft a_chainWord a_chainStep a_old a_dist a_last : Nat → Int32}
theorem yf_147 (H : eq_H K T L E t a_equation) {e s a : Nat} (he : e < t) (hs : s < 2) (ha : ww_n K a + ww_n K (E (2 * e + s)) ≤ L) {x4 x5 x6 x7 : Int32} {post : SY → Prop} {J33 J43 J98 : (Int32 → (Nat → Int32) → (Nat → Int32) → (Nat → Int32) → (Nat → Int32) → (Nat → Int32) → (Nat → Int32) → (Nat → Int32) → (Nat → Int32) → (Nat → Int32) → (Nat → Int32) → Prop)}
    (hc : ∀ a_link : Nat → Int32, yf_I K L E t e s (a + 1) 0 a_link → J98 (nI (a + 1)) a_buffer a_equation a_least a_ruleLeft a_chainWord a_chainStep a_old a_dist a_link a_last) :
    ∀ d b, b + d = ww_f K (L - ww_n K (E (2 * e + s)) - ww_n K a + 1) → ∀ n, d < n → ∀ a_link : Nat → Int32, yf_I K L E t e s a b a_link →
    wY_findSteps_147 post J33 J43 J98 (nI (ww_f K (L + 1))) (nI e) (nI s) x4 x5 x6 x7 (nI a) (nI (ww_n K a)) (nI (ww_f K (L - ww_n K (E (2 * e + s)) - ww_n K a + 1))) (nI (ww_c K a (E (2 * e + s)))) (nI (ww_c K a (E (2 * e + 1 - s)))) (nI K) f_top f_capacity (nI L) f_count (nI t) f_chainN n (nI b) a_buffer a_equation a_least a_ruleLeft a_chainWord a_chainStep a_old a_dist a_link a_last := by
  obtain ⟨hK, hL, ht, hE, hEL⟩ := H
  have h2 := tb_2 hK
  have hT := tb_T hK
  have cn : ww_f K (L + 1) ≤ 127 := Nat.le_trans (ww_fle h2 (by omega)) (tb_f7 hK).2.2
  have rn : ww_f K (L - ww_n K (E (2 * e + s)) - ww_n K a + 1) ≤ ww_f K (L + 1) := ww_fle h2 (by omega)
  have l2 := hEL (2 * e + 1 - s) (by omega)
  intro d
  induction d with
  | zero =>
    intro b hb n hn a_link hI
    obtain ⟨m, rfl⟩ : ∃ m, n = m + 1 := ⟨n - 1, by omega⟩
    refine br_t (nI_le (by omega) (by omega)) (nm_r (nI_1 a) (hc a_link (fun u v hu hv => ?_)))
    rcases hI u v hu hv with ⟨k1, k2, k3⟩ | k
    · refine Or.inl ⟨k1, k2, fun a' b' h h' => ?_⟩
      refine k3 a' b' ?_ h'
      rcases Nat.lt_or_ge a' a with z | z
      · exact Or.inl z
      · refine Or.inr ⟨by omega, ?_⟩
        have ea : a' = a := by omega
        have n1 := congrArg (ww_n K) h'.1
        rw [ww_cn h2, ww_cn h2, ea] at n1
        have n2 := (ww_nle h2).mpr hu
        have n3 := (ww_nle h2 (w := b') (n := L - ww_n K (E (2 * e + s)) - ww_n K a)).mp (by omega)
        omega
    · exact Or.inr k
  | succ d ih =>
    intro b hb n hn a_link hI
    obtain ⟨m, rfl⟩ : ∃ m, n = m + 1 := ⟨n - 1, by omega⟩
    have nb : ww_n K b ≤ L - ww_n K (E (2 * e + s)) - ww_n K a := (ww_nle h2).mpr (by omega)
    have eu : nI (ww_c K a (E (2 * e + s))) * nI (K ^ ww_n K b) + nI b = nI (ww_c K a (ww_c K (E (2 * e + s)) b)) := by
      rw [pk_mul, nI_add, ← ww_ca h2]; rfl
    have ev : nI (ww_c K a (E (2 * e + 1 - s))) * nI (K ^ ww_n K b) + nI b = nI (ww_c K a (ww_c K (E (2 * e + 1 - s)) b)) := by
      rw [pk_mul, nI_add, ← ww_ca h2]; rfl
    have lu : ww_n K (ww_c K a (ww_c K (E (2 * e + s)) b)) ≤ L := by rw [ww_cn h2, ww_cn h2]; omega
    have lv : ww_n K (ww_c K a (ww_c K (E (2 * e + 1 - s)) b)) ≤ 14 := by rw [ww_cn h2, ww_cn h2]; omega
    have hu := (ww_nle h2).mp lu
    have v31 := tb_w hK (tb_ln hK lv)
    have next : ∀ a_link : Nat → Int32, yf_I K L E t e s a (b + 1) a_link → ∀ x13 : Int32, x13 = nI b + 1 → wY_findSteps_147 post J33 J43 J98 (nI (ww_f K (L + 1))) (nI e) (nI s) x4 x5 x6 x7 (nI a) (nI (ww_n K a)) (nI (ww_f K (L - ww_n K (E (2 * e + s)) - ww_n K a + 1))) (nI (ww_c K a (E (2 * e + s)))) (nI (ww_c K a (E (2 * e + 1 - s)))) (nI K) f_top f_capacity (nI L) f_count (nI t) f_chainN m x13 a_buffer a_equation a_least a_ruleLeft a_chainWord a_chainStep a_old a_dist a_link a_last :=
      fun a_link k => nm_r (nI_1 b) (ih (b + 1) (by omega) m (by omega) a_link k)
    have uq : ∀ a' b', ww_c K a (ww_c K (E (2 * e + s)) b) = ww_c K a' (ww_c K (E (2 * e + s)) b') → a' = a → b' = b := by
      intro a' b' h e'
      subst e'
      exact (ww_cx' h2 (ww_cx' h2 h rfl).2 rfl).2.symm
    -- a pair that isn't the present one keeps its place
    have same : ∀ u v, (u = ww_c K a (ww_c K (E (2 * e + s)) b) → v ≠ ww_c K a (ww_c K (E (2 * e + 1 - s)) b)) → u < ww_f K (L + 1) → v < ww_f K (L + 1) → ∀ al : Nat → Int32, al (u * 127 + v) = a_link (u * 127 + v) → ((al (u * 127 + v) = 0 ∧ (∀ m, m < 16 * e + 8 * s → ¬ ch_s K L E t m u v) ∧ (∀ a' b', (a' < a ∨ (a' = a ∧ b' < b + 1)) → ¬ (u = ww_c K a' (ww_c K (E (2 * e + s)) b') ∧ v = ww_c K a' (ww_c K (E (2 * e + 1 - s)) b')))) ∨ (∃ m, al (u * 127 + v) = nI (1 + m) ∧ ch_s K L E t m u v ∧ ∀ m', m' < m → ¬ ch_s K L E t m' u v)) := by
      intro u v hne hu' hv' al hal
      rw [hal]
      rcases hI u v hu' hv' with ⟨k1, k2, k3⟩ | k
      · refine Or.inl ⟨k1, k2, fun a' b' h h' => ?_⟩
        rcases Classical.em (a' = a ∧ b' = b) with ⟨z1, z2⟩ | z
        · subst z1; subst z2
          exact hne h'.1 h'.2
        · exact k3 a' b' (by omega) h'
      · exact Or.inr k
    refine br_f (nI_ge (by omega) (by omega)) ?_
    refine yl_len hK (tb_big hK (by omega)) (yl_pow (by omega) (nm_r eu (nm_r ev ?_)))
    refine br_f (nI_ge hu (by omega)) (pk_le (ww_f K (L + 1)) (ww_c K a (ww_c K (E (2 * e + 1 - s)) b)) (fun k => ?_) (fun k => ?_))
    · exact next a_link (fun u v hu' hv' => same u v (fun _ h => by omega) hu' hv' a_link rfl)
    · have ei : nI (ww_c K a (ww_c K (E (2 * e + s)) b)) * 127 + nI (ww_c K a (ww_c K (E (2 * e + 1 - s)) b)) = nI (ww_c K a (ww_c K (E (2 * e + s)) b) * 127 + ww_c K a (ww_c K (E (2 * e + 1 - s)) b)) := by
        rw [show (127 : Int32) = nI 127 from rfl, pk_mul, nI_add]
      have hi : ww_c K a (ww_c K (E (2 * e + s)) b) * 127 + ww_c K a (ww_c K (E (2 * e + 1 - s)) b) < 16129 := by omega
      rw [ei, nI_clamp (by omega)]
      refine ⟨vp_in_nI hi (by decide), ?_⟩
      have lv' := (ww_nle h2).mpr k
      have q8 : ww_n K a < 8 := by omega
      have stp : ch_s K L E t (16 * e + 8 * s + ww_n K a) (ww_c K a (ww_c K (E (2 * e + s)) b)) (ww_c K a (ww_c K (E (2 * e + 1 - s)) b)) := (ch_mk he hs q8).mpr ⟨a, b, rfl, rfl, rfl, lu, lv'⟩
      rcases hI _ _ hu k with ⟨k1, k2, k3⟩ | ⟨mm, k1, k2, k3⟩
      · refine br_t k1 ⟨vp_in_nI hi (by decide), nm_r (e' := upd a_link (ww_c K a (ww_c K (E (2 * e + s)) b) * 127 + ww_c K a (ww_c K (E (2 * e + 1 - s)) b)) (nI (1 + (16 * e + 8 * s + ww_n K a)))) ?_ (next _ (fun u v hu' hv' => ?_))⟩
        · refine congrArg _ ?_
          rw [show (1 : Int32) = nI 1 from rfl, show (16 : Int32) = nI 16 from rfl, show (8 : Int32) = nI 8 from rfl, pk_mul, pk_mul, nI_add, nI_add, nI_add]
          exact congrArg nI (by omega)
        · rcases Classical.em (u = ww_c K a (ww_c K (E (2 * e + s)) b) ∧ v = ww_c K a (ww_c K (E (2 * e + 1 - s)) b)) with ⟨z1, z2⟩ | z
          · subst z1; subst z2
            refine Or.inr ⟨_, pk_us, stp, fun m' hm' ks => ?_⟩
            rcases Nat.lt_or_ge m' (16 * e + 8 * s) with y | y
            · exact k2 m' y ks
            · have dm := ch_dec m'
              have f1 : m' / 16 = e := by omega
              have f2 : m' / 8 % 2 = s := by omega
              rw [dm.1, f1, f2] at ks
              obtain ⟨a', b', r1, r2, r3, _⟩ := (ch_mk he hs dm.2.2).mp ks
              refine k3 a' b' (Or.inl ?_) ⟨r2, r3⟩
              rcases Nat.lt_or_ge a' a with y' | y'
              · exact y'
              · have := ww_nm h2 y'; omega
          · refine same u v (fun z1 z2 => z ⟨z1, z2⟩) hu' hv' _ (pk_un ?_)
            intro q
            exact z ⟨by omega, by omega⟩
      · have m7 : mm < 128 := by have := k2.1; omega
        refine br_f (by rw [k1]; exact nI_ne0 (by omega) (by omega)) (next a_link (fun u v hu' hv' => ?_))
        rcases Classical.em (u = ww_c K a (ww_c K (E (2 * e + s)) b) ∧ v = ww_c K a (ww_c K (E (2 * e + 1 - s)) b)) with ⟨z1, z2⟩ | z
        · subst z1; subst z2; exact Or.inr ⟨mm, k1, k2, k3⟩
        · exact same u v (fun z1 z2 => z ⟨z1, z2⟩) hu' hv' a_link rfl
theorem yf_98 (H : eq_H K T L E t a_equation) {e s : Nat} (he : e < t) (hs : s < 2) {post : SY → Prop} {J33 J43 : (Int32 → (Nat → Int32) → (Nat → Int32) → (Nat → Int32) → (Nat → Int32) → (Nat → Int32) → (Nat → Int32) → (Nat → Int32) → (Nat → Int32) → (Nat → Int32) → (Nat → Int32) → Prop)}
    (hc : ∀ a_link : Nat → Int32, yf_J K L E t (16 * e + 8 * s + 8) a_link → J43 (nI (s + 1)) a_buffer a_equation a_least a_ruleLeft a_chainWord a_chainStep a_old a_dist a_link a_last) :
    ∀ d a, a + d = ww_f K (L - ww_n K (E (2 * e + s)) + 1) → ∀ n, d < n → ∀ a_link : Nat → Int32, yf_I K L E t e s a 0 a_link →
    wY_findSteps_98 post J33 J43 (nI (ww_f K (L + 1))) (nI e) (nI s) (nI (E (2 * e + s))) (nI (E (2 * e + 1 - s))) (nI (L - ww_n K (E (2 * e + s)))) (nI (ww_f K (L - ww_n K (E (2 * e + s)) + 1))) (nI K) f_top f_capacity (nI L) f_count (nI t) f_chainN n (nI a) a_buffer a_equation a_least a_ruleLeft a_chainWord a_chainStep a_old a_dist a_link a_last := by
  have H' := H
  obtain ⟨hK, hL, ht, hE, hEL⟩ := H'
  have h2 := tb_2 hK
  have hT := tb_T hK
  have cn : ww_f K (L + 1) ≤ 127 := Nat.le_trans (ww_fle h2 (by omega)) (tb_f7 hK).2.2
  have l1 := hEL (2 * e + s) (by omega)
  have l2 := hEL (2 * e + 1 - s) (by omega)
  have rn : ww_f K (L - ww_n K (E (2 * e + s)) + 1) ≤ ww_f K (L + 1) := ww_fle h2 (by omega)
  have b1 : E (2 * e + s) < 127 := tb_127 hK (by omega)
  have b2 : E (2 * e + 1 - s) < 127 := tb_127 hK (by omega)
  intro d
  induction d with
  | zero =>
    intro a ha n hn a_link hI
    obtain ⟨m, rfl⟩ : ∃ m, n = m + 1 := ⟨n - 1, by omega⟩
    refine br_t (nI_le (by omega) (by omega)) (nm_r (nI_1 s) (hc a_link (fun u v hu hv => ?_)))
    rcases hI u v hu hv with ⟨k1, k2, k3⟩ | k
    · refine Or.inl ⟨k1, fun m' hm' ks => ?_⟩
      rcases Nat.lt_or_ge m' (16 * e + 8 * s) with y | y
      · exact k2 m' y ks
      · have dm := ch_dec m'
        have f1 : m' / 16 = e := by omega
        have f2 : m' / 8 % 2 = s := by omega
        rw [dm.1, f1, f2] at ks
        obtain ⟨a', b', r1, r2, r3, r4, _⟩ := (ch_mk he hs dm.2.2).mp ks
        refine k3 a' b' (Or.inl ?_) ⟨r2, r3⟩
        have n1 := congrArg (ww_n K) r2
        rw [ww_cn h2, ww_cn h2] at n1
        have := (ww_nle h2 (w := a') (n := L - ww_n K (E (2 * e + s)))).mp (by omega)
        omega
    · exact Or.inr k
  | succ d ih =>
    intro a ha n hn a_link hI
    obtain ⟨m, rfl⟩ : ∃ m, n = m + 1 := ⟨n - 1, by omega⟩
    have na : ww_n K a ≤ L - ww_n K (E (2 * e + s)) := (ww_nle h2).mpr (by omega)
    refine br_f (nI_ge (by omega) (by omega)) (yl_len hK (tb_big hK (by omega)) ?_)
    rw [pk_sub na]
    refine yl_siz (by omega) (yl_join hK (tb_big hK b1) (yl_join hK (tb_big hK b2) ⟨ww_f K (L - ww_n K (E (2 * e + s)) - ww_n K a + 1) + 1, ?_⟩))
    exact yf_147 H he hs (by omega) (fun a_link k => ih (a + 1) (by omega) m (by omega) a_link k) (ww_f K (L - ww_n K (E (2 * e + s)) - ww_n K a + 1)) 0 (by omega) _ (by omega) a_link hI
theorem yf_43 (H : eq_H K T L E t a_equation) {e : Nat} (he : e < t) {post : SY → Prop} {J33 : (Int32 → (Nat → Int32) → (Nat → Int32) → (Nat → Int32) → (Nat → Int32) → (Nat → Int32) → (Nat → Int32) → (Nat → Int32) → (Nat → Int32) → (Nat → Int32) → (Nat → Int32) → Prop)}
    (hc : ∀ a_link : Nat → Int32, yf_J K L E t (16 * (e + 1)) a_link → J33 (nI (e + 1)) a_buffer a_equation a_least a_ruleLeft a_chainWord a_chainStep a_old a_dist a_link a_last) :
    ∀ d s, s + d = 2 → ∀ n, d < n → ∀ a_link : Nat → Int32, yf_J K L E t (16 * e + 8 * s) a_link →
    wY_findSteps_43 post J33 (nI (ww_f K (L + 1))) (nI e) (nI K) f_top f_capacity (nI L) f_count (nI t) f_chainN n (nI s) a_buffer a_equation a_least a_ruleLeft a_chainWord a_chainStep a_old a_dist a_link a_last := by
  have H' := H
  obtain ⟨hK, hL, ht, hE, hEL⟩ := H'
  have h2 := tb_2 hK
  have hT := tb_T hK
  intro d
  induction d with
  | zero =>
    intro s hs n hn a_link hI
    obtain ⟨m, rfl⟩ : ∃ m, n = m + 1 := ⟨n - 1, by omega⟩
    refine br_t (nI_le (a := 2) (by omega) (by omega)) (nm_r (nI_1 e) (hc a_link ?_))
    rw [show 16 * (e + 1) = 16 * e + 8 * s by omega]; exact hI
  | succ d ih =>
    intro s hs n hn a_link hI
    obtain ⟨m, rfl⟩ : ∃ m, n = m + 1 := ⟨n - 1, by omega⟩
    have l1 := hEL (2 * e + s) (by omega)
    have b1 : E (2 * e + s) < 127 := tb_127 hK (by omega)
    refine br_f (nI_ge (b := 2) (by omega) (by decide)) ?_
    rw [eq_i0, eq_i1 (by omega), nI_clamp (by omega), nI_clamp (by omega), hE _ (by omega), hE _ (by omega)]
    refine ⟨vp_in_nI (by omega) (by decide), nm_e ⟨vp_in_nI (by omega) (by decide), nm_e (yl_len hK (tb_big hK b1) (nm_r (pk_sub l1) (yl_siz (by omega) ⟨ww_f K (L - ww_n K (E (2 * e + s)) + 1) + 1, ?_⟩)))⟩⟩
    refine yf_98 H he (by omega) (fun a_link k => ih (s + 1) (by omega) m (by omega) a_link (by rw [show 16 * e + 8 * (s + 1) = 16 * e + 8 * s + 8 by omega]; exact k)) (ww_f K (L - ww_n K (E (2 * e + s)) + 1)) 0 (by omega) _ (by omega) a_link (fun u v hu hv => ?_)
    rcases hI u v hu hv with ⟨k1, k2⟩ | k
    · exact Or.inl ⟨k1, k2, fun a' b' h => by omega⟩
    · exact Or.inr k
theorem yf_33 (H : eq_H K T L E t a_equation) {post : SY → Prop} (hc : ∀ a_link : Nat → Int32, yf_J K L E t (16 * t) a_link → post (nI K, f_top, f_capacity, nI L, f_count, nI t, f_chainN, a_buffer, a_equation, a_least, a_ruleLeft, a_chainWord, a_chainStep, a_old, a_dist, a_link, a_last)) :
    ∀ d e, e + d = t → ∀ n, d < n → ∀ a_link : Nat → Int32, yf_J K L E t (16 * e) a_link →
    wY_findSteps_33 post (nI (ww_f K (L + 1))) (nI K) f_top f_capacity (nI L) f_count (nI t) f_chainN n (nI e) a_buffer a_equation a_least a_ruleLeft a_chainWord a_chainStep a_old a_dist a_link a_last := by
  have ht := H.2.2.1
  intro d
  induction d with
  | zero =>
    intro e hs n hn a_link hI
    obtain ⟨m, rfl⟩ : ∃ m, n = m + 1 := ⟨n - 1, by omega⟩
    have : e = t := by omega
    subst this
    exact br_t (nI_le (by omega) (by omega)) (hc a_link hI)
  | succ d ih =>
    intro e hs n hn a_link hI
    obtain ⟨m, rfl⟩ : ∃ m, n = m + 1 := ⟨n - 1, by omega⟩
    exact br_f (nI_ge (by omega) (by omega)) ⟨3, yf_43 H (by omega) (fun a_link k => ih (e + 1) (by omega) m (by omega) a_link k) 2 0 rfl 3 (by decide) a_link hI⟩
theorem yf_11 (H : eq_H K T L E t a_equation) {post : SY → Prop} (hc : ∀ a_link : Nat → Int32, yf_J K L E t (16 * t) a_link → post (nI K, f_top, f_capacity, nI L, f_count, nI t, f_chainN, a_buffer, a_equation, a_least, a_ruleLeft, a_chainWord, a_chainStep, a_old, a_dist, a_link, a_last)) :
    ∀ d j, j + d = 16129 → ∀ n, d < n → ∀ a_link : Nat → Int32, (∀ k, k < j → a_link k = 0) →
    wY_findSteps_11 post (nI (ww_f K (L + 1))) (nI K) f_top f_capacity (nI L) f_count (nI t) f_chainN n (nI j) a_buffer a_equation a_least a_ruleLeft a_chainWord a_chainStep a_old a_dist a_link a_last := by
  have cn : ww_f K (L + 1) ≤ 127 := Nat.le_trans (ww_fle (tb_2 H.1) (by have := H.2.1; omega)) (tb_f7 H.1).2.2
  intro d
  induction d with
  | zero =>
    intro j hj n hn a_link h
    obtain ⟨m, rfl⟩ : ∃ m, n = m + 1 := ⟨n - 1, by omega⟩
    refine br_t (nI_le (a := 16129) (by omega) (by omega)) ⟨t + 1, yf_33 H hc t 0 (by omega) _ (by omega) a_link (fun u v hu hv => Or.inl ⟨h _ (by omega), fun m hm => by omega⟩)⟩
  | succ d ih =>
    intro j hj n hn a_link h
    obtain ⟨m, rfl⟩ : ∃ m, n = m + 1 := ⟨n - 1, by omega⟩
    have cl : (nI j).toNatClampNeg = j := nI_clamp (by omega)
    refine br_f (nI_ge (b := 16129) (by omega) (by decide)) ?_
    rw [cl]
    refine ⟨vp_in_nI (by omega) (by decide), nm_e (nm_r (nI_1 j) (ih (j + 1) (by omega) m (by omega) _ (fun w hw => ?_)))⟩
    rcases Classical.em (w = j) with q | q
    · subst q; exact pk_us
    · rw [pk_un q]; exact h w (by omega)
theorem yf_all (H : eq_H K T L E t a_equation) {a_link : Nat → Int32} {post : SY → Prop} (hc : ∀ a_link : Nat → Int32, yf_J K L E t (16 * t) a_link → post (nI K, f_top, f_capacity, nI L, f_count, nI t, f_chainN, a_buffer, a_equation, a_least, a_ruleLeft, a_chainWord, a_chainStep, a_old, a_dist, a_link, a_last)) :
    wpY_findSteps post (nI K, f_top, f_capacity, nI L, f_count, nI t, f_chainN, a_buffer, a_equation, a_least, a_ruleLeft, a_chainWord, a_chainStep, a_old, a_dist, a_link, a_last) := by
  have hT := tb_T H.1
  have hL := H.2.1
  unfold wpY_findSteps
  exact yl_siz (by omega) ⟨16130, yf_11 H hc 16129 0 rfl 16130 (by decide) a_link (fun k h => by omega)⟩
end
end
section
/-! The reference's distances and its chain. -/
def yd_0 (K L : Nat) (E : Nat → Nat) (t to d : Nat) (dd : Nat → Option Nat) : Prop :=
  (∀ w j, dd w = some j → ch_d K L E t to j w ∧ j ≤ d) ∧ (∀ j, j ≤ d → ∀ w, ch_d K L E t to j w → dd w = some j)
def yd_1 (K L : Nat) (E : Nat → Nat) (t to d u : Nat) (dd : Nat → Option Nat) : Prop :=
  (∀ w j, dd w = some j → ch_d K L E t to j w ∧ j ≤ d + 1) ∧ (∀ j, j ≤ d → ∀ w, ch_d K L E t to j w → dd w = some j) ∧ (∀ u', u' < u → ch_d K L E t to d u' → ∀ w, ch_l K L E t w u' → dd w ≠ none)
section
variable {K T L t to : Nat} {E : Nat → Nat} {f_top f_capacity f_count f_chainN : Int32} {a_buffer a_equation a_least a_ruleLeft a_chainWord a_chainStep a_old a_link a_last : Nat → Int32}
theorem yd_102 (H : eq_H K T L E t a_equation) (hto : ww_n K to ≤ L) (hlk : yf_J K L E t (16 * t) a_link) {x1 : Int32} {d u : Nat} (hd : d < 2 ^ 30) (hu : u < ww_f K (L + 1)) {post : Int32 → SY → Prop} {J84 J93 : (Int32 → (Nat → Int32) → (Nat → Int32) → (Nat → Int32) → (Nat → Int32) → (Nat → Int32) → (Nat → Int32) → (Nat → Int32) → (Nat → Int32) → (Nat → Int32) → (Nat → Int32) → Prop)}
    (hc : ∀ (dd : Nat → Option Nat) (a_dist : Nat → Int32), (∀ w, w < 127 → a_dist w = ge_o (dd w)) → yd_1 K L E t to d (u + 1) dd → J93 (nI (u + 1)) a_buffer a_equation a_least a_ruleLeft a_chainWord a_chainStep a_old a_dist a_link a_last) :
    ∀ r v, v + r = ww_f K (L + 1) → ∀ n, r < n → ∀ (dd : Nat → Option Nat) (a_dist : Nat → Int32), (∀ w, w < 127 → a_dist w = ge_o (dd w)) → yd_1 K L E t to d u dd → (ch_d K L E t to d u → ∀ v', v' < v → ch_l K L E t v' u → dd v' ≠ none) →
    wY_chain_102 post J84 J93 x1 (nI (ww_f K (L + 1))) (nI d) (nI u) (nI K) f_top f_capacity (nI L) f_count (nI t) f_chainN n (nI v) a_buffer a_equation a_least a_ruleLeft a_chainWord a_chainStep a_old a_dist a_link a_last := by
  obtain ⟨hK, hL, ht, hE, hEL⟩ := H
  have h2 := tb_2 hK
  have cn : ww_f K (L + 1) ≤ 127 := Nat.le_trans (ww_fle h2 (by omega)) (tb_f7 hK).2.2
  intro r
  induction r with
  | zero =>
    intro v hv n hn dd a_dist hg hI hp
    obtain ⟨m, rfl⟩ : ∃ m, n = m + 1 := ⟨n - 1, by omega⟩
    refine br_t (nI_le (by omega) (by omega)) (nm_r (nI_1 u) (hc dd a_dist hg ⟨hI.1, hI.2.1, fun u' hu' hd' w hl => ?_⟩))
    rcases Nat.lt_or_ge u' u with z | z
    · exact hI.2.2 u' z hd' w hl
    · have : u' = u := by omega
      subst this
      exact hp hd' w (by have := (ww_nle h2).mp (ch_ll hl).1; omega) hl
  | succ r ih =>
    intro v hv n hn dd a_dist hg hI hp
    obtain ⟨m, rfl⟩ : ∃ m, n = m + 1 := ⟨n - 1, by omega⟩
    have eu : a_dist (nI u).toNatClampNeg = ge_o (dd u) := by rw [nI_clamp (by omega)]; exact hg u (by omega)
    have ev : a_dist (nI v).toNatClampNeg = ge_o (dd v) := by rw [nI_clamp (by omega)]; exact hg v (by omega)
    refine br_f (nI_ge (by omega) (by omega)) ⟨vp_in_nI (by omega) (by decide), ?_⟩
    rw [eu]
    have no : ¬ ch_d K L E t to d u → ∀ x5 : Int32, x5 = nI u + 1 → J93 x5 a_buffer a_equation a_least a_ruleLeft a_chainWord a_chainStep a_old a_dist a_link a_last := by
      intro hno
      refine nm_r (nI_1 u) (hc dd a_dist hg ⟨hI.1, hI.2.1, fun u' hu' hd' w hl => ?_⟩)
      rcases Nat.lt_or_ge u' u with z | z
      · exact hI.2.2 u' z hd' w hl
      · have : u' = u := by omega
        subst this
        exact absurd hd' hno
    rcases Option.eq_none_or_eq_some (dd u) with z | ⟨du, z⟩
    · rw [z]
      refine br_f (fun q => ?_) (no (fun q => ?_))
      · have q : (-1 : Int32) = nI d := q
        have := congrArg Int32.toInt q
        rw [nI_toInt (by omega)] at this
        have e1 : (-1 : Int32).toInt = -1 := by decide
        omega
      · rw [hI.2.1 d (Nat.le_refl _) u q] at z; cases z
    · have k := hI.1 u du z
      rw [z]
      refine pk_eq du d (fun e => ?_) (fun ne => no (fun q => ?_))
      · subst e
        refine ⟨vp_in_nI (by omega) (by decide), ?_⟩
        rw [ev]
        have go : ∀ (dd1 : Nat → Option Nat) (a_dist : Nat → Int32), (∀ w, w < 127 → a_dist w = ge_o (dd1 w)) → yd_1 K L E t to du u dd1 → (∀ w, dd w ≠ none → dd1 w ≠ none) → (ch_l K L E t v u → dd1 v ≠ none) → ∀ x6 : Int32, x6 = nI v + 1 → wY_chain_102 post J84 J93 x1 (nI (ww_f K (L + 1))) (nI du) (nI u) (nI K) f_top f_capacity (nI L) f_count (nI t) f_chainN m x6 a_buffer a_equation a_least a_ruleLeft a_chainWord a_chainStep a_old a_dist a_link a_last := by
          intro dd1 a_dist g1 g2 g3 g4
          refine nm_r (nI_1 v) (ih (v + 1) (by omega) m (by omega) dd1 a_dist g1 g2 (fun hd' v' hv' hl => ?_))
          rcases Nat.lt_or_ge v' v with y | y
          · exact g3 v' (hp hd' v' y hl)
          · have : v' = v := by omega
            subst this
            exact g4 hl
        rcases Option.eq_none_or_eq_some (dd v) with y | ⟨dv, y⟩
        · rw [y]
          have ei : nI v * 127 + nI u = nI (v * 127 + u) := by rw [show (127 : Int32) = nI 127 from rfl, pk_mul, nI_add]
          refine br_f (by decide) ?_
          rw [ei, nI_clamp (show v * 127 + u < 2 ^ 31 by omega)]
          refine ⟨vp_in_nI (by omega) (by decide), ?_⟩
          rcases hlk v u (by omega) hu with ⟨k1, k2⟩ | ⟨mm, k1, k2, k3⟩
          · refine br_t k1 (go dd a_dist hg hI (fun _ h => h) (fun ⟨m', hm'⟩ => absurd hm' (k2 m' ?_)))
            have := hm'.1; omega
          · have m7 : mm < 128 := by have := k2.1; omega
            refine br_f (by rw [k1]; exact nI_ne0 (by omega) (by omega)) ⟨vp_in_nI (by omega) (by decide), ?_⟩
            rw [nI_1, nI_clamp (show v < 2 ^ 31 by omega)]
            have ex : ch_d K L E t to (du + 1) v := by
              obtain ⟨d', l', hd'⟩ := ch_nx k.1 ⟨mm, k2⟩
              rcases Nat.lt_or_ge d' (du + 1) with q | q
              · rw [hI.2.1 d' (by omega) v hd'] at y; cases y
              · have : d' = du + 1 := by omega
                rw [← this]; exact hd'
            have old : ∀ w, dd w ≠ none → gu dd v (some (du + 1)) w = dd w := fun w hw => gu_n (fun q => by subst q; exact hw y)
            refine nm_e (go (gu dd v (some (du + 1))) _ (ge_up (e := ge_o) (y := some (du + 1)) hg rfl) ⟨fun w j e => ?_, fun j hj w hd' => ?_, fun u' hu' hd' w hl => ?_⟩ (fun w hw => ?_) (fun _ => by rw [gu_s]; exact fun q => by cases q))
            · rcases Classical.em (w = v) with q | q
              · subst q; rw [gu_s] at e
                have e := Option.some.inj e
                rw [← e]; exact ⟨ex, Nat.le_refl _⟩
              · rw [gu_n q] at e; exact hI.1 w j e
            · have := hI.2.1 j hj w hd'
              rw [old w (by rw [this]; exact fun q => by cases q)]; exact this
            · have := hI.2.2 u' hu' hd' w hl
              rw [old w this]; exact this
            · rw [old w hw]; exact hw
        · have kv := hI.1 v dv y
          rw [y]
          exact br_t (nI_pos' (by omega)) (go dd a_dist hg hI (fun _ h => h) (fun _ => by rw [y]; exact fun q => by cases q))
      · exact ne (ch_du k.1 q)
theorem yd_93 (H : eq_H K T L E t a_equation) (hto : ww_n K to ≤ L) (hlk : yf_J K L E t (16 * t) a_link) {x1 : Int32} {d : Nat} (hd : d < 2 ^ 30) {post : Int32 → SY → Prop} {J84 : (Int32 → (Nat → Int32) → (Nat → Int32) → (Nat → Int32) → (Nat → Int32) → (Nat → Int32) → (Nat → Int32) → (Nat → Int32) → (Nat → Int32) → (Nat → Int32) → (Nat → Int32) → Prop)}
    (hc : ∀ (dd : Nat → Option Nat) (a_dist : Nat → Int32), (∀ w, w < 127 → a_dist w = ge_o (dd w)) → yd_0 K L E t to (d + 1) dd → J84 (nI (d + 1)) a_buffer a_equation a_least a_ruleLeft a_chainWord a_chainStep a_old a_dist a_link a_last) :
    ∀ r u, u + r = ww_f K (L + 1) → ∀ n, r < n → ∀ (dd : Nat → Option Nat) (a_dist : Nat → Int32), (∀ w, w < 127 → a_dist w = ge_o (dd w)) → yd_1 K L E t to d u dd →
    wY_chain_93 post J84 x1 (nI (ww_f K (L + 1))) (nI d) (nI K) f_top f_capacity (nI L) f_count (nI t) f_chainN n (nI u) a_buffer a_equation a_least a_ruleLeft a_chainWord a_chainStep a_old a_dist a_link a_last := by
  have h2 := tb_2 H.1
  have hL := H.2.1
  have cn : ww_f K (L + 1) ≤ 127 := Nat.le_trans (ww_fle h2 (by omega)) (tb_f7 H.1).2.2
  intro r
  induction r with
  | zero =>
    intro u hu n hn dd a_dist hg hI
    obtain ⟨m, rfl⟩ : ∃ m, n = m + 1 := ⟨n - 1, by omega⟩
    refine br_t (nI_le (by omega) (by omega)) (nm_r (nI_1 d) (hc dd a_dist hg ⟨hI.1, fun j hj w hw => ?_⟩))
    rcases Nat.lt_or_ge d j with z | z
    · have ej : j = d + 1 := by omega
      subst ej
      obtain ⟨u', hu', hl⟩ := ch_pr hw
      have lt := (ww_nle h2).mp (ch_ll hl).2
      have ne := hI.2.2 u' (by omega) hu' w hl
      obtain ⟨j', e'⟩ := Option.ne_none_iff_exists'.mp ne
      have := ch_du (hI.1 w j' e').1 hw
      rw [← this]; exact e'
    · exact hI.2.1 j z w hw
  | succ r ih =>
    intro u hu n hn dd a_dist hg hI
    obtain ⟨m, rfl⟩ : ∃ m, n = m + 1 := ⟨n - 1, by omega⟩
    exact br_f (nI_ge (by omega) (by omega)) ⟨ww_f K (L + 1) + 1, yd_102 H hto hlk hd (by omega) (fun dd a_dist g1 g2 => ih (u + 1) (by omega) m (by omega) dd a_dist g1 g2) (ww_f K (L + 1)) 0 (by omega) _ (by omega) dd a_dist hg hI (fun _ v' h => by omega)⟩
/-- the least next word, from the greatest down -/
theorem yd_228 (H : eq_H K T L E t a_equation) (hto : ww_n K to ≤ L) (hlk : yf_J K L E t (16 * t) a_link) {dd : Nat → Option Nat} {a_dist : Nat → Int32} (hg : ∀ w, w < 127 → a_dist w = ge_o (dd w)) (hdd : ∀ w j, dd w = some j ↔ ch_d K L E t to j w)
    {D i w : Nat} (hD : D < 127) (hi : i < D) (hw : ch_d K L E t to (D - i) w) {post : Int32 → SY → Prop} {J210 : (Int32 → Int32 → (Nat → Int32) → (Nat → Int32) → (Nat → Int32) → (Nat → Int32) → (Nat → Int32) → (Nat → Int32) → (Nat → Int32) → (Nat → Int32) → (Nat → Int32) → (Nat → Int32) → Prop)}
    (hc : ∀ v m, ch_n K L E t to (D - i - 1) w v m → J210 (nI v) (nI (i + 1)) a_buffer a_equation a_least a_ruleLeft (upd a_chainWord (i + 1) (nI v)) (upd a_chainStep i (nI m)) a_old a_dist a_link a_last) :
    ∀ p, p ≤ ww_f K (L + 1) → ∀ n, p < n → ∀ nx, ((nx = w ∧ ∀ v', p ≤ v' → ch_l K L E t w v' → ¬ ch_d K L E t to (D - i - 1) v') ∨ (ch_l K L E t w nx ∧ ch_d K L E t to (D - i - 1) nx ∧ ∀ v', p ≤ v' → ch_l K L E t w v' → ch_d K L E t to (D - i - 1) v' → nx ≤ v')) →
    ∀ x7 : Int32, x7 + 1 = nI p → wY_chain_228 post J210 (nI (ww_f K (L + 1))) (nI w) (nI i) (nI K) f_top f_capacity (nI L) f_count (nI t) (nI D) a_buffer a_equation a_least a_ruleLeft a_chainWord a_chainStep a_old a_dist a_link a_last n (nI nx) x7 := by
  have h2 := tb_2 H.1
  have hL := H.2.1
  have hT := H.2.2.1
  have cn : ww_f K (L + 1) ≤ 127 := Nat.le_trans (ww_fle h2 (by omega)) (tb_f7 H.1).2.2
  have hwn := (ww_nle h2).mp (ch_len hto hw)
  have eD : nI D - nI i - 1 = nI (D - i - 1) := by
    rw [pk_sub (by omega), show (1 : Int32) = nI 1 from rfl, pk_sub (by omega)]
  intro p
  induction p with
  | zero =>
    intro _ n hn nx hnx x7 hx7
    obtain ⟨m, rfl⟩ : ∃ m, n = m + 1 := ⟨n - 1, by omega⟩
    have ex : x7 = -1 := by
      have e2 : x7 = (x7 + 1) + (-1) := by rw [Int32.add_assoc]; rw [show (1 : Int32) + -1 = 0 by decide, Int32.add_zero]
      rw [e2, hx7]; decide
    subst ex
    have h3' : ch_d K L E t to (D - i - 1 + 1) w := by rw [show D - i - 1 + 1 = D - i by omega]; exact hw
    obtain ⟨u, hu, hl⟩ := ch_pr h3'
    rcases hnx with ⟨_, q2⟩ | ⟨q1, q2, q3⟩
    · exact absurd hu (q2 u (Nat.zero_le _) hl)
    · have hnn := (ww_nle h2).mp (ch_ll q1).2
      have ei : nI w * 127 + nI nx = nI (w * 127 + nx) := by rw [show (127 : Int32) = nI 127 from rfl, pk_mul, nI_add]
      refine br_t (by decide) ?_
      rw [ei, nI_1 i, nI_clamp (show w * 127 + nx < 2 ^ 31 by omega), nI_clamp (show i < 2 ^ 31 by omega), nI_clamp (show i + 1 < 2 ^ 31 by omega)]
      rcases hlk w nx hwn hnn with ⟨_, k2⟩ | ⟨mm, k1, k2, k3⟩
      · obtain ⟨m', hm'⟩ := q1
        exact absurd hm' (k2 m' (by have := hm'.1; omega))
      · have e2 : nI (1 + mm) - 1 = nI mm := by rw [Nat.add_comm]; exact nI_pred mm
        rw [k1, e2]
        exact ⟨vp_in_nI (by omega) (by decide), vp_in_nI (by omega) (by decide), nm_e ⟨vp_in_nI (by omega) (by decide), nm_e (nm_e (hc nx mm ⟨q2, k2, fun v' hl' hd' => q3 v' (Nat.zero_le _) hl' hd', k3⟩))⟩⟩
  | succ p ih =>
    intro hp n hn nx hnx x7 hx7
    obtain ⟨m, rfl⟩ : ∃ m, n = m + 1 := ⟨n - 1, by omega⟩
    have ex : x7 = nI p := by
      have e2 : x7 = (x7 + 1) + (-1) := by rw [Int32.add_assoc]; rw [show (1 : Int32) + -1 = 0 by decide, Int32.add_zero]
      rw [e2, hx7]; exact pk_m1 p
    subst ex
    have ei : nI w * 127 + nI p = nI (w * 127 + p) := by rw [show (127 : Int32) = nI 127 from rfl, pk_mul, nI_add]
    have er : nI p + (-1) + 1 = nI p := by rw [Int32.add_assoc]; rw [show (-1 : Int32) + 1 = 0 by decide, Int32.add_zero]
    refine br_f (nI_pos (by omega)) ?_
    rw [ei, nI_clamp (show w * 127 + p < 2 ^ 31 by omega), nI_clamp (show p < 2 ^ 31 by omega), eD]
    refine ⟨vp_in_nI (by omega) (by decide), ?_⟩
    have skip : ¬ (ch_l K L E t w p ∧ ch_d K L E t to (D - i - 1) p) → wY_chain_228 post J210 (nI (ww_f K (L + 1))) (nI w) (nI i) (nI K) f_top f_capacity (nI L) f_count (nI t) (nI D) a_buffer a_equation a_least a_ruleLeft a_chainWord a_chainStep a_old a_dist a_link a_last m (nI nx) (nI p + (-1)) := by
      intro hno
      refine ih (by omega) m (by omega) nx ?_ _ er
      rcases hnx with ⟨q1, q2⟩ | ⟨q1, q2, q3⟩
      · refine Or.inl ⟨q1, fun v' hv' hl hd' => ?_⟩
        rcases Nat.lt_or_ge p v' with z | z
        · exact q2 v' z hl hd'
        · have : v' = p := by omega
          subst this
          exact hno ⟨hl, hd'⟩
      · refine Or.inr ⟨q1, q2, fun v' hv' hl hd' => ?_⟩
        rcases Nat.lt_or_ge p v' with z | z
        · exact q3 v' z hl hd'
        · have : v' = p := by omega
          subst this
          exact absurd ⟨hl, hd'⟩ hno
    rcases hlk w p hwn (by omega) with ⟨k1, k2⟩ | ⟨mm, k1, k2, k3⟩
    · exact br_t k1 (nm_e (skip (fun ⟨⟨m', hm'⟩, _⟩ => k2 m' (by have := hm'.1; omega) hm')))
    · have m7 : mm < 128 := by have := k2.1; omega
      refine br_f (by rw [k1]; exact nI_ne0 (by omega) (by omega)) ⟨vp_in_nI (by omega) (by decide), ?_⟩
      rw [hg p (by omega)]
      rcases Classical.em (ch_d K L E t to (D - i - 1) p) with z | z
      · refine br_t (by rw [(hdd p _).mpr z]; rfl) (nm_e (ih (by omega) m (by omega) p (Or.inr ⟨⟨mm, k2⟩, z, fun v' hv' _ _ => hv'⟩) _ er))
      · refine br_f (fun q => z ?_) (nm_e (skip (fun h => z h.2)))
        rcases Option.eq_none_or_eq_some (dd p) with y | ⟨dp, y⟩
        · rw [y] at q
          have q : (-1 : Int32) = nI (D - i - 1) := q
          have := congrArg Int32.toInt q
          rw [nI_toInt (by omega)] at this
          have e1 : (-1 : Int32).toInt = -1 := by decide
          omega
        · rw [y] at q
          have q : nI dp = nI (D - i - 1) := q
          have bd := ch_b h2 hto ((hdd p dp).mp y)
          rw [nI_eq (by omega) (by omega)] at q
          rw [← q]; exact (hdd p dp).mp y
end
section
variable {K T L t to : Nat} {E : Nat → Nat} {f_top f_capacity f_count f_chainN : Int32} {a_buffer a_equation a_least a_ruleLeft a_old a_dist a_link a_last : Nat → Int32}
theorem yd_210 (H : eq_H K T L E t a_equation) (hto : ww_n K to ≤ L) (hlk : yf_J K L E t (16 * t) a_link) {dd : Nat → Option Nat} (hg : ∀ w, w < 127 → a_dist w = ge_o (dd w)) (hdd : ∀ w j, dd w = some j ↔ ch_d K L E t to j w)
    {D x : Nat} (hD : D < 127) {post : Int32 → SY → Prop}
    (hc : ∀ (pw ps : Nat → Nat) (a_chainWord a_chainStep : Nat → Int32), ch_C K L E t to D x pw ps → (∀ k, k < D + 1 → a_chainWord k = nI (pw k)) → (∀ k, k < D → a_chainStep k = nI (ps k)) → post (nI D) (nI K, f_top, f_capacity, nI L, f_count, nI t, nI D, a_buffer, a_equation, a_least, a_ruleLeft, a_chainWord, a_chainStep, a_old, a_dist, a_link, a_last)) :
    ∀ d i, i + d = D → ∀ n, d < n → ∀ (pw ps : Nat → Nat) (a_chainWord a_chainStep : Nat → Int32), pw 0 = x → (∀ k, k < i → ch_n K L E t to (D - k - 1) (pw k) (pw (k + 1)) (ps k)) → ch_d K L E t to (D - i) (pw i) → (∀ k, k < i + 1 → a_chainWord k = nI (pw k)) → (∀ k, k < i → a_chainStep k = nI (ps k)) →
    wY_chain_210 post (nI (ww_f K (L + 1))) (nI K) f_top f_capacity (nI L) f_count (nI t) (nI D) n (nI (pw i)) (nI i) a_buffer a_equation a_least a_ruleLeft a_chainWord a_chainStep a_old a_dist a_link a_last := by
  have h2 := tb_2 H.1
  have hL := H.2.1
  have f0 := ww_fs h2 L
  have cn : ww_f K (L + 1) ≤ 127 := Nat.le_trans (ww_fle h2 (by omega)) (tb_f7 H.1).2.2
  intro d
  induction d with
  | zero =>
    intro i hi n hn pw ps a_chainWord a_chainStep h0 h1 h3 h4 h5
    obtain ⟨m, rfl⟩ : ∃ m, n = m + 1 := ⟨n - 1, by omega⟩
    have : i = D := by omega
    subst this
    exact br_t (nI_le (by omega) (by omega)) (hc pw ps _ _ ⟨h0, h1⟩ h4 h5)
  | succ d ih =>
    intro i hi n hn pw ps a_chainWord a_chainStep h0 h1 h3 h4 h5
    obtain ⟨m, rfl⟩ : ∃ m, n = m + 1 := ⟨n - 1, by omega⟩
    refine br_f (nI_ge (by omega) (by omega)) (nm_e ⟨ww_f K (L + 1) + 1, ?_⟩)
    refine yd_228 H hto hlk hg hdd hD (by omega) h3 ?_ (ww_f K (L + 1)) (Nat.le_refl _) _ (by omega) (pw i) (Or.inl ⟨rfl, fun v' hv' hl => ?_⟩) _ ?_
    · intro v mm k1
      have key := ih (i + 1) (by omega) m (by omega) (gu pw (i + 1) v) (gu ps i mm) (upd a_chainWord (i + 1) (nI v)) (upd a_chainStep i (nI mm)) (by rw [gu_n (by omega)]; exact h0) (fun k hk => ?_) (by rw [gu_s, show D - (i + 1) = D - i - 1 by omega]; exact k1.1) (fun k hk => ?_) (fun k hk => ?_)
      · rw [gu_s] at key; exact key
      · rcases Classical.em (k = i) with z | z
        · subst z; rw [gu_s, gu_s, gu_n (by omega)]; exact k1
        · rw [gu_n z, gu_n (by omega), gu_n (by omega)]; exact h1 k (by omega)
      · rcases Classical.em (k = i + 1) with z | z
        · subst z; rw [pk_us, gu_s]
        · rw [pk_un z, gu_n z]; exact h4 k (by omega)
      · rcases Classical.em (k = i) with z | z
        · subst z; rw [pk_us, gu_s]
        · rw [pk_un z, gu_n z]; exact h5 k (by omega)
    · have := (ww_nle h2).mp (ch_ll hl).2
      omega
    · rw [Int32.sub_add_cancel]
theorem yd_84 (H : eq_H K T L E t a_equation) (hto : ww_n K to ≤ L) (hlk : yf_J K L E t (16 * t) a_link) {x : Nat} (hx : x < 127) {f_chainN : Int32} {a_chainWord a_chainStep : Nat → Int32} {post : Int32 → SY → Prop}
    (h6 : (∀ j, ¬ ch_d K L E t to j x) → ∀ a_dist : Nat → Int32, post (-6) (nI K, f_top, f_capacity, nI L, f_count, nI t, f_chainN, a_buffer, a_equation, a_least, a_ruleLeft, a_chainWord, a_chainStep, a_old, a_dist, a_link, a_last))
    (hc : ∀ (D : Nat) (pw ps : Nat → Nat) (a_chainWord a_chainStep a_dist : Nat → Int32), D < 127 → ch_d K L E t to D x → ch_C K L E t to D x pw ps → (∀ k, k < D + 1 → a_chainWord k = nI (pw k)) → (∀ k, k < D → a_chainStep k = nI (ps k)) → post (nI D) (nI K, f_top, f_capacity, nI L, f_count, nI t, nI D, a_buffer, a_equation, a_least, a_ruleLeft, a_chainWord, a_chainStep, a_old, a_dist, a_link, a_last)) :
    ∀ r d, d + r = ww_f K (L + 1) → ∀ n, r < n → ∀ (dd : Nat → Option Nat) (a_dist : Nat → Int32), (∀ w, w < 127 → a_dist w = ge_o (dd w)) → yd_0 K L E t to d dd →
    wY_chain_84 post (nI x) (nI (ww_f K (L + 1))) (nI K) f_top f_capacity (nI L) f_count (nI t) f_chainN n (nI d) a_buffer a_equation a_least a_ruleLeft a_chainWord a_chainStep a_old a_dist a_link a_last := by
  have h2 := tb_2 H.1
  have hL := H.2.1
  have cn : ww_f K (L + 1) ≤ 127 := Nat.le_trans (ww_fle h2 (by omega)) (tb_f7 H.1).2.2
  intro r
  induction r with
  | zero =>
    intro d hd n hn dd a_dist hg hI
    obtain ⟨m, rfl⟩ : ∃ m, n = m + 1 := ⟨n - 1, by omega⟩
    have hdd : ∀ w j, dd w = some j ↔ ch_d K L E t to j w := fun w j => ⟨fun e => (hI.1 w j e).1, fun h => hI.2 j (by have := ch_b h2 hto h; omega) w h⟩
    have ex : a_dist (nI x).toNatClampNeg = ge_o (dd x) := by rw [nI_clamp (by omega)]; exact hg x hx
    refine br_t (nI_le (by omega) (by omega)) ⟨vp_in_nI hx (by decide), ?_⟩
    rw [ex]
    rcases Option.eq_none_or_eq_some (dd x) with z | ⟨D, z⟩
    · rw [z]
      refine br_f (by decide) (h6 (fun j hj => ?_) a_dist)
      rw [(hdd x j).mpr hj] at z; cases z
    · have kd := (hdd x D).mp z
      have bD := ch_b h2 hto kd
      rw [z]
      refine br_t (nI_pos' (by omega)) ⟨vp_in_nI hx (by decide), nm_r (e' := nI D) rfl (nm_e ⟨D + 1, ?_⟩)⟩
      exact yd_210 H hto hlk hg hdd (by omega) (fun pw ps cw cs q1 q2 q3 => hc D pw ps cw cs a_dist (by omega) kd q1 q2 q3) D 0 (by omega) _ (by omega) (fun _ => x) (fun _ => 0) _ _ rfl (fun k hk => by omega) kd (fun k hk => by
        have : k = 0 := by omega
        rw [this]; exact pk_us) (fun k hk => by omega)
  | succ r ih =>
    intro d hd n hn dd a_dist hg hI
    obtain ⟨m, rfl⟩ : ∃ m, n = m + 1 := ⟨n - 1, by omega⟩
    refine br_f (nI_ge (by omega) (by omega)) ⟨ww_f K (L + 1) + 1, ?_⟩
    exact yd_93 H hto hlk (by omega) (fun dd a_dist g1 g2 => ih (d + 1) (by omega) m (by omega) dd a_dist g1 g2) (ww_f K (L + 1)) 0 (by omega) _ (by omega) dd a_dist hg ⟨fun w j e => ⟨(hI.1 w j e).1, by have := (hI.1 w j e).2; omega⟩, hI.2, fun u' h => by omega⟩
theorem yd_53 (H : eq_H K T L E t a_equation) (hto : ww_n K to ≤ L) (hlk : yf_J K L E t (16 * t) a_link) {x : Nat} (hx : x < 127) {f_chainN : Int32} {a_chainWord a_chainStep : Nat → Int32} {post : Int32 → SY → Prop}
    (h6 : (∀ j, ¬ ch_d K L E t to j x) → ∀ a_dist : Nat → Int32, post (-6) (nI K, f_top, f_capacity, nI L, f_count, nI t, f_chainN, a_buffer, a_equation, a_least, a_ruleLeft, a_chainWord, a_chainStep, a_old, a_dist, a_link, a_last))
    (hc : ∀ (D : Nat) (pw ps : Nat → Nat) (a_chainWord a_chainStep a_dist : Nat → Int32), D < 127 → ch_d K L E t to D x → ch_C K L E t to D x pw ps → (∀ k, k < D + 1 → a_chainWord k = nI (pw k)) → (∀ k, k < D → a_chainStep k = nI (ps k)) → post (nI D) (nI K, f_top, f_capacity, nI L, f_count, nI t, nI D, a_buffer, a_equation, a_least, a_ruleLeft, a_chainWord, a_chainStep, a_old, a_dist, a_link, a_last)) :
    ∀ d j, j + d = 127 → ∀ n, d < n → ∀ a_dist : Nat → Int32, (∀ w, w < j → a_dist w = -1) →
    wY_chain_53 post (nI x) (nI to) (nI (ww_f K (L + 1))) (nI K) f_top f_capacity (nI L) f_count (nI t) f_chainN n (nI j) a_buffer a_equation a_least a_ruleLeft a_chainWord a_chainStep a_old a_dist a_link a_last := by
  have to7 : to < 127 := tb_127 H.1 (by have := H.2.1; omega)
  intro d
  induction d with
  | zero =>
    intro j hj n hn a_dist h
    obtain ⟨m, rfl⟩ : ∃ m, n = m + 1 := ⟨n - 1, by omega⟩
    refine br_t (nI_le (a := 127) (by omega) (by omega)) ?_
    rw [nI_clamp (by omega)]
    refine ⟨vp_in_nI to7 (by decide), nm_e ⟨ww_f K (L + 1) + 1, yd_84 H hto hlk hx h6 hc (ww_f K (L + 1)) 0 (by omega) _ (by omega) (gu (fun _ => none) to (some 0)) _ (ge_up (e := ge_o) (g := fun _ => none) (y := some 0) (fun w hw => h w (by omega)) rfl) ⟨fun w j' e => ?_, fun j' hj' w hw => ?_⟩⟩⟩
    · rcases Classical.em (w = to) with z | z
      · subst z; rw [gu_s] at e
        have e := Option.some.inj e
        rw [← e]; exact ⟨ch_0, Nat.le_refl _⟩
      · rw [gu_n z] at e; cases e
    · have : j' = 0 := by omega
      subst this
      rw [ch_00 hw, gu_s]
  | succ d ih =>
    intro j hj n hn a_dist h
    obtain ⟨m, rfl⟩ : ∃ m, n = m + 1 := ⟨n - 1, by omega⟩
    have cl : (nI j).toNatClampNeg = j := nI_clamp (by omega)
    refine br_f (nI_ge (b := 127) (by omega) (by decide)) ?_
    rw [cl]
    refine ⟨vp_in_nI (by omega) (by decide), nm_e (nm_r (nI_1 j) (ih (j + 1) (by omega) m (by omega) _ (fun w hw => ?_)))⟩
    rcases Classical.em (w = j) with q | q
    · subst q; exact pk_us
    · rw [pk_un q]; exact h w (by omega)
end
end
section
/-! The relation between the two states. -/
def zA (K T L cap ne t : Nat) (E B : Nat → Nat) (a_buffer a_equationSide : Nat → Int32) : Prop :=
  tb_K K T ∧ 2 ≤ L ∧ L ≤ T ∧ 1 ≤ cap ∧ cap ≤ 8 ∧ ne ≤ cap ∧ t ≤ ne ∧ (∀ i, i < 2 → a_buffer i = nI (B i) ∧ ww_n K (B i) ≤ L) ∧ (∀ i, i < 16 → a_equationSide i = nI (E i)) ∧ (∀ i, i < 2 * ne → ww_n K (E i) ≤ L)
def zX (K T L t : Nat) (E : Nat → Nat) (c : GC) (f_rules f_agendaTop : Int32) (a_power a_first a_sizes a_ruleRight a_next a_fresh a_ruleLeft a_normalForm a_agendaOne a_agendaTwo : Nat → Int32) : Prop :=
  tb_X K a_power a_first a_sizes ∧ xs_S K T L (eq_Q E t) c f_rules f_agendaTop a_ruleRight a_next a_fresh a_ruleLeft a_normalForm a_agendaOne a_agendaTwo
def zY (K L t : Nat) (E ls : Nat → Nat) (y_least y_ruleLeft : Nat → Int32) : Prop :=
  yl_g ls y_least ∧ (∀ w, w < 127 → rl_m K L (eq_Q E t) w (ls w)) ∧ (∀ w, w < 127 → y_ruleLeft w = yb (rl_red K ls w))
def zC (K L : Nat) (ls : Nat → Nat) (f_confluence : Int32) : Prop := f_confluence = -1 ∨ (f_confluence = 1 ∧ cf_Q K L ls) ∨ (f_confluence = 0 ∧ ¬ cf_Q K L ls)
def zN (fN : Int32) (a_chainWord a_chainEquation a_chainSide a_chainPlace y_chainWord y_chainStep : Nat → Int32) : Prop :=
  fN = -1 ∨ ∃ (m : Nat) (pw ps : Nat → Nat), m < 127 ∧ fN = nI m ∧ (∀ k, k < m + 1 → a_chainWord k = nI (pw k) ∧ y_chainWord k = nI (pw k)) ∧ cx_H ps m a_chainEquation a_chainSide a_chainPlace ∧ (∀ k, k < m → y_chainStep k = nI (ps k) ∧ ps k < 128)
def i_Rel (k : Nat) (u : SX) (v : SY) : Prop := match u, v with
  | (f_letters, f_topLevel, f_capacity, f_level, f_equations, f_taken, f_rules, f_confluence, f_agendaTop, f_queueSize, f_chainLength, a_power, a_first, a_sizes, a_buffer, a_equationSide, a_ruleRight, a_next, a_fresh, a_ruleLeft, a_normalForm, a_agendaOne, a_agendaTwo, a_distance, a_queue, a_chainWord, a_chainEquation, a_chainSide, a_chainPlace), (y_letters, y_top, y_capacity, y_level, y_count, y_taken, y_chainN, y_buffer, y_equation, y_least, y_ruleLeft, y_chainWord, y_chainStep, y_old, y_dist, y_link, y_last) =>
    ∃ (K T L cap ne t : Nat) (E B : Nat → Nat) (c : GC) (ls : Nat → Nat),
      (f_letters = nI K ∧ f_topLevel = nI T ∧ f_capacity = nI cap ∧ f_level = nI L ∧ f_equations = nI ne ∧ f_taken = nI t) ∧
      (y_letters = nI K ∧ y_top = nI T ∧ y_capacity = nI cap ∧ y_level = nI L ∧ y_count = nI ne ∧ y_taken = nI t ∧ y_chainN = f_chainLength ∧ y_buffer = a_buffer ∧ y_equation = a_equationSide) ∧
      zA K T L cap ne t E B a_buffer a_equationSide ∧ zX K T L t E c f_rules f_agendaTop a_power a_first a_sizes a_ruleRight a_next a_fresh a_ruleLeft a_normalForm a_agendaOne a_agendaTwo ∧
      zY K L t E ls y_least y_ruleLeft ∧ zC K L ls f_confluence ∧ zN f_chainLength a_chainWord a_chainEquation a_chainSide a_chainPlace y_chainWord y_chainStep
theorem zz_in {k K T L cap ne t : Nat} {E B : Nat → Nat} {c : GC} {ls : Nat → Nat} {f_rules f_confluence f_agendaTop f_queueSize f_chainLength : Int32} {a_power a_first a_sizes a_buffer a_equationSide a_ruleRight a_next a_fresh a_ruleLeft a_normalForm a_agendaOne a_agendaTwo a_distance a_queue a_chainWord a_chainEquation a_chainSide a_chainPlace : Nat → Int32} {y_least y_ruleLeft y_chainWord y_chainStep y_old y_dist y_link y_last : Nat → Int32}
    (hA : zA K T L cap ne t E B a_buffer a_equationSide) (hX : zX K T L t E c f_rules f_agendaTop a_power a_first a_sizes a_ruleRight a_next a_fresh a_ruleLeft a_normalForm a_agendaOne a_agendaTwo)
    (hY : zY K L t E ls y_least y_ruleLeft) (hC : zC K L ls f_confluence) (hN : zN f_chainLength a_chainWord a_chainEquation a_chainSide a_chainPlace y_chainWord y_chainStep) :
    i_Rel k (nI K, nI T, nI cap, nI L, nI ne, nI t, f_rules, f_confluence, f_agendaTop, f_queueSize, f_chainLength, a_power, a_first, a_sizes, a_buffer, a_equationSide, a_ruleRight, a_next, a_fresh, a_ruleLeft, a_normalForm, a_agendaOne, a_agendaTwo, a_distance, a_queue, a_chainWord, a_chainEquation, a_chainSide, a_chainPlace) (nI K, nI T, nI cap, nI L, nI ne, nI t, f_chainLength, a_buffer, a_equationSide, y_least, y_ruleLeft, y_chainWord, y_chainStep, y_old, y_dist, y_link, y_last) := by
  unfold i_Rel
  exact ⟨K, T, L, cap, ne, t, E, B, c, ls, ⟨rfl, rfl, rfl, rfl, rfl, rfl⟩, ⟨rfl, rfl, rfl, rfl, rfl, rfl, rfl, rfl, rfl⟩, hA, hX, hY, hC, hN⟩
theorem zz_el {k : Nat} {P : SX → SY → Prop}
    (h : ∀ (K T L cap ne t : Nat) (E B : Nat → Nat) (c : GC) (ls : Nat → Nat) (f_rules f_confluence f_agendaTop f_queueSize f_chainLength : Int32) (a_power a_first a_sizes a_buffer a_equationSide a_ruleRight a_next a_fresh a_ruleLeft a_normalForm a_agendaOne a_agendaTwo a_distance a_queue a_chainWord a_chainEquation a_chainSide a_chainPlace : Nat → Int32) (y_least y_ruleLeft y_chainWord y_chainStep y_old y_dist y_link y_last : Nat → Int32),
      zA K T L cap ne t E B a_buffer a_equationSide → zX K T L t E c f_rules f_agendaTop a_power a_first a_sizes a_ruleRight a_next a_fresh a_ruleLeft a_normalForm a_agendaOne a_agendaTwo →
      zY K L t E ls y_least y_ruleLeft → zC K L ls f_confluence → zN f_chainLength a_chainWord a_chainEquation a_chainSide a_chainPlace y_chainWord y_chainStep →
      P (nI K, nI T, nI cap, nI L, nI ne, nI t, f_rules, f_confluence, f_agendaTop, f_queueSize, f_chainLength, a_power, a_first, a_sizes, a_buffer, a_equationSide, a_ruleRight, a_next, a_fresh, a_ruleLeft, a_normalForm, a_agendaOne, a_agendaTwo, a_distance, a_queue, a_chainWord, a_chainEquation, a_chainSide, a_chainPlace) (nI K, nI T, nI cap, nI L, nI ne, nI t, f_chainLength, a_buffer, a_equationSide, y_least, y_ruleLeft, y_chainWord, y_chainStep, y_old, y_dist, y_link, y_last)) :
    ∀ (u : SX) (v : SY), i_Rel k u v → P u v := by
  rintro ⟨f_letters, f_topLevel, f_capacity, f_level, f_equations, f_taken, f_rules, f_confluence, f_agendaTop, f_queueSize, f_chainLength, a_power, a_first, a_sizes, a_buffer, a_equationSide, a_ruleRight, a_next, a_fresh, a_ruleLeft, a_normalForm, a_agendaOne, a_agendaTwo, a_distance, a_queue, a_chainWord, a_chainEquation, a_chainSide, a_chainPlace⟩ ⟨y_letters, y_top, y_capacity, y_level, y_count, y_taken, y_chainN, y_buffer, y_equation, y_least, y_ruleLeft, y_chainWord, y_chainStep, y_old, y_dist, y_link, y_last⟩ I
  unfold i_Rel at I
  obtain ⟨K, T, L, cap, ne, t, E, B, c, ls, ⟨e1, e2, e3, e4, e5, e6⟩, ⟨d1, d2, d3, d4, d5, d6, d7, d8, d9⟩, hA, hX, hY, hC, hN⟩ := I
  subst e1; subst e2; subst e3; subst e4; subst e5; subst e6
  subst d1; subst d2; subst d3; subst d4; subst d5; subst d6; subst d7; subst d8; subst d9
  exact h K T L cap ne t E B c ls _ _ _ _ _ _ _ _ _ _ _ _ _ _ _ _ _ _ _ _ _ _ _ _ _ _ _ _ _ _ _ hA hX hY hC hN
theorem rl_redc {K w : Nat} {ls ls' : Nat → Nat} (hK : 2 ≤ K) (h : ∀ f, ww_n K f ≤ ww_n K w → f < 127 → ls f = ls' f) (h7 : w < 127) : rl_red K ls w ↔ rl_red K ls' w := by
  have f7 : ∀ f, ww_n K f < ww_n K w → f < 127 := fun f hf => by
    have := ww_n2 hK f
    have := ww_fle hK (show ww_n K f + 1 ≤ ww_n K w by omega)
    have := ww_n1 hK w
    omega
  unfold rl_red
  rw [h w (Nat.le_refl _) h7]
  exact ⟨fun k => ⟨k.1, fun a f b e l => (h f (by omega) (f7 f l)).symm.trans (k.2 a f b e l)⟩, fun k => ⟨k.1, fun a f b e l => (h f (by omega) (f7 f l)).trans (k.2 a f b e l)⟩⟩
section
variable {K T L cap ne t : Nat} {E B : Nat → Nat} {c : GC} {ls : Nat → Nat} {f_rules f_agendaTop : Int32} {a_buffer a_equationSide a_power a_first a_sizes a_ruleRight a_next a_fresh a_ruleLeft a_normalForm a_agendaOne a_agendaTwo y_least y_ruleLeft : Nat → Int32}
theorem zz_Q (hA : zA K T L cap ne t E B a_buffer a_equationSide) : ∀ p q, eq_Q E t p q → ww_n K p ≤ L ∧ ww_n K q ≤ L := by
  obtain ⟨hK, _, _, _, _, _, ht, _, _, hE⟩ := hA
  rintro p q ⟨e, he, rfl, rfl⟩
  exact ⟨hE _ (by omega), hE _ (by omega)⟩
theorem zz_H (hA : zA K T L cap ne t E B a_buffer a_equationSide) (hY : zY K L t E ls y_least y_ruleLeft) : cf_H K T L (eq_Q E t) ls :=
  ⟨hA.1, hA.2.2.1, hA.2.1, hY.2.1, zz_Q hA⟩
theorem zz_nf0 (hA : zA K T L cap ne t E B a_buffer a_equationSide) (hX : zX K T L t E c f_rules f_agendaTop a_power a_first a_sizes a_ruleRight a_next a_fresh a_ruleLeft a_normalForm a_agendaOne a_agendaTwo) : kb_nf K L (gc_x c) (kb_z (gc_x c)) ∧ (∀ w, ww_n K w ≤ L → kb_z (gc_x c) w ≤ w) ∧ (∀ w, ww_n K w ≤ L → rl_m K L (eq_Q E t) w (kb_z (gc_x c) w)) := by
  obtain ⟨_, hg, hI, ht, hf, hN⟩ := hX
  have hK := hA.1
  have h2 := tb_2 hK
  have hL := hA.2.2.1
  have hle' : ∀ w, w ≤ ww_f K (L + 1) - 1 → gc_x c w ≤ w := fun w hw => kb_xle h2 hI (Nat.le_trans ((ww_nle h2).mpr (by have := ww_fs h2 L; omega)) hL)
  have hb : ∀ w, ww_n K w ≤ L → w ≤ ww_f K (L + 1) - 1 := fun w hw => by have := (ww_nle h2).mp hw; omega
  have nf : kb_nf K L (gc_x c) (kb_z (gc_x c)) := fun w hw => kb_zE hle' (hb w hw)
  exact ⟨nf, fun w hw => kb_zle hle' w (hb w hw), kb_fin h2 hL hI ht hf (zz_Q hA) nf⟩
theorem zz_z (hA : zA K T L cap ne t E B a_buffer a_equationSide) (hX : zX K T L t E c f_rules f_agendaTop a_power a_first a_sizes a_ruleRight a_next a_fresh a_ruleLeft a_normalForm a_agendaOne a_agendaTwo) (hY : zY K L t E ls y_least y_ruleLeft) {w : Nat} (hw : ww_n K w ≤ L) : kb_z (gc_x c) w = ls w :=
  rl_un ((zz_nf0 hA hX).2.2 w hw) (hY.2.1 w (tb_127 hA.1 (Nat.le_trans hw hA.2.2.1)))
theorem zz_N (hA : zA K T L cap ne t E B a_buffer a_equationSide) (hX : zX K T L t E c f_rules f_agendaTop a_power a_first a_sizes a_ruleRight a_next a_fresh a_ruleLeft a_normalForm a_agendaOne a_agendaTwo) (hY : zY K L t E ls y_least y_ruleLeft) : ∀ w, ww_n K w ≤ L → a_normalForm w = nI (ls w) := by
  intro w hw
  rw [hX.2.2.2.2.2.1 w ((ww_nle (tb_2 hA.1)).mp hw), zz_z hA hX hY hw]
theorem zz_R (hA : zA K T L cap ne t E B a_buffer a_equationSide) (hX : zX K T L t E c f_rules f_agendaTop a_power a_first a_sizes a_ruleRight a_next a_fresh a_ruleLeft a_normalForm a_agendaOne a_agendaTwo) (hY : zY K L t E ls y_least y_ruleLeft) {w : Nat} (hw : ww_n K w ≤ L) : gc_r c w ≠ none ↔ rl_red K ls w := by
  have h2 := tb_2 hA.1
  have k := zz_nf0 hA hX
  rw [kb_rul h2 hA.2.2.1 hX.2.2.1 k.1 k.2.1 hw]
  exact rl_redc h2 (fun f hf _ => zz_z hA hX hY (by omega)) (tb_127 hA.1 (Nat.le_trans hw hA.2.2.1))
theorem zz_cnt (hA : zA K T L cap ne t E B a_buffer a_equationSide) (hX : zX K T L t E c f_rules f_agendaTop a_power a_first a_sizes a_ruleRight a_next a_fresh a_ruleLeft a_normalForm a_agendaOne a_agendaTwo) (hY : zY K L t E ls y_least y_ruleLeft) {w : Nat} (hw : w ≤ ww_f K (L + 1)) : cq_n (fun z => gc_r c z ≠ none) w = cq_n (fun z => rl_red K ls z) w :=
  cq_eq (fun k hk => zz_R hA hX hY ((ww_nle (tb_2 hA.1)).mpr (by omega)))
theorem zz_top (hA : zA K T L cap ne t E B a_buffer a_equationSide) (hY : zY K L t E ls y_least y_ruleLeft) {z : Nat} (h7 : z < 127) (hr : rl_red K ls z) : z < ww_f K (L + 1) :=
  (ww_nle (tb_2 hA.1)).mp (cf_rL (zz_H hA hY) h7 hr)
theorem zz_c127 (hA : zA K T L cap ne t E B a_buffer a_equationSide) (hY : zY K L t E ls y_least y_ruleLeft) : cq_n (fun z => rl_red K ls z) (ww_f K (L + 1)) = cq_n (fun z => rl_red K ls z) 127 := by
  have h2 := tb_2 hA.1
  have cn : ww_f K (L + 1) ≤ 127 := Nat.le_trans (ww_fle h2 (by have := hA.2.2.1; omega)) (tb_f7 hA.1).2.2
  have key : ∀ d, ww_f K (L + 1) + d ≤ 127 → cq_n (fun z => rl_red K ls z) (ww_f K (L + 1) + d) = cq_n (fun z => rl_red K ls z) (ww_f K (L + 1)) := by
    intro d
    induction d with
    | zero => intro _; rfl
    | succ d ih =>
      intro hd
      show cq_n (fun z => rl_red K ls z) (ww_f K (L + 1) + d) + cq_b (rl_red K ls (ww_f K (L + 1) + d)) = _
      rw [ih (by omega), cq_bf (fun q => by have := zz_top hA hY (by omega) q; omega)]
      rfl
  have := key (127 - ww_f K (L + 1)) (by omega)
  rw [show ww_f K (L + 1) + (127 - ww_f K (L + 1)) = 127 by omega] at this
  exact this.symm
/-- the list of rules by the reference's left sides -/
theorem zz_L (hA : zA K T L cap ne t E B a_buffer a_equationSide) (hX : zX K T L t E c f_rules f_agendaTop a_power a_first a_sizes a_ruleRight a_next a_fresh a_ruleLeft a_normalForm a_agendaOne a_agendaTwo) (hY : zY K L t E ls y_least y_ruleLeft) :
    f_rules = nI (cq_n (fun z => rl_red K ls z) 127) ∧ ∀ z, z < 127 → rl_red K ls z → a_ruleLeft (cq_n (fun z => rl_red K ls z) z) = nI z := by
  have k := hX.2.2.2.2.2
  refine ⟨by rw [k.2.1, zz_cnt hA hX hY (Nat.le_refl _), zz_c127 hA hY], fun z h7 hr => ?_⟩
  have zt := zz_top hA hY h7 hr
  rw [← zz_cnt hA hX hY (Nat.le_of_lt zt)]
  exact k.2.2 z zt ((zz_R hA hX hY ((ww_nle (tb_2 hA.1)).mpr zt)).mpr hr)
theorem zz_xcL (hA : zA K T L cap ne t E B a_buffer a_equationSide) (hX : zX K T L t E c f_rules f_agendaTop a_power a_first a_sizes a_ruleRight a_next a_fresh a_ruleLeft a_normalForm a_agendaOne a_agendaTwo) (hY : zY K L t E ls y_least y_ruleLeft) :
    ∃ rl, xc_L K ls (cq_n (fun z => rl_red K ls z) 127) rl a_ruleLeft := by
  have k := zz_L hA hX hY
  have ch : ∀ i, ∃ w, i < cq_n (fun z => rl_red K ls z) 127 → w < 127 ∧ rl_red K ls w ∧ cq_n (fun z => rl_red K ls z) w = i := by
    intro i
    rcases Nat.lt_or_ge i (cq_n (fun z => rl_red K ls z) 127) with z | z
    · obtain ⟨w, h1, h2, h3⟩ := cq_sj z
      exact ⟨w, fun _ => ⟨h1, h2, h3⟩⟩
    · exact ⟨0, fun q => by omega⟩
  refine ⟨fun i => (ch i).choose, cq_le _ _, fun i hi => ?_, fun z h7 hr => ?_⟩
  · have s := (ch i).choose_spec hi
    refine ⟨?_, s.1, s.2.1⟩
    have := k.2 _ s.1 s.2.1
    rw [s.2.2] at this; exact this
  · refine ⟨cq_n (fun z => rl_red K ls z) z, cq_st h7 hr, ?_⟩
    have s := (ch (cq_n (fun z => rl_red K ls z) z)).choose_spec (cq_st h7 hr)
    show (ch (cq_n (fun z => rl_red K ls z) z)).choose = z
    generalize (ch (cq_n (fun z => rl_red K ls z) z)).choose = w at *
    rcases Nat.lt_trichotomy w z with q | q | q
    · have := cq_st (P := fun z => rl_red K ls z) q s.2.1; omega
    · exact q
    · have := cq_st (P := fun z => rl_red K ls z) q hr; omega
/-- another function with the same least words will do -/
theorem zz_Y' {ls' : Nat → Nat} (hA : zA K T L cap ne t E B a_buffer a_equationSide) (h : ∀ w, w < 127 → ls w = ls' w) {y_least y_ruleLeft : Nat → Int32} (h1 : yl_g ls' y_least) (h3 : ∀ w, w < 127 → y_ruleLeft w = yb (rl_red K ls' w)) :
    yl_g ls y_least ∧ (∀ w, w < 127 → y_ruleLeft w = yb (rl_red K ls w)) :=
  ⟨fun w hw => by rw [h1 w hw, h w hw], fun w hw => by rw [h3 w hw]; exact yb_e (rl_redc (tb_2 hA.1) (fun f _ f7 => (h f f7).symm) hw)⟩
end
end
section
/-! The calls that complete nothing. -/
theorem i_up {k : Nat} {u : SX} {v : SY} (h : i_Rel k u v) : i_Rel (k + 3) u v := h
section
variable {f_letters f_topLevel f_capacity f_level f_equations f_taken f_rules f_confluence f_agendaTop f_queueSize f_chainLength : Int32} {a_power a_first a_sizes a_buffer a_equationSide a_ruleRight a_next a_fresh a_ruleLeft a_normalForm a_agendaOne a_agendaTwo a_distance a_queue a_chainWord a_chainEquation a_chainSide a_chainPlace : Nat → Int32}
theorem xi_y {i : Nat} (hi : i < 2) {post : Int32 → Prop} (h : post 1) : wpX_isSide post (f_letters, f_topLevel, f_capacity, f_level, f_equations, f_taken, f_rules, f_confluence, f_agendaTop, f_queueSize, f_chainLength, a_power, a_first, a_sizes, a_buffer, a_equationSide, a_ruleRight, a_next, a_fresh, a_ruleLeft, a_normalForm, a_agendaOne, a_agendaTwo, a_distance, a_queue, a_chainWord, a_chainEquation, a_chainSide, a_chainPlace) (nI i) := by
  unfold wpX_isSide
  exact pk_eq i 0 (fun _ => h) (fun _ => pk_eq i 1 (fun _ => h) (fun _ => by omega))
theorem xi_n {v : Int32} (h0 : ¬ v = 0) (h1 : ¬ v = 1) {post : Int32 → Prop} (h : post 0) : wpX_isSide post (f_letters, f_topLevel, f_capacity, f_level, f_equations, f_taken, f_rules, f_confluence, f_agendaTop, f_queueSize, f_chainLength, a_power, a_first, a_sizes, a_buffer, a_equationSide, a_ruleRight, a_next, a_fresh, a_ruleLeft, a_normalForm, a_agendaOne, a_agendaTwo, a_distance, a_queue, a_chainWord, a_chainEquation, a_chainSide, a_chainPlace) v := by
  unfold wpX_isSide
  exact br_f h0 (br_f h1 h)
end
section
variable {f_letters f_top f_capacity f_level f_count f_taken f_chainN : Int32} {a_buffer a_equation a_least a_ruleLeft a_chainWord a_chainStep a_old a_dist a_link a_last : Nat → Int32}
theorem yi_y {i : Nat} (hi : i < 2) {post : Int32 → Prop} (h : post 0) : wpY_badSide post (f_letters, f_top, f_capacity, f_level, f_count, f_taken, f_chainN, a_buffer, a_equation, a_least, a_ruleLeft, a_chainWord, a_chainStep, a_old, a_dist, a_link, a_last) (nI i) := by
  unfold wpY_badSide
  exact pk_eq i 0 (fun _ => h) (fun _ => pk_eq i 1 (fun _ => h) (fun _ => by omega))
theorem yi_n {v : Int32} (h0 : ¬ v = 0) (h1 : ¬ v = 1) {post : Int32 → Prop} (h : post 1) : wpY_badSide post (f_letters, f_top, f_capacity, f_level, f_count, f_taken, f_chainN, a_buffer, a_equation, a_least, a_ruleLeft, a_chainWord, a_chainStep, a_old, a_dist, a_link, a_last) v := by
  unfold wpY_badSide
  exact br_f h0 (br_f h1 h)
end
/-- a side or not -/
theorem zz_sd (v : Int32) : (∃ i, i < 2 ∧ v = nI i) ∨ (¬ v = 0 ∧ ¬ v = 1) := by
  rcases Classical.em (v = 0) with h | h
  · exact Or.inl ⟨0, by omega, h⟩
  · rcases Classical.em (v = 1) with h' | h'
    · exact Or.inl ⟨1, by omega, h'⟩
    · exact Or.inr ⟨h, h'⟩
theorem zz_B {K T L cap ne t : Nat} {E B : Nat → Nat} {a_buffer a_equationSide : Nat → Int32} (hA : zA K T L cap ne t E B a_buffer a_equationSide) {i b : Nat} (hi : i < 2) (hb : ww_n K b ≤ L) : zA K T L cap ne t E (gu B i b) (upd a_buffer i (nI b)) a_equationSide := by
  obtain ⟨a1, a2, a3, a4, a5, a6, a7, a8, a9, a10⟩ := hA
  refine ⟨a1, a2, a3, a4, a5, a6, a7, fun j hj => ?_, a9, a10⟩
  rcases Classical.em (j = i) with z | z
  · subst z; rw [pk_us, gu_s]; exact ⟨rfl, hb⟩
  · rw [pk_un z, gu_n z]; exact a8 j hj
theorem i_vc_append {k : Nat} {u : SX} {v : SY} (I : i_Rel k u v) (hk : k + 3 ≤ 1539) (v1 : Int32) (v2 : Int32) : wpX_append (fun r u' => wpY_append (fun r' v' => r' = r ∧ i_Rel (k + 3) u' v') v v1 v2) u v1 v2 := by
  refine zz_el (P := fun u v => wpX_append (fun r u' => wpY_append (fun r' v' => r' = r ∧ i_Rel (k + 3) u' v') v v1 v2) u v1 v2) ?_ u v I
  intro K T L cap ne t E B c ls f_rules f_confluence f_agendaTop f_queueSize f_chainLength a_power a_first a_sizes a_buffer a_equationSide a_ruleRight a_next a_fresh a_ruleLeft a_normalForm a_agendaOne a_agendaTwo a_distance a_queue a_chainWord a_chainEquation a_chainSide a_chainPlace y_least y_ruleLeft y_chainWord y_chainStep y_old y_dist y_link y_last hA hX hY hC hN
  have hK := hA.1
  have h2 := tb_2 hK
  have hk3 := tb_3 hK
  have hT := tb_T hK
  have same := zz_in (k := k + 3) (f_queueSize := f_queueSize) (a_distance := a_distance) (a_queue := a_queue) (y_old := y_old) (y_dist := y_dist) (y_link := y_link) (y_last := y_last) hA hX hY hC hN
  unfold wpX_append; dsimp only
  rcases zz_sd v1 with ⟨i, hi, rfl⟩ | ⟨n0, n1⟩
  · have hb := hA.2.2.2.2.2.2.2.1 i hi
    have hLT := hA.2.2.1
    have hbl := hb.2
    have b7 : B i < 127 := tb_127 hK (by omega)
    have cl : (nI i).toNatClampNeg = i := nI_clamp (by omega)
    refine xi_y hi (br_f (by decide) ?_)
    rcases Classical.em (v2 < 0) with neg | pos
    · refine br_t neg ?_
      unfold wpY_append; dsimp only
      exact yi_y hi (br_t rfl (br_t neg ⟨rfl, same⟩))
    · refine br_f pos ?_
      obtain ⟨x, hx31, rfl⟩ := nI_of pos
      rcases Nat.lt_or_ge x K with hx | hx
      · have hxl : nI x < nI K := nI_lt hx (by omega)
        refine br_t hxl ?_
        rw [cl, hb.1]
        have en : nI (B i) * nI K + nI x + 1 = nI (ww_c K (B i) (x + 1)) := by
          rw [pk_mul, nI_add, nI_1, ww_cx1 h2 _ (by omega) (by omega)]; rfl
        rw [en]
        refine ⟨vp_in_nI hi (by decide), xl_len hK hX.1 (tb_big hK b7) ?_⟩
        rcases Nat.lt_or_ge (ww_n K (B i)) L with hl | hl
        · refine br_t (nI_lt hl (by have := hA.2.2.1; omega)) ⟨vp_in_nI hi (by decide), vp_in_nI hi (by decide), nm_e ?_⟩
          unfold wpY_append; dsimp only
          refine yi_y hi (br_t rfl (br_f pos (br_t hxl ?_)))
          rw [cl, hb.1, en]
          refine ⟨vp_in_nI hi (by decide), yl_len hK (tb_big hK b7) (br_t (nI_lt hl (by have := hA.2.2.1; omega)) ⟨vp_in_nI hi (by decide), vp_in_nI hi (by decide), nm_e ⟨rfl, ?_⟩⟩)⟩
          exact zz_in (zz_B hA (b := ww_c K (B i) (x + 1)) hi (by rw [ww_cn h2, ww_n1c h2 (show 1 ≤ x + 1 by omega) (by omega)]; omega)) hX hY hC hN
        · refine br_f (nI_nlt hl (by omega)) ?_
          unfold wpY_append; dsimp only
          refine yi_y hi (br_t rfl (br_f pos (br_t hxl ?_)))
          rw [cl, hb.1]
          exact ⟨vp_in_nI hi (by decide), yl_len hK (tb_big hK b7) (br_f (nI_nlt hl (by omega)) ⟨rfl, same⟩)⟩
      · have hxl : ¬ nI x < nI K := nI_nlt hx hx31
        refine br_f hxl ?_
        unfold wpY_append; dsimp only
        exact yi_y hi (br_t rfl (br_f pos (br_f hxl ⟨rfl, same⟩)))
  · refine xi_n n0 n1 (br_t rfl ?_)
    unfold wpY_append; dsimp only
    exact yi_n n0 n1 (br_f (by decide) ⟨rfl, same⟩)
theorem i_vc_erase {k : Nat} {u : SX} {v : SY} (I : i_Rel k u v) (hk : k + 3 ≤ 1539) (v1 : Int32) : wpX_erase (fun r u' => wpY_erase (fun r' v' => r' = r ∧ i_Rel (k + 3) u' v') v v1) u v1 := by
  refine zz_el (P := fun u v => wpX_erase (fun r u' => wpY_erase (fun r' v' => r' = r ∧ i_Rel (k + 3) u' v') v v1) u v1) ?_ u v I
  intro K T L cap ne t E B c ls f_rules f_confluence f_agendaTop f_queueSize f_chainLength a_power a_first a_sizes a_buffer a_equationSide a_ruleRight a_next a_fresh a_ruleLeft a_normalForm a_agendaOne a_agendaTwo a_distance a_queue a_chainWord a_chainEquation a_chainSide a_chainPlace y_least y_ruleLeft y_chainWord y_chainStep y_old y_dist y_link y_last hA hX hY hC hN
  unfold wpX_erase; dsimp only
  rcases zz_sd v1 with ⟨i, hi, rfl⟩ | ⟨n0, n1⟩
  · have cl : (nI i).toNatClampNeg = i := nI_clamp (by omega)
    refine xi_y hi (br_f (by decide) ?_)
    rw [cl]
    refine ⟨vp_in_nI hi (by decide), nm_e ?_⟩
    unfold wpY_erase; dsimp only
    refine yi_y hi (br_t rfl ?_)
    rw [cl]
    exact ⟨vp_in_nI hi (by decide), nm_e ⟨rfl, zz_in (zz_B hA (b := 0) hi (by rw [ww_n0]; omega)) hX hY hC hN⟩⟩
  · refine xi_n n0 n1 (br_t rfl ?_)
    unfold wpY_erase; dsimp only
    exact yi_n n0 n1 (br_f (by decide) ⟨rfl, zz_in hA hX hY hC hN⟩)
theorem i_vc_code {k : Nat} {u : SX} {v : SY} (I : i_Rel k u v) (hk : k + 3 ≤ 1539) (v1 : Int32) : wpX_code (fun r => wpY_code (fun r' => r' = r ∧ i_Rel (k + 3) u v) v v1) u v1 := by
  refine zz_el (P := fun u v => wpX_code (fun r => wpY_code (fun r' => r' = r ∧ i_Rel (k + 3) u v) v v1) u v1) ?_ u v I
  intro K T L cap ne t E B c ls f_rules f_confluence f_agendaTop f_queueSize f_chainLength a_power a_first a_sizes a_buffer a_equationSide a_ruleRight a_next a_fresh a_ruleLeft a_normalForm a_agendaOne a_agendaTwo a_distance a_queue a_chainWord a_chainEquation a_chainSide a_chainPlace y_least y_ruleLeft y_chainWord y_chainStep y_old y_dist y_link y_last hA hX hY hC hN
  unfold wpX_code; dsimp only
  rcases zz_sd v1 with ⟨i, hi, rfl⟩ | ⟨n0, n1⟩
  · refine xi_y hi (br_f (by decide) ⟨vp_in_nI hi (by decide), ?_⟩)
    unfold wpY_code; dsimp only
    exact yi_y hi (br_t rfl ⟨vp_in_nI hi (by decide), rfl, zz_in hA hX hY hC hN⟩)
  · refine xi_n n0 n1 (br_t rfl ?_)
    unfold wpY_code; dsimp only
    exact yi_n n0 n1 (br_f (by decide) ⟨rfl, zz_in hA hX hY hC hN⟩)
theorem eq_Qu {E : Nat → Nat} {ne t a b : Nat} (ht : t ≤ ne) : eq_Q (gu (gu E (2 * ne) a) (2 * ne + 1) b) t = eq_Q E t := by
  funext p q
  refine propext ⟨fun ⟨e, he, h1, h2⟩ => ⟨e, he, ?_, ?_⟩, fun ⟨e, he, h1, h2⟩ => ⟨e, he, ?_, ?_⟩⟩
  · rw [h1, gu_n (by omega), gu_n (by omega)]
  · rw [h2, gu_n (by omega), gu_n (by omega)]
  · rw [h1, gu_n (by omega), gu_n (by omega)]
  · rw [h2, gu_n (by omega), gu_n (by omega)]
theorem i_vc_enter {k : Nat} {u : SX} {v : SY} (I : i_Rel k u v) (hk : k + 3 ≤ 1539) : wpX_enter (fun r u' => wpY_enter (fun r' v' => r' = r ∧ i_Rel (k + 3) u' v') v) u := by
  refine zz_el (P := fun u v => wpX_enter (fun r u' => wpY_enter (fun r' v' => r' = r ∧ i_Rel (k + 3) u' v') v) u) ?_ u v I
  intro K T L cap ne t E B c ls f_rules f_confluence f_agendaTop f_queueSize f_chainLength a_power a_first a_sizes a_buffer a_equationSide a_ruleRight a_next a_fresh a_ruleLeft a_normalForm a_agendaOne a_agendaTwo a_distance a_queue a_chainWord a_chainEquation a_chainSide a_chainPlace y_least y_ruleLeft y_chainWord y_chainStep y_old y_dist y_link y_last hA hX hY hC hN
  have hA' := hA
  obtain ⟨hK, a2, a3, a4, a5, a6, a7, a8, a9, a10⟩ := hA'
  have same := zz_in (k := k + 3) (f_queueSize := f_queueSize) (a_distance := a_distance) (a_queue := a_queue) (y_old := y_old) (y_dist := y_dist) (y_link := y_link) (y_last := y_last) hA hX hY hC hN
  have b0 : B 0 < 127 := tb_127 hK (by have := (a8 0 (by omega)).2; omega)
  have b1 : B 1 < 127 := tb_127 hK (by have := (a8 1 (by omega)).2; omega)
  unfold wpX_enter; dsimp only
  rcases Nat.lt_or_ge ne cap with z | z
  · refine br_t (nI_lt z (by omega)) ?_
    rcases Classical.em (a_buffer 0 = a_buffer 1) with y | y
    · refine br_t y ?_
      unfold wpY_enter; dsimp only
      exact br_t (nI_lt z (by omega)) (br_t y ⟨rfl, same⟩)
    · have i0 : (2 : Int32) * nI ne + 0 = nI (2 * ne) := by
        rw [show (2 : Int32) = nI 2 from rfl, pk_mul, show (0 : Int32) = nI 0 from rfl, nI_add, Nat.add_zero]
      have i0' : (2 : Int32) * nI ne = nI (2 * ne) := by rw [show (2 : Int32) = nI 2 from rfl, pk_mul]
      have c0 : (nI (2 * ne)).toNatClampNeg = 2 * ne := nI_clamp (by omega)
      have c1 : (nI (2 * ne + 1)).toNatClampNeg = 2 * ne + 1 := nI_clamp (by omega)
      refine br_f y ?_
      rw [i0, i0', nI_1, c0, c1]
      refine ⟨vp_in_nI (by omega) (by decide), nm_e ⟨vp_in_nI (by omega) (by decide), nm_e (nm_r (nI_1 ne) (nm_e (nm_e ?_)))⟩⟩
      unfold wpY_enter; dsimp only
      refine br_t (nI_lt z (by omega)) (br_f y ?_)
      rw [i0', nI_1, c0, c1]
      refine ⟨vp_in_nI (by omega) (by decide), nm_e ⟨vp_in_nI (by omega) (by decide), nm_e (nm_e (nm_e (nm_r (nI_1 ne) ⟨nI_pred ne, ?_⟩)))⟩⟩
      rw [(a8 0 (by omega)).1, (a8 1 (by omega)).1]
      have hA1 : zA K T L cap (ne + 1) t (gu (gu E (2 * ne) (B 0)) (2 * ne + 1) (B 1)) (gu (gu B 0 0) 1 0) (upd (upd a_buffer 0 0) 1 0) (upd (upd a_equationSide (2 * ne) (nI (B 0))) (2 * ne + 1) (nI (B 1))) := by
        refine ⟨hK, a2, a3, a4, a5, by omega, by omega, fun i hi => ?_, ge_up (e := nI) (ge_up (e := nI) a9 rfl) rfl, fun i hi => ?_⟩
        · rcases Classical.em (i = 1) with q | q
          · subst q; rw [pk_us, gu_s, ww_n0]; exact ⟨rfl, by omega⟩
          · have : i = 0 := by omega
            subst this
            rw [pk_un (by omega), gu_n (by omega), pk_us, gu_s, ww_n0]; exact ⟨rfl, by omega⟩
        · rcases Classical.em (i = 2 * ne + 1) with q | q
          · subst q; rw [gu_s]; exact (a8 1 (by omega)).2
          · rw [gu_n q]
            rcases Classical.em (i = 2 * ne) with q' | q'
            · subst q'; rw [gu_s]; exact (a8 0 (by omega)).2
            · rw [gu_n q']; exact a10 i (by omega)
      have hX1 : zX K T L t (gu (gu E (2 * ne) (B 0)) (2 * ne + 1) (B 1)) c f_rules f_agendaTop a_power a_first a_sizes a_ruleRight a_next a_fresh a_ruleLeft a_normalForm a_agendaOne a_agendaTwo := by
        unfold zX; rw [eq_Qu a7]; exact hX
      have hY1 : zY K L t (gu (gu E (2 * ne) (B 0)) (2 * ne + 1) (B 1)) ls y_least y_ruleLeft := by
        unfold zY; rw [eq_Qu a7]; exact hY
      exact zz_in hA1 hX1 hY1 hC hN
  · refine br_f (nI_nlt z (by omega)) ?_
    unfold wpY_enter; dsimp only
    exact br_f (nI_nlt z (by omega)) ⟨rfl, same⟩
theorem i_vc_level {k : Nat} {u : SX} {v : SY} (I : i_Rel k u v) (hk : k + 3 ≤ 1539) : wpX_level (fun r => wpY_level (fun r' => r' = r ∧ i_Rel (k + 3) u v) v) u := by
  refine zz_el (P := fun u v => wpX_level (fun r => wpY_level (fun r' => r' = r ∧ i_Rel (k + 3) u v) v) u) ?_ u v I
  intro K T L cap ne t E B c ls f_rules f_confluence f_agendaTop f_queueSize f_chainLength a_power a_first a_sizes a_buffer a_equationSide a_ruleRight a_next a_fresh a_ruleLeft a_normalForm a_agendaOne a_agendaTwo a_distance a_queue a_chainWord a_chainEquation a_chainSide a_chainPlace y_least y_ruleLeft y_chainWord y_chainStep y_old y_dist y_link y_last hA hX hY hC hN
  unfold wpX_level wpY_level
  exact ⟨rfl, zz_in hA hX hY hC hN⟩
theorem i_vc_equationCount {k : Nat} {u : SX} {v : SY} (I : i_Rel k u v) (hk : k + 3 ≤ 1539) : wpX_equationCount (fun r => wpY_equationCount (fun r' => r' = r ∧ i_Rel (k + 3) u v) v) u := by
  refine zz_el (P := fun u v => wpX_equationCount (fun r => wpY_equationCount (fun r' => r' = r ∧ i_Rel (k + 3) u v) v) u) ?_ u v I
  intro K T L cap ne t E B c ls f_rules f_confluence f_agendaTop f_queueSize f_chainLength a_power a_first a_sizes a_buffer a_equationSide a_ruleRight a_next a_fresh a_ruleLeft a_normalForm a_agendaOne a_agendaTwo a_distance a_queue a_chainWord a_chainEquation a_chainSide a_chainPlace y_least y_ruleLeft y_chainWord y_chainStep y_old y_dist y_link y_last hA hX hY hC hN
  unfold wpX_equationCount wpY_equationCount
  exact ⟨rfl, zz_in hA hX hY hC hN⟩
theorem i_vc_takenCount {k : Nat} {u : SX} {v : SY} (I : i_Rel k u v) (hk : k + 3 ≤ 1539) : wpX_takenCount (fun r => wpY_takenCount (fun r' => r' = r ∧ i_Rel (k + 3) u v) v) u := by
  refine zz_el (P := fun u v => wpX_takenCount (fun r => wpY_takenCount (fun r' => r' = r ∧ i_Rel (k + 3) u v) v) u) ?_ u v I
  intro K T L cap ne t E B c ls f_rules f_confluence f_agendaTop f_queueSize f_chainLength a_power a_first a_sizes a_buffer a_equationSide a_ruleRight a_next a_fresh a_ruleLeft a_normalForm a_agendaOne a_agendaTwo a_distance a_queue a_chainWord a_chainEquation a_chainSide a_chainPlace y_least y_ruleLeft y_chainWord y_chainStep y_old y_dist y_link y_last hA hX hY hC hN
  unfold wpX_takenCount wpY_takenCount
  exact ⟨rfl, zz_in hA hX hY hC hN⟩
theorem i_vc_equationCode {k : Nat} {u : SX} {v : SY} (I : i_Rel k u v) (hk : k + 3 ≤ 1539) (v1 : Int32) (v2 : Int32) : wpX_equationCode (fun r => wpY_equationCode (fun r' => r' = r ∧ i_Rel (k + 3) u v) v v1 v2) u v1 v2 := by
  refine zz_el (P := fun u v => wpX_equationCode (fun r => wpY_equationCode (fun r' => r' = r ∧ i_Rel (k + 3) u v) v v1 v2) u v1 v2) ?_ u v I
  intro K T L cap ne t E B c ls f_rules f_confluence f_agendaTop f_queueSize f_chainLength a_power a_first a_sizes a_buffer a_equationSide a_ruleRight a_next a_fresh a_ruleLeft a_normalForm a_agendaOne a_agendaTwo a_distance a_queue a_chainWord a_chainEquation a_chainSide a_chainPlace y_least y_ruleLeft y_chainWord y_chainStep y_old y_dist y_link y_last hA hX hY hC hN
  have same := zz_in (k := k + 3) (f_queueSize := f_queueSize) (a_distance := a_distance) (a_queue := a_queue) (y_old := y_old) (y_dist := y_dist) (y_link := y_link) (y_last := y_last) hA hX hY hC hN
  have n8 : ne ≤ 8 := by have := hA.2.2.2.2.1; have := hA.2.2.2.2.2.1; omega
  unfold wpX_equationCode; dsimp only
  rcases Classical.em (v1 < 0) with neg | pos
  · refine br_t neg ?_
    unfold wpY_equationCode; dsimp only
    exact br_t neg ⟨rfl, same⟩
  · refine br_f pos ?_
    obtain ⟨x, hx31, rfl⟩ := nI_of pos
    rcases Nat.lt_or_ge x ne with z | z
    · refine br_f (nI_ge z (by omega)) ?_
      rcases zz_sd v2 with ⟨i, hi, rfl⟩ | ⟨n0, n1⟩
      · refine xi_y hi (br_f (by decide) ?_)
        rw [eq_i0]
        refine ⟨vp_in_nI (by omega) (by decide), ?_⟩
        unfold wpY_equationCode; dsimp only
        refine br_f pos (br_f (nI_ge z (by omega)) (yi_y hi (br_t rfl ?_)))
        rw [eq_i0]
        exact ⟨vp_in_nI (by omega) (by decide), rfl, same⟩
      · refine xi_n n0 n1 (br_t rfl ?_)
        unfold wpY_equationCode; dsimp only
        exact br_f pos (br_f (nI_ge z (by omega)) (yi_n n0 n1 (br_f (by decide) ⟨rfl, same⟩)))
    · refine br_t (nI_le z hx31) ?_
      unfold wpY_equationCode; dsimp only
      exact br_f pos (br_t (nI_le z hx31) ⟨rfl, same⟩)
theorem i_vc_normal {k : Nat} {u : SX} {v : SY} (I : i_Rel k u v) (hk : k + 3 ≤ 1539) (v1 : Int32) : wpX_normal (fun r => wpY_normal (fun r' => r' = r ∧ i_Rel (k + 3) u v) v v1) u v1 := by
  refine zz_el (P := fun u v => wpX_normal (fun r => wpY_normal (fun r' => r' = r ∧ i_Rel (k + 3) u v) v v1) u v1) ?_ u v I
  intro K T L cap ne t E B c ls f_rules f_confluence f_agendaTop f_queueSize f_chainLength a_power a_first a_sizes a_buffer a_equationSide a_ruleRight a_next a_fresh a_ruleLeft a_normalForm a_agendaOne a_agendaTwo a_distance a_queue a_chainWord a_chainEquation a_chainSide a_chainPlace y_least y_ruleLeft y_chainWord y_chainStep y_old y_dist y_link y_last hA hX hY hC hN
  have same := zz_in (k := k + 3) (f_queueSize := f_queueSize) (a_distance := a_distance) (a_queue := a_queue) (y_old := y_old) (y_dist := y_dist) (y_link := y_link) (y_last := y_last) hA hX hY hC hN
  unfold wpX_normal; dsimp only
  rcases zz_sd v1 with ⟨i, hi, rfl⟩ | ⟨n0, n1⟩
  · have hb := hA.2.2.2.2.2.2.2.1 i hi
    have b7 : B i < 127 := tb_127 hA.1 (by have := hA.2.2.1; omega)
    have cl : (nI i).toNatClampNeg = i := nI_clamp (by omega)
    have cb : (nI (B i)).toNatClampNeg = B i := nI_clamp (by omega)
    refine xi_y hi (br_f (by decide) ?_)
    rw [cl, hb.1, cb, zz_N hA hX hY _ hb.2]
    refine ⟨vp_in_nI hi (by decide), vp_in_nI b7 (by decide), ?_⟩
    unfold wpY_normal; dsimp only
    refine yi_y hi (br_t rfl ?_)
    rw [cl, hb.1, cb, hY.1 _ b7]
    exact ⟨vp_in_nI hi (by decide), vp_in_nI b7 (by decide), rfl, same⟩
  · refine xi_n n0 n1 (br_t rfl ?_)
    unfold wpY_normal; dsimp only
    exact yi_n n0 n1 (br_f (by decide) ⟨rfl, same⟩)
theorem i_vc_reduce {k : Nat} {u : SX} {v : SY} (I : i_Rel k u v) (hk : k + 3 ≤ 1539) (v1 : Int32) : wpX_reduce (fun r u' => wpY_reduce (fun r' v' => r' = r ∧ i_Rel (k + 3) u' v') v v1) u v1 := by
  refine zz_el (P := fun u v => wpX_reduce (fun r u' => wpY_reduce (fun r' v' => r' = r ∧ i_Rel (k + 3) u' v') v v1) u v1) ?_ u v I
  intro K T L cap ne t E B c ls f_rules f_confluence f_agendaTop f_queueSize f_chainLength a_power a_first a_sizes a_buffer a_equationSide a_ruleRight a_next a_fresh a_ruleLeft a_normalForm a_agendaOne a_agendaTwo a_distance a_queue a_chainWord a_chainEquation a_chainSide a_chainPlace y_least y_ruleLeft y_chainWord y_chainStep y_old y_dist y_link y_last hA hX hY hC hN
  have same := zz_in (k := k + 3) (f_queueSize := f_queueSize) (a_distance := a_distance) (a_queue := a_queue) (y_old := y_old) (y_dist := y_dist) (y_link := y_link) (y_last := y_last) hA hX hY hC hN
  unfold wpX_reduce; dsimp only
  rcases zz_sd v1 with ⟨i, hi, rfl⟩ | ⟨n0, n1⟩
  · have hb := hA.2.2.2.2.2.2.2.1 i hi
    have b7 : B i < 127 := tb_127 hA.1 (by have := hA.2.2.1; omega)
    have cl : (nI i).toNatClampNeg = i := nI_clamp (by omega)
    have cb : (nI (B i)).toNatClampNeg = B i := nI_clamp (by omega)
    have le := cf_le (zz_H hA hY) b7
    have h2 := tb_2 hA.1
    have rel := zz_in (k := k + 3) (f_queueSize := f_queueSize) (a_distance := a_distance) (a_queue := a_queue) (y_old := y_old) (y_dist := y_dist) (y_link := y_link) (y_last := y_last) (zz_B hA (b := ls (B i)) hi (Nat.le_trans (ww_nm h2 le) hb.2)) hX hY hC hN
    refine xi_y hi (br_f (by decide) ?_)
    rw [cl, hb.1]
    refine ⟨vp_in_nI hi (by decide), nm_e ⟨vp_in_nI b7 (by decide), vp_in_nI hi (by decide), ?_⟩⟩
    rw [cb, zz_N hA hX hY _ hb.2]
    refine nm_e ⟨vp_in_nI hi (by decide), ?_⟩
    rw [pk_us]
    refine pk_eq (ls (B i)) (B i) (fun e => ?_) (fun ne' => ?_)
    · unfold wpY_reduce; dsimp only
      refine yi_y hi (br_t rfl ?_)
      rw [cl, hb.1]
      refine ⟨vp_in_nI hi (by decide), nm_e ⟨vp_in_nI b7 (by decide), vp_in_nI hi (by decide), ?_⟩⟩
      rw [cb, hY.1 _ b7]
      refine nm_e ⟨vp_in_nI hi (by decide), ?_⟩
      rw [pk_us]
      exact br_t (by rw [e]) ⟨rfl, rel⟩
    · unfold wpY_reduce; dsimp only
      refine yi_y hi (br_t rfl ?_)
      rw [cl, hb.1]
      refine ⟨vp_in_nI hi (by decide), nm_e ⟨vp_in_nI b7 (by decide), vp_in_nI hi (by decide), ?_⟩⟩
      rw [cb, hY.1 _ b7]
      refine nm_e ⟨vp_in_nI hi (by decide), ?_⟩
      rw [pk_us]
      exact br_f (by rw [nI_eq (by omega) (by omega)]; exact ne') ⟨rfl, rel⟩
  · refine xi_n n0 n1 (br_t rfl ?_)
    unfold wpY_reduce; dsimp only
    exact yi_n n0 n1 (br_f (by decide) ⟨rfl, same⟩)
theorem i_vc_same {k : Nat} {u : SX} {v : SY} (I : i_Rel k u v) (hk : k + 3 ≤ 1539) : wpX_same (fun r => wpY_same (fun r' => r' = r ∧ i_Rel (k + 3) u v) v) u := by
  refine zz_el (P := fun u v => wpX_same (fun r => wpY_same (fun r' => r' = r ∧ i_Rel (k + 3) u v) v) u) ?_ u v I
  intro K T L cap ne t E B c ls f_rules f_confluence f_agendaTop f_queueSize f_chainLength a_power a_first a_sizes a_buffer a_equationSide a_ruleRight a_next a_fresh a_ruleLeft a_normalForm a_agendaOne a_agendaTwo a_distance a_queue a_chainWord a_chainEquation a_chainSide a_chainPlace y_least y_ruleLeft y_chainWord y_chainStep y_old y_dist y_link y_last hA hX hY hC hN
  have same := zz_in (k := k + 3) (f_queueSize := f_queueSize) (a_distance := a_distance) (a_queue := a_queue) (y_old := y_old) (y_dist := y_dist) (y_link := y_link) (y_last := y_last) hA hX hY hC hN
  have hb0 := hA.2.2.2.2.2.2.2.1 0 (by omega)
  have hb1 := hA.2.2.2.2.2.2.2.1 1 (by omega)
  have b0 : B 0 < 127 := tb_127 hA.1 (by have := hA.2.2.1; omega)
  have b1 : B 1 < 127 := tb_127 hA.1 (by have := hA.2.2.1; omega)
  have l0 := cf_le (zz_H hA hY) b0
  have l1 := cf_le (zz_H hA hY) b1
  unfold wpX_same; dsimp only
  rw [hb0.1, hb1.1, nI_clamp (by omega), nI_clamp (by omega), zz_N hA hX hY _ hb0.2, zz_N hA hX hY _ hb1.2]
  refine ⟨vp_in_nI b0 (by decide), vp_in_nI b1 (by decide), pk_eq (ls (B 0)) (ls (B 1)) (fun e => ?_) (fun ne' => ?_)⟩
  · unfold wpY_same; dsimp only
    rw [hb0.1, hb1.1, nI_clamp (by omega), nI_clamp (by omega), hY.1 _ b0, hY.1 _ b1]
    exact ⟨vp_in_nI b0 (by decide), vp_in_nI b1 (by decide), br_t (by rw [e]) ⟨rfl, same⟩⟩
  · unfold wpY_same; dsimp only
    rw [hb0.1, hb1.1, nI_clamp (by omega), nI_clamp (by omega), hY.1 _ b0, hY.1 _ b1]
    exact ⟨vp_in_nI b0 (by decide), vp_in_nI b1 (by decide), br_f (by rw [nI_eq (by omega) (by omega)]; exact ne') ⟨rfl, same⟩⟩
theorem i_vc_chainSteps {k : Nat} {u : SX} {v : SY} (I : i_Rel k u v) (hk : k + 3 ≤ 1539) : wpX_chainSteps (fun r => wpY_chainSteps (fun r' => r' = r ∧ i_Rel (k + 3) u v) v) u := by
  refine zz_el (P := fun u v => wpX_chainSteps (fun r => wpY_chainSteps (fun r' => r' = r ∧ i_Rel (k + 3) u v) v) u) ?_ u v I
  intro K T L cap ne t E B c ls f_rules f_confluence f_agendaTop f_queueSize f_chainLength a_power a_first a_sizes a_buffer a_equationSide a_ruleRight a_next a_fresh a_ruleLeft a_normalForm a_agendaOne a_agendaTwo a_distance a_queue a_chainWord a_chainEquation a_chainSide a_chainPlace y_least y_ruleLeft y_chainWord y_chainStep y_old y_dist y_link y_last hA hX hY hC hN
  have same := zz_in (k := k + 3) (f_queueSize := f_queueSize) (a_distance := a_distance) (a_queue := a_queue) (y_old := y_old) (y_dist := y_dist) (y_link := y_link) (y_last := y_last) hA hX hY hC hN
  unfold wpX_chainSteps; dsimp only
  rcases Classical.em ((0 : Int32) ≤ f_chainLength) with z | z
  · refine br_t z ?_
    unfold wpY_chainSteps; dsimp only
    exact br_t z ⟨rfl, same⟩
  · refine br_f z ?_
    unfold wpY_chainSteps; dsimp only
    exact br_f z ⟨rfl, same⟩
end
section
/-! Rules, counts, chain fields, confluence. -/
theorem cq_con {P : Nat → Prop} {a b : Nat} (h : a ≤ b) (hn : ∀ k, a ≤ k → k < b → ¬ P k) : cq_n P b = cq_n P a := by
  induction b with
  | zero => have : a = 0 := by omega
            rw [this]
  | succ b ih =>
    rcases Nat.lt_or_ge b a with z | z
    · have : a = b + 1 := by omega
      rw [this]
    · show cq_n P b + cq_b (P b) = _
      rw [ih z (fun k h1 h2 => hn k h1 (by omega)), cq_bf (hn b z (by omega))]
      rfl
section
variable {K T L : Nat} {ls : Nat → Nat} {f_letters f_top f_capacity f_level f_count f_taken f_chainN : Int32} {a_buffer a_equation a_least a_ruleLeft a_chainWord a_chainStep a_old a_dist a_link a_last : Nat → Int32}
theorem yr_4 (hr : ∀ w, w < 127 → a_ruleLeft w = yb (rl_red K ls w)) {post : Int32 → Prop} (hp : post (nI (cq_n (fun z => rl_red K ls z) 127))) :
    ∀ d p, p + d = 127 → ∀ n, d < n → wY_ruleCount_4 post f_letters f_top f_capacity f_level f_count f_taken f_chainN a_buffer a_equation a_least a_ruleLeft a_chainWord a_chainStep a_old a_dist a_link a_last n (nI (cq_n (fun z => rl_red K ls z) p)) (nI p) := by
  intro d
  induction d with
  | zero =>
    intro p hpd n hn
    obtain ⟨m, rfl⟩ : ∃ m, n = m + 1 := ⟨n - 1, by omega⟩
    have : p = 127 := by omega
    subst this
    exact br_t (nI_le (a := 127) (by omega) (by omega)) hp
  | succ d ih =>
    intro p hpd n hn
    obtain ⟨m, rfl⟩ : ∃ m, n = m + 1 := ⟨n - 1, by omega⟩
    have e : a_ruleLeft (nI p).toNatClampNeg = yb (rl_red K ls p) := by rw [nI_clamp (by omega)]; exact hr p (by omega)
    have k := ih (p + 1) (by omega) m (by omega)
    refine br_f (nI_ge (b := 127) (by omega) (by decide)) ⟨vp_in_nI (by omega) (by decide), ?_⟩
    rw [e]
    rcases Classical.em (rl_red K ls p) with z | z
    · have ec : cq_n (fun z => rl_red K ls z) (p + 1) = cq_n (fun z => rl_red K ls z) p + 1 := by simp only [cq_n]; rw [cq_bt z]
      rw [ec] at k
      exact br_f (by rw [yb_t z]; decide) (nm_r (nI_1 _) (nm_r (nI_1 p) k))
    · have ec : cq_n (fun z => rl_red K ls z) (p + 1) = cq_n (fun z => rl_red K ls z) p := by simp only [cq_n]; rw [cq_bf z]; rfl
      rw [ec] at k
      exact br_t (by rw [yb_f z]) (nm_r (nI_1 p) k)
theorem yr_15 (hr : ∀ w, w < 127 → a_ruleLeft w = yb (rl_red K ls w)) {x1 x2 : Int32} {post : Int32 → Prop} (h0 : (∀ w, w < 127 → rl_red K ls w → ¬ nI (cq_n (fun z => rl_red K ls z) w) = x1) → post (-1))
    (h1 : ∀ w, w < 127 → rl_red K ls w → nI (cq_n (fun z => rl_red K ls z) w) = x1 → (x2 = 0 → post (nI w)) ∧ (¬ x2 = 0 → post (a_least w))) :
    ∀ d p, p + d = 127 → (∀ w, w < p → rl_red K ls w → ¬ nI (cq_n (fun z => rl_red K ls z) w) = x1) → ∀ n, d < n → wY_ruleCode_15 post x1 x2 f_letters f_top f_capacity f_level f_count f_taken f_chainN a_buffer a_equation a_least a_ruleLeft a_chainWord a_chainStep a_old a_dist a_link a_last n (nI (cq_n (fun z => rl_red K ls z) p)) (nI p) := by
  intro d
  induction d with
  | zero =>
    intro p hpd ho n hn
    obtain ⟨m, rfl⟩ : ∃ m, n = m + 1 := ⟨n - 1, by omega⟩
    have : p = 127 := by omega
    subst this
    exact br_t (nI_le (a := 127) (by omega) (by omega)) (h0 ho)
  | succ d ih =>
    intro p hpd ho n hn
    obtain ⟨m, rfl⟩ : ∃ m, n = m + 1 := ⟨n - 1, by omega⟩
    have e : a_ruleLeft (nI p).toNatClampNeg = yb (rl_red K ls p) := by rw [nI_clamp (by omega)]; exact hr p (by omega)
    have cl : (nI p).toNatClampNeg = p := nI_clamp (by omega)
    refine br_f (nI_ge (b := 127) (by omega) (by decide)) ⟨vp_in_nI (by omega) (by decide), ?_⟩
    rw [e]
    rcases Classical.em (rl_red K ls p) with z | z
    · have ec : cq_n (fun z => rl_red K ls z) (p + 1) = cq_n (fun z => rl_red K ls z) p + 1 := by simp only [cq_n]; rw [cq_bt z]
      refine br_f (by rw [yb_t z]; decide) ?_
      rcases Classical.em (nI (cq_n (fun z => rl_red K ls z) p) = x1) with y | y
      · have k := h1 p (by omega) z y
        refine br_t y ?_
        rw [cl]
        exact ⟨k.1, fun q => ⟨vp_in_nI (by omega) (by decide), k.2 q⟩⟩
      · have k := ih (p + 1) (by omega) (fun w hw hr' => by
          rcases Nat.lt_or_ge w p with q | q
          · exact ho w q hr'
          · have : w = p := by omega
            rw [this]; exact y) m (by omega)
        rw [ec] at k
        exact br_f y (nm_r (nI_1 _) (nm_r (nI_1 p) k))
    · have ec : cq_n (fun z => rl_red K ls z) (p + 1) = cq_n (fun z => rl_red K ls z) p := by simp only [cq_n]; rw [cq_bf z]; rfl
      have k := ih (p + 1) (by omega) (fun w hw hr' => by
          rcases Nat.lt_or_ge w p with q | q
          · exact ho w q hr'
          · have : w = p := by omega
            rw [this] at hr'; exact absurd hr' z) m (by omega)
      rw [ec] at k
      exact br_t (by rw [yb_f z]) (nm_r (nI_1 p) k)
theorem yr_18 (hK : tb_K K T) (hg : yl_g ls a_least) (hb : ∀ w, w < 127 → ls w < 127) {len : Nat} (hlen : len < 2 ^ 31) {post : Int32 → Prop} (hp : post (nI (cq_n (fun z => ww_n K z = len ∧ ls z = z) 127))) :
    ∀ d p, p + d = 127 → ∀ n, d < n → wY_irreducibles_18 post (nI len) (nI K) f_top f_capacity f_level f_count f_taken f_chainN a_buffer a_equation a_least a_ruleLeft a_chainWord a_chainStep a_old a_dist a_link a_last n (nI (cq_n (fun z => ww_n K z = len ∧ ls z = z) p)) (nI p) := by
  intro d
  induction d with
  | zero =>
    intro p hpd n hn
    obtain ⟨m, rfl⟩ : ∃ m, n = m + 1 := ⟨n - 1, by omega⟩
    have : p = 127 := by omega
    subst this
    exact br_t (nI_le (a := 127) (by omega) (by omega)) hp
  | succ d ih =>
    intro p hpd n hn
    obtain ⟨m, rfl⟩ : ∃ m, n = m + 1 := ⟨n - 1, by omega⟩
    have e : a_least (nI p).toNatClampNeg = nI (ls p) := by rw [nI_clamp (by omega)]; exact hg p (by omega)
    have k := ih (p + 1) (by omega) m (by omega)
    have bp := hb p (by omega)
    have n6 := tb_n6 hK (show p < 127 by omega)
    refine br_f (nI_ge (b := 127) (by omega) (by decide)) (yl_len hK (tb_big hK (by omega)) ?_)
    have no : ¬ (ww_n K p = len ∧ ls p = p) → ∀ x3 : Int32, x3 = nI p + 1 → wY_irreducibles_18 post (nI len) (nI K) f_top f_capacity f_level f_count f_taken f_chainN a_buffer a_equation a_least a_ruleLeft a_chainWord a_chainStep a_old a_dist a_link a_last m (nI (cq_n (fun z => ww_n K z = len ∧ ls z = z) p)) x3 := by
      intro z
      have ec : cq_n (fun z => ww_n K z = len ∧ ls z = z) (p + 1) = cq_n (fun z => ww_n K z = len ∧ ls z = z) p := by simp only [cq_n]; rw [cq_bf z]; rfl
      rw [ec] at k
      exact nm_r (nI_1 p) k
    refine pk_eq (ww_n K p) len (fun e1 => ⟨vp_in_nI (by omega) (by decide), ?_⟩) (fun ne => no (fun q => ne q.1))
    rw [e]
    refine pk_eq (ls p) p (fun e2 => ?_) (fun ne => no (fun q => ne q.2))
    have ec : cq_n (fun z => ww_n K z = len ∧ ls z = z) (p + 1) = cq_n (fun z => ww_n K z = len ∧ ls z = z) p + 1 := by simp only [cq_n]; rw [cq_bt ⟨e1, e2⟩]
    rw [ec] at k
    exact nm_r (nI_1 _) (nm_r (nI_1 p) k)
end
section
variable {K T L : Nat} {ls : Nat → Nat} {f_letters f_topLevel f_capacity f_level f_equations f_taken f_rules f_confluence f_agendaTop f_queueSize f_chainLength : Int32} {a_power a_first a_sizes a_buffer a_equationSide a_ruleRight a_next a_fresh a_ruleLeft a_normalForm a_agendaOne a_agendaTwo a_distance a_queue a_chainWord a_chainEquation a_chainSide a_chainPlace : Nat → Int32}
theorem xr_23 (hK : tb_K K T) (hX : tb_X K a_power a_first a_sizes) (hLT : L ≤ T) (hN : ∀ w, ww_n K w ≤ L → a_normalForm w = nI (ls w)) (hb : ∀ w, w < 127 → ls w < 127) {len : Nat} (hlen : len ≤ L) {post : Int32 → Prop} (hp : post (nI (cq_n (fun z => ww_n K z = len ∧ ls z = z) (ww_f K (len + 1))))) :
    ∀ d p, p + d = ww_f K (len + 1) → ww_f K len ≤ p → ∀ n, d < n → wX_irreducibles_23 post (nI len) f_letters f_topLevel f_capacity f_level f_equations f_taken f_rules f_confluence f_agendaTop f_queueSize f_chainLength a_power a_first a_sizes a_buffer a_equationSide a_ruleRight a_next a_fresh a_ruleLeft a_normalForm a_agendaOne a_agendaTwo a_distance a_queue a_chainWord a_chainEquation a_chainSide a_chainPlace n (nI (cq_n (fun z => ww_n K z = len ∧ ls z = z) p)) (nI p) := by
  have h2 := tb_2 hK
  have hT := tb_T hK
  have cn : ww_f K (len + 1) ≤ 127 := Nat.le_trans (ww_fle h2 (by omega)) (tb_f7 hK).2.2
  have e1 : a_first (nI len + 1).toNatClampNeg = nI (ww_f K (len + 1)) := by rw [nI_1]; exact xt_f hX (by omega)
  have e2 : vp_in (nI len + 1) 16 := by rw [nI_1]; exact vp_in_nI (by omega) (by decide)
  intro d
  induction d with
  | zero =>
    intro p hpd hf n hn
    obtain ⟨m, rfl⟩ : ∃ m, n = m + 1 := ⟨n - 1, by omega⟩
    have : p = ww_f K (len + 1) := by omega
    subst this
    exact And.intro e2 (br_t (by rw [e1]; exact nI_le (Nat.le_refl _) (by omega)) hp)
  | succ d ih =>
    intro p hpd hf n hn
    obtain ⟨m, rfl⟩ : ∃ m, n = m + 1 := ⟨n - 1, by omega⟩
    have np : ww_n K p = len := ww_nu h2 hf (by omega)
    have e : a_normalForm (nI p).toNatClampNeg = nI (ls p) := by rw [nI_clamp (by omega)]; exact hN p (by omega)
    have k := ih (p + 1) (by omega) (by omega) m (by omega)
    have bp := hb p (by omega)
    refine And.intro e2 (br_f (by rw [e1]; exact nI_ge (by omega) (by omega)) ⟨vp_in_nI (by omega) (by decide), ?_⟩)
    rw [e]
    refine pk_eq (ls p) p (fun q => ?_) (fun ne => ?_)
    · have ec : cq_n (fun z => ww_n K z = len ∧ ls z = z) (p + 1) = cq_n (fun z => ww_n K z = len ∧ ls z = z) p + 1 := by simp only [cq_n]; rw [cq_bt ⟨np, q⟩]
      rw [ec] at k
      exact nm_r (nI_1 _) (nm_r (nI_1 p) k)
    · have ec : cq_n (fun z => ww_n K z = len ∧ ls z = z) (p + 1) = cq_n (fun z => ww_n K z = len ∧ ls z = z) p := by simp only [cq_n]; rw [cq_bf (fun q => ne q.2)]; rfl
      rw [ec] at k
      exact nm_r (nI_1 p) k
theorem xr_4 (hK : tb_K K T) (hX : tb_X K a_power a_first a_sizes) (hLT : L ≤ T) (hN : ∀ w, ww_n K w ≤ L → a_normalForm w = nI (ls w)) (hb : ∀ w, w < 127 → ls w < 127) {len : Nat} (hlen : len ≤ L) {post : Int32 → Prop} (hp : post (nI (cq_n (fun z => ls z = z) (ww_f K (len + 1))))) :
    ∀ d p, p + d = ww_f K (len + 1) → ∀ n, d < n → wX_irreducibleUpTo_4 post (nI len) f_letters f_topLevel f_capacity f_level f_equations f_taken f_rules f_confluence f_agendaTop f_queueSize f_chainLength a_power a_first a_sizes a_buffer a_equationSide a_ruleRight a_next a_fresh a_ruleLeft a_normalForm a_agendaOne a_agendaTwo a_distance a_queue a_chainWord a_chainEquation a_chainSide a_chainPlace n (nI (cq_n (fun z => ls z = z) p)) (nI p) := by
  have h2 := tb_2 hK
  have hT := tb_T hK
  have cn : ww_f K (len + 1) ≤ 127 := Nat.le_trans (ww_fle h2 (by omega)) (tb_f7 hK).2.2
  have e1 : a_first (nI len + 1).toNatClampNeg = nI (ww_f K (len + 1)) := by rw [nI_1]; exact xt_f hX (by omega)
  have e2 : vp_in (nI len + 1) 16 := by rw [nI_1]; exact vp_in_nI (by omega) (by decide)
  intro d
  induction d with
  | zero =>
    intro p hpd n hn
    obtain ⟨m, rfl⟩ : ∃ m, n = m + 1 := ⟨n - 1, by omega⟩
    have : p = ww_f K (len + 1) := by omega
    subst this
    exact And.intro e2 (br_t (by rw [e1]; exact nI_le (Nat.le_refl _) (by omega)) hp)
  | succ d ih =>
    intro p hpd n hn
    obtain ⟨m, rfl⟩ : ∃ m, n = m + 1 := ⟨n - 1, by omega⟩
    have np : ww_n K p ≤ len := (ww_nle h2).mpr (by omega)
    have e : a_normalForm (nI p).toNatClampNeg = nI (ls p) := by rw [nI_clamp (by omega)]; exact hN p (by omega)
    have k := ih (p + 1) (by omega) m (by omega)
    have bp := hb p (by omega)
    refine And.intro e2 (br_f (by rw [e1]; exact nI_ge (by omega) (by omega)) ⟨vp_in_nI (by omega) (by decide), ?_⟩)
    rw [e]
    refine pk_eq (ls p) p (fun q => ?_) (fun ne => ?_)
    · have ec : cq_n (fun z => ls z = z) (p + 1) = cq_n (fun z => ls z = z) p + 1 := by simp only [cq_n]; rw [cq_bt q]
      rw [ec] at k
      exact nm_r (nI_1 _) (nm_r (nI_1 p) k)
    · have ec : cq_n (fun z => ls z = z) (p + 1) = cq_n (fun z => ls z = z) p := by simp only [cq_n]; rw [cq_bf ne]; rfl
      rw [ec] at k
      exact nm_r (nI_1 p) k
theorem xr_up (hK : tb_K K T) (hX : tb_X K a_power a_first a_sizes) (hLT : L ≤ T) (hN : ∀ w, ww_n K w ≤ L → a_normalForm w = nI (ls w)) (hb : ∀ w, w < 127 → ls w < 127) {len : Nat} (hlen : len ≤ L) {post : Int32 → Prop} (hp : post (nI (cq_n (fun z => ls z = z) (ww_f K (len + 1))))) :
    wpX_irreducibleUpTo post (f_letters, f_topLevel, f_capacity, f_level, f_equations, f_taken, f_rules, f_confluence, f_agendaTop, f_queueSize, f_chainLength, a_power, a_first, a_sizes, a_buffer, a_equationSide, a_ruleRight, a_next, a_fresh, a_ruleLeft, a_normalForm, a_agendaOne, a_agendaTwo, a_distance, a_queue, a_chainWord, a_chainEquation, a_chainSide, a_chainPlace) (nI len) := by
  unfold wpX_irreducibleUpTo
  exact ⟨ww_f K (len + 1) + 1, xr_4 hK hX hLT hN hb hlen hp (ww_f K (len + 1)) 0 (by omega) _ (by omega)⟩
end
theorem i_vc_ruleCount {k : Nat} {u : SX} {v : SY} (I : i_Rel k u v) (hk : k + 3 ≤ 1539) : wpX_ruleCount (fun r => wpY_ruleCount (fun r' => r' = r ∧ i_Rel (k + 3) u v) v) u := by
  refine zz_el (P := fun u v => wpX_ruleCount (fun r => wpY_ruleCount (fun r' => r' = r ∧ i_Rel (k + 3) u v) v) u) ?_ u v I
  intro K T L cap ne t E B c ls f_rules f_confluence f_agendaTop f_queueSize f_chainLength a_power a_first a_sizes a_buffer a_equationSide a_ruleRight a_next a_fresh a_ruleLeft a_normalForm a_agendaOne a_agendaTwo a_distance a_queue a_chainWord a_chainEquation a_chainSide a_chainPlace y_least y_ruleLeft y_chainWord y_chainStep y_old y_dist y_link y_last hA hX hY hC hN
  unfold wpX_ruleCount wpY_ruleCount
  exact ⟨128, yr_4 hY.2.2 ⟨(zz_L hA hX hY).1.symm, zz_in hA hX hY hC hN⟩ 127 0 rfl 128 (by decide)⟩
theorem i_vc_ruleCode {k : Nat} {u : SX} {v : SY} (I : i_Rel k u v) (hk : k + 3 ≤ 1539) (v1 : Int32) (v2 : Int32) : wpX_ruleCode (fun r => wpY_ruleCode (fun r' => r' = r ∧ i_Rel (k + 3) u v) v v1 v2) u v1 v2 := by
  refine zz_el (P := fun u v => wpX_ruleCode (fun r => wpY_ruleCode (fun r' => r' = r ∧ i_Rel (k + 3) u v) v v1 v2) u v1 v2) ?_ u v I
  intro K T L cap ne t E B c ls f_rules f_confluence f_agendaTop f_queueSize f_chainLength a_power a_first a_sizes a_buffer a_equationSide a_ruleRight a_next a_fresh a_ruleLeft a_normalForm a_agendaOne a_agendaTwo a_distance a_queue a_chainWord a_chainEquation a_chainSide a_chainPlace y_least y_ruleLeft y_chainWord y_chainStep y_old y_dist y_link y_last hA hX hY hC hN
  have same := zz_in (k := k + 3) (f_queueSize := f_queueSize) (a_distance := a_distance) (a_queue := a_queue) (y_old := y_old) (y_dist := y_dist) (y_link := y_link) (y_last := y_last) hA hX hY hC hN
  have hL := zz_L hA hX hY
  have c7 := cq_le (fun z => rl_red K ls z) 127
  have lt7 : ∀ w, w < 127 → rl_red K ls w → cq_n (fun z => rl_red K ls z) w < cq_n (fun z => rl_red K ls z) 127 := fun w hw hr => cq_st hw hr
  -- no such rule: the reference answers -1
  have none : (∀ w, w < 127 → rl_red K ls w → ¬ nI (cq_n (fun z => rl_red K ls z) w) = v1) → wpY_ruleCode (fun r' => r' = -1 ∧ i_Rel (k + 3) (nI K, nI T, nI cap, nI L, nI ne, nI t, f_rules, f_confluence, f_agendaTop, f_queueSize, f_chainLength, a_power, a_first, a_sizes, a_buffer, a_equationSide, a_ruleRight, a_next, a_fresh, a_ruleLeft, a_normalForm, a_agendaOne, a_agendaTwo, a_distance, a_queue, a_chainWord, a_chainEquation, a_chainSide, a_chainPlace) (nI K, nI T, nI cap, nI L, nI ne, nI t, f_chainLength, a_buffer, a_equationSide, y_least, y_ruleLeft, y_chainWord, y_chainStep, y_old, y_dist, y_link, y_last)) (nI K, nI T, nI cap, nI L, nI ne, nI t, f_chainLength, a_buffer, a_equationSide, y_least, y_ruleLeft, y_chainWord, y_chainStep, y_old, y_dist, y_link, y_last) v1 v2 := by
    intro hno
    unfold wpY_ruleCode; dsimp only
    rcases zz_sd v2 with ⟨i, hi, rfl⟩ | ⟨n0, n1⟩
    · exact yi_y hi (br_t rfl ⟨128, yr_15 hY.2.2 (fun _ => ⟨rfl, same⟩) (fun w hw hr e => absurd e (hno w hw hr)) 127 0 rfl (fun w h => by omega) 128 (by decide)⟩)
    · exact yi_n n0 n1 (br_f (by decide) ⟨rfl, same⟩)
  unfold wpX_ruleCode; dsimp only
  rcases Classical.em (v1 < 0) with neg | pos
  · refine br_t neg (none (fun w hw hr e => ?_))
    rw [← e] at neg
    exact nI_pos (by have := lt7 w hw hr; omega) neg
  · refine br_f pos ?_
    obtain ⟨x, hx31, rfl⟩ := nI_of pos
    rw [hL.1]
    rcases Nat.lt_or_ge x (cq_n (fun z => rl_red K ls z) 127) with z | z
    · refine br_f (nI_ge z (by omega)) ?_
      obtain ⟨w, w7, wr, we⟩ := cq_sj z
      have el := hL.2 w w7 wr
      rw [we] at el
      have wL := cf_rL (zz_H hA hY) w7 wr
      rcases zz_sd v2 with ⟨i, hi, rfl⟩ | ⟨n0, n1⟩
      · refine xi_y hi (br_f (by decide) ?_)
        rw [nI_clamp hx31, el]
        refine ⟨vp_in_nI (by omega) (by decide), nm_e ?_⟩
        have uq : ∀ w', w' < 127 → rl_red K ls w' → nI (cq_n (fun z => rl_red K ls z) w') = nI x → w' = w := by
          intro w' h7 hr' e
          rw [nI_eq (by have := lt7 w' h7 hr'; omega) hx31] at e
          rcases Nat.lt_trichotomy w' w with q | q | q
          · have := cq_st (P := fun z => rl_red K ls z) q hr'; omega
          · exact q
          · have := cq_st (P := fun z => rl_red K ls z) q wr; omega
        refine pk_eq i 0 (fun e => ?_) (fun ne' => ?_)
        · unfold wpY_ruleCode; dsimp only
          refine yi_y hi (br_t rfl ⟨128, yr_15 hY.2.2 (fun hno => absurd (by rw [we]) (hno w w7 wr)) (fun w' h7 hr' e' => ?_) 127 0 rfl (fun w h => by omega) 128 (by decide)⟩)
          rw [uq w' h7 hr' e']
          exact br_t (by rw [e]; rfl) ⟨rfl, by rw [← hL.1]; exact same⟩
        · rw [nI_clamp (by omega), zz_N hA hX hY w wL]
          refine ⟨vp_in_nI w7 (by decide), ?_⟩
          unfold wpY_ruleCode; dsimp only
          refine yi_y hi (br_t rfl ⟨128, yr_15 hY.2.2 (fun hno => absurd (by rw [we]) (hno w w7 wr)) (fun w' h7 hr' e' => ?_) 127 0 rfl (fun w h => by omega) 128 (by decide)⟩)
          rw [uq w' h7 hr' e', hY.1 w w7]
          exact br_f (fun q => ne' ((nI_eq (by omega) (by omega)).mp q)) ⟨rfl, by rw [← hL.1]; exact same⟩
      · refine xi_n n0 n1 (br_t rfl ?_)
        unfold wpY_ruleCode; dsimp only
        exact yi_n n0 n1 (br_f (by decide) ⟨rfl, by rw [← hL.1]; exact same⟩)
    · refine br_t (nI_le z hx31) ?_
      rw [← hL.1]
      refine none (fun w hw hr e => ?_)
      have := lt7 w hw hr
      rw [nI_eq (by omega) hx31] at e
      omega
theorem i_vc_irreducibles {k : Nat} {u : SX} {v : SY} (I : i_Rel k u v) (hk : k + 3 ≤ 1539) (v1 : Int32) : wpX_irreducibles (fun r => wpY_irreducibles (fun r' => r' = r ∧ i_Rel (k + 3) u v) v v1) u v1 := by
  refine zz_el (P := fun u v => wpX_irreducibles (fun r => wpY_irreducibles (fun r' => r' = r ∧ i_Rel (k + 3) u v) v v1) u v1) ?_ u v I
  intro K T L cap ne t E B c ls f_rules f_confluence f_agendaTop f_queueSize f_chainLength a_power a_first a_sizes a_buffer a_equationSide a_ruleRight a_next a_fresh a_ruleLeft a_normalForm a_agendaOne a_agendaTwo a_distance a_queue a_chainWord a_chainEquation a_chainSide a_chainPlace y_least y_ruleLeft y_chainWord y_chainStep y_old y_dist y_link y_last hA hX hY hC hN
  have same := zz_in (k := k + 3) (f_queueSize := f_queueSize) (a_distance := a_distance) (a_queue := a_queue) (y_old := y_old) (y_dist := y_dist) (y_link := y_link) (y_last := y_last) hA hX hY hC hN
  have hK := hA.1
  have h2 := tb_2 hK
  have hT := tb_T hK
  have hLT := hA.2.2.1
  have hb : ∀ w, w < 127 → ls w < 127 := fun w hw => by have := cf_le (zz_H hA hY) hw; omega
  unfold wpX_irreducibles; dsimp only
  rcases Classical.em (v1 < 0) with neg | pos
  · refine br_t neg ?_
    unfold wpY_irreducibles; dsimp only
    exact br_t neg ⟨rfl, same⟩
  · refine br_f pos ?_
    obtain ⟨x, hx31, rfl⟩ := nI_of pos
    rcases Nat.lt_or_ge L x with z | z
    · refine br_f (nI_ge z hx31) ?_
      unfold wpY_irreducibles; dsimp only
      exact br_f pos (br_f (nI_ge z hx31) ⟨rfl, same⟩)
    · refine br_t (nI_le z (by omega)) ⟨vp_in_nI (by omega) (by decide), nm_r (xt_f hX.1 (n := x) (by omega)) ⟨K ^ x + 1, ?_⟩⟩
      have cn : ww_f K (x + 1) ≤ 127 := Nat.le_trans (ww_fle h2 (by omega)) (tb_f7 hK).2.2
      have c0 : cq_n (fun z => ww_n K z = x ∧ ls z = z) (ww_f K x) = 0 := cq_z (fun w hw q => by have := (ww_nlt h2).mpr hw; omega)
      have key := xr_23 (post := fun r => wpY_irreducibles (fun r' => r' = r ∧ i_Rel (k + 3) (nI K, nI T, nI cap, nI L, nI ne, nI t, f_rules, f_confluence, f_agendaTop, f_queueSize, f_chainLength, a_power, a_first, a_sizes, a_buffer, a_equationSide, a_ruleRight, a_next, a_fresh, a_ruleLeft, a_normalForm, a_agendaOne, a_agendaTwo, a_distance, a_queue, a_chainWord, a_chainEquation, a_chainSide, a_chainPlace) (nI K, nI T, nI cap, nI L, nI ne, nI t, f_chainLength, a_buffer, a_equationSide, y_least, y_ruleLeft, y_chainWord, y_chainStep, y_old, y_dist, y_link, y_last)) (nI K, nI T, nI cap, nI L, nI ne, nI t, f_chainLength, a_buffer, a_equationSide, y_least, y_ruleLeft, y_chainWord, y_chainStep, y_old, y_dist, y_link, y_last) (nI x)) (f_letters := nI K) (f_topLevel := nI T) (f_capacity := nI cap) (f_level := nI L) (f_equations := nI ne) (f_taken := nI t) (f_rules := f_rules) (f_confluence := f_confluence) (f_agendaTop := f_agendaTop) (f_queueSize := f_queueSize) (f_chainLength := f_chainLength) (a_buffer := a_buffer) (a_equationSide := a_equationSide) (a_ruleRight := a_ruleRight) (a_next := a_next) (a_fresh := a_fresh) (a_ruleLeft := a_ruleLeft) (a_agendaOne := a_agendaOne) (a_agendaTwo := a_agendaTwo) (a_distance := a_distance) (a_queue := a_queue) (a_chainWord := a_chainWord) (a_chainEquation := a_chainEquation) (a_chainSide := a_chainSide) (a_chainPlace := a_chainPlace) hK hX.1 hLT (zz_N hA hX hY) hb z ?_ (K ^ x) (ww_f K x) (ww_f1 K x).symm (Nat.le_refl _) _ (Nat.lt_succ_self _)
      · rw [c0] at key; exact key
      · unfold wpY_irreducibles; dsimp only
        refine br_f pos (br_t (nI_le z (by omega)) ⟨128, yr_18 hK hY.1 hb hx31 ⟨?_, same⟩ 127 0 rfl 128 (by decide)⟩)
        rw [cq_con cn (fun w h1 _ q => by have := (ww_nle h2 (n := x)).mp (by omega : ww_n K w ≤ x); omega)]
theorem i_vc_chainField {k : Nat} {u : SX} {v : SY} (I : i_Rel k u v) (hk : k + 3 ≤ 1539) (v1 : Int32) (v2 : Int32) : wpX_chainField (fun r => wpY_chainField (fun r' => r' = r ∧ i_Rel (k + 3) u v) v v1 v2) u v1 v2 := by
  refine zz_el (P := fun u v => wpX_chainField (fun r => wpY_chainField (fun r' => r' = r ∧ i_Rel (k + 3) u v) v v1 v2) u v1 v2) ?_ u v I
  intro K T L cap ne t E B c ls f_rules f_confluence f_agendaTop f_queueSize f_chainLength a_power a_first a_sizes a_buffer a_equationSide a_ruleRight a_next a_fresh a_ruleLeft a_normalForm a_agendaOne a_agendaTwo a_distance a_queue a_chainWord a_chainEquation a_chainSide a_chainPlace y_least y_ruleLeft y_chainWord y_chainStep y_old y_dist y_link y_last hA hX hY hC hN
  have same := zz_in (k := k + 3) (f_queueSize := f_queueSize) (a_distance := a_distance) (a_queue := a_queue) (y_old := y_old) (y_dist := y_dist) (y_link := y_link) (y_last := y_last) hA hX hY hC hN
  unfold wpX_chainField; dsimp only
  rcases hN with e | ⟨m, pw, ps, m7, e, w1, w2, w3⟩
  · have h0 : ¬ (0 : Int32) ≤ f_chainLength := by rw [e]; decide
    refine br_f h0 ?_
    unfold wpY_chainField; dsimp only
    exact br_f h0 ⟨rfl, same⟩
  · have h0 : (0 : Int32) ≤ f_chainLength := by rw [e]; exact nI_pos' (by omega)
    refine br_t h0 ?_
    rcases Classical.em (v2 < 0) with neg | pos
    · refine br_t neg ?_
      unfold wpY_chainField; dsimp only
      exact br_t h0 (br_t neg ⟨rfl, same⟩)
    · refine br_f pos ?_
      rcases Classical.em ((3 : Int32) < v2) with g3 | g3
      · refine br_f (Int32.not_le.mpr g3) ?_
        unfold wpY_chainField; dsimp only
        exact br_t h0 (br_f pos (br_t g3 ⟨rfl, same⟩))
      · refine br_t (Int32.not_lt.mp g3) ?_
        rcases Classical.em ((0 : Int32) ≤ v1) with p0 | p0
        · refine br_t p0 ?_
          obtain ⟨x, hx31, rfl⟩ := nI_of (Int32.not_lt.mpr p0)
          have cx : (nI x).toNatClampNeg = x := nI_clamp hx31
          rcases Classical.em (v2 = 0) with f0 | f0
          · refine br_t f0 ?_
            rcases Classical.em (nI x ≤ f_chainLength) with le | le
            · have xm : x ≤ m := by rw [e, nI_leI hx31 (by omega)] at le; exact le
              refine br_t le ?_
              rw [cx]
              refine ⟨vp_in_nI (by omega) (by decide), ?_⟩
              unfold wpY_chainField wY_chainField_43; dsimp only
              refine br_t h0 (br_f pos (br_f g3 (br_t p0 (br_t f0 (br_t le (br_t f0 ?_))))))
              rw [cx]
              exact ⟨vp_in_nI (by omega) (by decide), by rw [(w1 x (by omega)).1, (w1 x (by omega)).2], same⟩
            · refine br_f le ?_
              unfold wpY_chainField wY_chainField_43; dsimp only
              exact br_t h0 (br_f pos (br_f g3 (br_t p0 (br_t f0 (br_f le ⟨rfl, same⟩)))))
          · refine br_f f0 ?_
            rcases Classical.em (nI x ≤ f_chainLength - 1) with le | le
            · have xm : x < m := by
                rcases Nat.eq_zero_or_pos m with z | z
                · rw [e, z] at le
                  exact absurd (Int32.le_trans p0 le) (by decide)
                · rw [e, show (1 : Int32) = nI 1 from rfl, pk_sub z, nI_leI hx31 (by omega)] at le
                  omega
              have q1 := w2 x xm
              have q2 := w3 x xm
              refine br_t le ?_
              rw [cx]
              have wY : ∀ r : Int32, ((v2 = 1 → nI (ps x / 16) = r) ∧ (¬ v2 = 1 → ((v2 = 2 → nI (ps x / 8 % 2) = r) ∧ (¬ v2 = 2 → nI (ps x % 8) = r)))) → wpY_chainField (fun r' => r' = r ∧ i_Rel (k + 3) (nI K, nI T, nI cap, nI L, nI ne, nI t, f_rules, f_confluence, f_agendaTop, f_queueSize, f_chainLength, a_power, a_first, a_sizes, a_buffer, a_equationSide, a_ruleRight, a_next, a_fresh, a_ruleLeft, a_normalForm, a_agendaOne, a_agendaTwo, a_distance, a_queue, a_chainWord, a_chainEquation, a_chainSide, a_chainPlace) (nI K, nI T, nI cap, nI L, nI ne, nI t, f_chainLength, a_buffer, a_equationSide, y_least, y_ruleLeft, y_chainWord, y_chainStep, y_old, y_dist, y_link, y_last)) (nI K, nI T, nI cap, nI L, nI ne, nI t, f_chainLength, a_buffer, a_equationSide, y_least, y_ruleLeft, y_chainWord, y_chainStep, y_old, y_dist, y_link, y_last) (nI x) v2 := by
                intro r hr
                unfold wpY_chainField wY_chainField_43; dsimp only
                refine br_t h0 (br_f pos (br_f g3 (br_t p0 (br_f f0 (br_t le (br_f f0 ?_))))))
                rw [cx, q2.1]
                have d1 : nI (ps x) / 16 = nI (ps x / 16) := pk_div (d := 16) (by omega) (by omega) (by omega)
                have d2 : nI (ps x) / 8 = nI (ps x / 8) := pk_div (d := 8) (by omega) (by omega) (by omega)
                have d3 : nI (ps x / 8) - nI (ps x / 8) / 2 * 2 = nI (ps x / 8 % 2) := pk_rem (d := 2) (by omega) (by omega) (by omega)
                have d4 : nI (ps x) - nI (ps x / 8) * 8 = nI (ps x % 8) := by
                  rw [← d2]; exact pk_rem (d := 8) (by omega) (by omega) (by omega)
                rw [d1, d2, d3, d4]
                refine ⟨fun q => ⟨vp_in_nI (by omega) (by decide), by decide, hr.1 q, same⟩, fun q => ⟨fun q' => ⟨vp_in_nI (by omega) (by decide), by decide, by decide, (hr.2 q).1 q', same⟩, fun q' => ⟨vp_in_nI (by omega) (by decide), by decide, (hr.2 q).2 q', same⟩⟩⟩
              rw [q1.1, q1.2.1, q1.2.2]
              refine ⟨fun q => ⟨vp_in_nI (by omega) (by decide), wY _ (br_t q rfl)⟩, fun q => ⟨fun q' => ⟨vp_in_nI (by omega) (by decide), wY _ (br_f q (br_t q' rfl))⟩, fun q' => ⟨vp_in_nI (by omega) (by decide), wY _ (br_f q (br_f q' rfl))⟩⟩⟩
            · refine br_f le ?_
              unfold wpY_chainField wY_chainField_43; dsimp only
              exact br_t h0 (br_f pos (br_f g3 (br_t p0 (br_f f0 (br_f le ⟨rfl, same⟩)))))
        · refine br_f p0 ?_
          unfold wpY_chainField; dsimp only
          exact br_t h0 (br_f pos (br_f g3 (br_f p0 ⟨rfl, same⟩)))
theorem i_vc_confluent {k : Nat} {u : SX} {v : SY} (I : i_Rel k u v) (hk : k + 3 ≤ 1539) : wpX_confluent (fun r u' => wpY_confluent (fun r' v' => r' = r ∧ i_Rel (k + 3) u' v') v) u := by
  refine zz_el (P := fun u v => wpX_confluent (fun r u' => wpY_confluent (fun r' v' => r' = r ∧ i_Rel (k + 3) u' v') v) u) ?_ u v I
  intro K T L cap ne t E B c ls f_rules f_confluence f_agendaTop f_queueSize f_chainLength a_power a_first a_sizes a_buffer a_equationSide a_ruleRight a_next a_fresh a_ruleLeft a_normalForm a_agendaOne a_agendaTwo a_distance a_queue a_chainWord a_chainEquation a_chainSide a_chainPlace y_least y_ruleLeft y_chainWord y_chainStep y_old y_dist y_link y_last hA hX hY hC hN
  have H := zz_H hA hY
  unfold wpX_confluent; dsimp only
  rcases hC with e | ⟨e, q⟩ | ⟨e, q⟩
  · have h0 : ¬ (0 : Int32) ≤ f_confluence := by rw [e]; decide
    refine br_f h0 ?_
    obtain ⟨rl, hR⟩ := zz_xcL hA hX hY
    have hL := zz_L hA hX hY
    rw [hL.1]
    refine xc_all H hX.1 (zz_N hA hX hY) hR (fun q => ?_) (fun q => ?_)
    · refine br_t rfl ?_
      unfold wX_confluent_20 wX_confluent_23
      refine br_f (by decide) (yc_all H hY.1 hY.2.2 (fun a_last _ => ⟨rfl, ?_⟩) (fun a_last q' => absurd q' q))
      rw [← hL.1]
      exact zz_in hA hX hY (Or.inr (Or.inr ⟨rfl, q⟩)) hN
    · refine br_f (by decide) ?_
      unfold wX_confluent_20 wX_confluent_23
      refine br_t rfl (yc_all H hY.1 hY.2.2 (fun a_last q' => absurd q q') (fun a_last _ => ⟨rfl, ?_⟩))
      rw [← hL.1]
      exact zz_in hA hX hY (Or.inr (Or.inl ⟨rfl, q⟩)) hN
  · subst e
    refine br_t (by decide) ?_
    unfold wX_confluent_23
    exact br_t rfl (yc_all H hY.1 hY.2.2 (fun a_last q' => absurd q q') (fun a_last _ => ⟨rfl, zz_in hA hX hY (Or.inr (Or.inl ⟨rfl, q⟩)) hN⟩))
  · subst e
    refine br_t (by decide) ?_
    unfold wX_confluent_23
    exact br_f (by decide) (yc_all H hY.1 hY.2.2 (fun a_last _ => ⟨rfl, zz_in hA hX hY (Or.inr (Or.inr ⟨rfl, q⟩)) hN⟩) (fun a_last q' => absurd q' q))
end
section
/-! Calls that change the relation: withdraw, step, raise. -/
section
variable {K T L cap ne t : Nat} {E B : Nat → Nat} {a_buffer a_equationSide : Nat → Int32}
theorem zz_E7 (hA : zA K T L cap ne t E B a_buffer a_equationSide) {n : Nat} (hn : n ≤ ne) : ∀ i, i < 2 * n → E i < 127 := fun i hi => tb_127 hA.1 (Nat.le_trans (hA.2.2.2.2.2.2.2.2.2 i (by omega)) hA.2.2.1)
theorem zz_EL (hA : zA K T L cap ne t E B a_buffer a_equationSide) {n : Nat} (hn : n ≤ ne) : ∀ i, i < 2 * n → ww_n K (E i) ≤ L := fun i hi => hA.2.2.2.2.2.2.2.2.2 i (by omega)
theorem zz_A' (hA : zA K T L cap ne t E B a_buffer a_equationSide) {ne' t' : Nat} (h1 : ne' ≤ ne) (h2 : t' ≤ ne') : zA K T L cap ne' t' E B a_buffer a_equationSide := by
  obtain ⟨a1, a2, a3, a4, a5, a6, a7, a8, a9, a10⟩ := hA
  exact ⟨a1, a2, a3, a4, a5, by omega, h2, a8, a9, fun i hi => a10 i (by omega)⟩
/-- the reference's new table, seen by the old function -/
theorem zz_Yk {ls ls' : Nat → Nat} {y_least y_ruleLeft : Nat → Int32} {t' : Nat} (hA : zA K T L cap ne t E B a_buffer a_equationSide) (h : ∀ w, w < 127 → rl_m K L (eq_Q E t') w (ls w)) (h1 : yl_g ls' y_least) (h2 : ∀ w, w < 127 → rl_m K L (eq_Q E t') w (ls' w)) (h3 : ∀ w, w < 127 → y_ruleLeft w = yb (rl_red K ls' w)) : zY K L t' E ls y_least y_ruleLeft := by
  have k := zz_Y' (ls := ls) (ls' := ls') hA (fun w hw => rl_un (h w hw) (h2 w hw)) h1 h3
  exact ⟨k.1, h, k.2⟩
end
theorem i_vc_withdraw {k : Nat} {u : SX} {v : SY} (I : i_Rel k u v) (hk : k + 3 ≤ 1539) : wpX_withdraw (fun r u' => wpY_withdraw (fun r' v' => r' = r ∧ i_Rel (k + 3) u' v') v) u := by
  refine zz_el (P := fun u v => wpX_withdraw (fun r u' => wpY_withdraw (fun r' v' => r' = r ∧ i_Rel (k + 3) u' v') v) u) ?_ u v I
  intro K T L cap ne t E B c ls f_rules f_confluence f_agendaTop f_queueSize f_chainLength a_power a_first a_sizes a_buffer a_equationSide a_ruleRight a_next a_fresh a_ruleLeft a_normalForm a_agendaOne a_agendaTwo a_distance a_queue a_chainWord a_chainEquation a_chainSide a_chainPlace y_least y_ruleLeft y_chainWord y_chainStep y_old y_dist y_link y_last hA hX hY hC hN
  have hA' := hA
  obtain ⟨hK, a2, a3, a4, a5, a6, a7, a8, a9, a10⟩ := hA'
  unfold wpX_withdraw; dsimp only
  cases ne with
  | zero =>
    refine br_t rfl ?_
    unfold wpY_withdraw; dsimp only
    exact br_t rfl ⟨rfl, zz_in hA hX hY hC hN⟩
  | succ n =>
    have e1 : nI (n + 1) - 1 = nI n := nI_pred n
    refine br_f (nI_ne0 (by omega) (by omega)) ?_
    rw [e1]
    refine nm_e ?_
    rcases Nat.lt_or_ge n t with z | z
    · refine br_f (nI_ge z (by omega)) ?_
      refine xk_rb hK hX.1 a3 a9 (by omega) (zz_EL hA (by omega)) ?_
      intro c' f_rules f_agendaTop a_ruleRight a_next a_fresh a_ruleLeft a_normalForm a_agendaOne a_agendaTwo hS
      unfold wpY_withdraw; dsimp only
      refine br_f (nI_ne0 (by omega) (by omega)) ?_
      rw [e1]
      refine nm_e (br_f (nI_ge z (by omega)) ?_)
      unfold wY_withdraw_39
      refine yk_rel hK a3 (by omega) a9 (by omega) (zz_E7 hA (by omega)) ?_
      intro ls' y_least y_ruleLeft g1 g2 g3
      exact ⟨rfl, zz_in (zz_A' hA (by omega) (Nat.le_refl _)) ⟨hX.1, hS⟩ ⟨g1, g2, g3⟩ (Or.inl rfl) (Or.inl rfl)⟩
    · refine br_t (nI_le z (by omega)) ?_
      unfold wpY_withdraw; dsimp only
      refine br_f (nI_ne0 (by omega) (by omega)) ?_
      rw [e1]
      refine nm_e (br_t (nI_le z (by omega)) ?_)
      unfold wY_withdraw_39
      refine yk_rel hK a3 (by omega) a9 (by omega) (zz_E7 hA (by omega)) ?_
      intro ls' y_least y_ruleLeft g1 g2 g3
      exact ⟨rfl, zz_in (zz_A' hA (by omega) z) hX (zz_Yk hA hY.2.1 g1 g2 g3) hC (Or.inl rfl)⟩
/-- one more equation -/
theorem eq_Qs {E : Nat → Nat} {t p q : Nat} (h : eq_Q E (t + 1) p q) : eq_Q E t p q ∨ (p = E (2 * t) ∧ q = E (2 * t + 1)) := by
  obtain ⟨e, he, h1, h2⟩ := h
  rcases Nat.lt_or_ge e t with z | z
  · exact Or.inl ⟨e, z, h1, h2⟩
  · have : e = t := by omega
    subst this
    exact Or.inr ⟨h1, h2⟩
theorem eq_Qm {E : Nat → Nat} {t p q : Nat} (h : eq_Q E t p q) : eq_Q E (t + 1) p q := by
  obtain ⟨e, he, h1, h2⟩ := h
  exact ⟨e, by omega, h1, h2⟩
theorem i_vc_step {k : Nat} {u : SX} {v : SY} (I : i_Rel k u v) (hk : k + 3 ≤ 1539) : wpX_step (fun r u' => wpY_step (fun r' v' => r' = r ∧ i_Rel (k + 3) u' v') v) u := by
  refine zz_el (P := fun u v => wpX_step (fun r u' => wpY_step (fun r' v' => r' = r ∧ i_Rel (k + 3) u' v') v) u) ?_ u v I
  intro K T L cap ne t E B c ls f_rules f_confluence f_agendaTop f_queueSize f_chainLength a_power a_first a_sizes a_buffer a_equationSide a_ruleRight a_next a_fresh a_ruleLeft a_normalForm a_agendaOne a_agendaTwo a_distance a_queue a_chainWord a_chainEquation a_chainSide a_chainPlace y_least y_ruleLeft y_chainWord y_chainStep y_old y_dist y_link y_last hA hX hY hC hN
  have hA' := hA
  obtain ⟨hK, a2, a3, a4, a5, a6, a7, a8, a9, a10⟩ := hA'
  have h2 := tb_2 hK
  unfold wpX_step; dsimp only
  rcases Nat.lt_or_ge t ne with z | z
  · have i0 : (2 : Int32) * nI t + 0 = nI (2 * t) := by
      rw [show (2 : Int32) = nI 2 from rfl, pk_mul, show (0 : Int32) = nI 0 from rfl, nI_add, Nat.add_zero]
    have i0' : (2 : Int32) * nI t = nI (2 * t) := by rw [show (2 : Int32) = nI 2 from rfl, pk_mul]
    have c0 : (nI (2 * t)).toNatClampNeg = 2 * t := nI_clamp (by omega)
    have c1 : (nI (2 * t + 1)).toNatClampNeg = 2 * t + 1 := nI_clamp (by omega)
    have l0 := a10 (2 * t) (by omega)
    have l1 := a10 (2 * t + 1) (by omega)
    have b0 : E (2 * t) < 127 := tb_127 hK (by omega)
    have b1 : E (2 * t + 1) < 127 := tb_127 hK (by omega)
    have s0 := cf_le (zz_H hA hY) b0
    have s1 := cf_le (zz_H hA hY) b1
    have cb0 : (nI (E (2 * t))).toNatClampNeg = E (2 * t) := nI_clamp (by omega)
    have cb1 : (nI (E (2 * t + 1))).toNatClampNeg = E (2 * t + 1) := nI_clamp (by omega)
    have hA1 : zA K T L cap ne (t + 1) E B a_buffer a_equationSide := zz_A' hA (Nat.le_refl _) z
    refine br_t (nI_lt z (by omega)) ?_
    rw [i0, i0', nI_1, c0, c1, a9 _ (by omega), a9 _ (by omega)]
    refine ⟨vp_in_nI (by omega) (by decide), nm_e ⟨vp_in_nI (by omega) (by decide), nm_e (nm_r (nI_1 t) ⟨vp_in_nI b0 (by decide), vp_in_nI b1 (by decide), ?_⟩)⟩⟩
    rw [cb0, cb1, zz_N hA hX hY _ l0, zz_N hA hX hY _ l1]
    refine pk_eq (ls (E (2 * t))) (ls (E (2 * t + 1))) (fun e => ?_) (fun ne' => ?_)
    · -- already related
      unfold wpY_step; dsimp only
      refine br_t (nI_lt z (by omega)) ?_
      rw [i0', nI_1, c0, c1, a9 _ (by omega), a9 _ (by omega)]
      refine ⟨vp_in_nI (by omega) (by decide), nm_e ⟨vp_in_nI (by omega) (by decide), nm_e ⟨vp_in_nI b0 (by decide), vp_in_nI b1 (by decide), ?_⟩⟩⟩
      rw [cb0, cb1, hY.1 _ b0, hY.1 _ b1]
      refine br_t (by rw [e]) ?_
      unfold wY_step_60
      refine nm_r (nI_1 t) (yk_rel hK a3 (by omega) a9 (by omega) (zz_E7 hA1 z) ?_)
      intro ls' y_least y_ruleLeft g1 g2 g3
      have rr : rl_r K L (eq_Q E t) (E (2 * t)) (E (2 * t + 1)) := (rl_me (hY.2.1 _ b0) (hY.2.1 _ b1)).mpr e
      have h' : ∀ w, w < 127 → rl_m K L (eq_Q E (t + 1)) w (ls w) := by
        intro w hw
        refine ⟨rl_mono (Nat.le_refl _) (fun p q h => rl_q (eq_Qm h)) (hY.2.1 w hw).1, fun v hv => (hY.2.1 w hw).2 v (rl_mono (Nat.le_refl _) (fun p q h => ?_) hv)⟩
        rcases eq_Qs h with h | ⟨rfl, rfl⟩
        · exact rl_q h
        · exact rr
      refine br_f (by decide) ⟨rfl, zz_in (c := c) hA1 ⟨hX.1, ?_⟩ (zz_Yk hA h' g1 g2 g3) hC hN⟩
      obtain ⟨x1, x2, x3, x4, x5⟩ := hX.2
      refine ⟨x1, kb_addz h2 a3 x2 (fun p q h => eq_Qm h) (fun p q h => eq_Qs h) l0 l1 ?_, x3, x4, x5⟩
      rw [zz_z hA hX hY l0, zz_z hA hX hY l1, e]
    · -- a new pair
      obtain ⟨x1, x2, x3, x4, x5⟩ := hX.2
      refine xk_push x1 (by omega) ?_
      have kI : kb_I K T L (eq_Q E (t + 1)) (gc_push c (E (2 * t)) (E (2 * t + 1))) := kb_addq x2 (fun p q h => eq_Qm h) (fun p q h => eq_Qs h) ⟨t, by omega, rfl, rfl⟩ l0 l1
      refine xk_complete hK hX.1 a3 (gx_push x1 _ _) kI (by show gc_t c + 1 ≤ 1270; omega) ?_
      intro c' f_rules f_agendaTop a_ruleRight a_next a_fresh a_ruleLeft a_normalForm a_agendaOne a_agendaTwo hS
      unfold wpY_step; dsimp only
      refine br_t (nI_lt z (by omega)) ?_
      rw [i0', nI_1, c0, c1, a9 _ (by omega), a9 _ (by omega)]
      refine ⟨vp_in_nI (by omega) (by decide), nm_e ⟨vp_in_nI (by omega) (by decide), nm_e ⟨vp_in_nI b0 (by decide), vp_in_nI b1 (by decide), ?_⟩⟩⟩
      rw [cb0, cb1, hY.1 _ b0, hY.1 _ b1]
      refine br_f (by rw [nI_eq (by omega) (by omega)]; exact ne') ?_
      unfold wY_step_60
      refine nm_r (nI_1 t) (yk_rel hK a3 (by omega) a9 (by omega) (zz_E7 hA1 z) ?_)
      intro ls' y_least y_ruleLeft g1 g2 g3
      exact br_t rfl ⟨rfl, zz_in hA1 ⟨hX.1, hS⟩ ⟨g1, g2, g3⟩ (Or.inl rfl) hN⟩
  · refine br_f (nI_nlt z (by omega)) ?_
    unfold wpY_step; dsimp only
    exact br_f (nI_nlt z (by omega)) ⟨rfl, zz_in hA hX hY hC hN⟩
/-! raise -/
/-- the rules before the i-th are fresh -/
noncomputable def rz_f (c : GC) (i : Nat) (w : Nat) : Bool := (gc_r c w).isSome && decide (cq_n (fun z => gc_r c z ≠ none) w < i)
section
variable {K T L : Nat} {Q : Nat → Nat → Prop} {c : GC} {a_fresh' : Nat → Int32} {f_letters f_topLevel f_capacity f_equations f_taken f_rules f_confluence f_agendaTop f_queueSize f_chainLength : Int32} {a_power a_first a_sizes a_buffer a_equationSide a_ruleRight a_next a_ruleLeft a_normalForm a_agendaOne a_agendaTwo a_distance a_queue a_chainWord a_chainEquation a_chainSide a_chainPlace : Nat → Int32}
theorem xz_34 (hK : tb_K K T) (hX : tb_X K a_power a_first a_sizes) (hL : L + 1 ≤ T) (hI : kb_I K T L Q c) (ht : gc_t c = 0) (hg : gx c a_ruleRight a_next a_fresh' a_agendaOne a_agendaTwo f_agendaTop) (hN : xs_N K L c f_rules a_ruleLeft a_normalForm) {x1 x2 : Int32} {post : Int32 → SX → Prop}
    (hc : ∀ (c : GC) (f_rules f_agendaTop : Int32) (a_ruleRight a_next a_fresh a_ruleLeft a_normalForm a_agendaOne a_agendaTwo : Nat → Int32), xs_S K T (L + 1) Q c f_rules f_agendaTop a_ruleRight a_next a_fresh a_ruleLeft a_normalForm a_agendaOne a_agendaTwo →
      wpX_irreducibleUpTo (fun r_64 => (x2 ≤ r_64 → post 0 (f_letters, nI T, f_capacity, nI (L + 1), f_equations, f_taken, f_rules, -1, f_agendaTop, f_queueSize, f_chainLength, a_power, a_first, a_sizes, a_buffer, a_equationSide, a_ruleRight, a_next, a_fresh, a_ruleLeft, a_normalForm, a_agendaOne, a_agendaTwo, a_distance, a_queue, a_chainWord, a_chainEquation, a_chainSide, a_chainPlace)) ∧ (¬ x2 ≤ r_64 → post 1 (f_letters, nI T, f_capacity, nI (L + 1), f_equations, f_taken, f_rules, -1, f_agendaTop, f_queueSize, f_chainLength, a_power, a_first, a_sizes, a_buffer, a_equationSide, a_ruleRight, a_next, a_fresh, a_ruleLeft, a_normalForm, a_agendaOne, a_agendaTwo, a_distance, a_queue, a_chainWord, a_chainEquation, a_chainSide, a_chainPlace))) (f_letters, nI T, f_capacity, nI (L + 1), f_equations, f_taken, f_rules, -1, f_agendaTop, f_queueSize, f_chainLength, a_power, a_first, a_sizes, a_buffer, a_equationSide, a_ruleRight, a_next, a_fresh, a_ruleLeft, a_normalForm, a_agendaOne, a_agendaTwo, a_distance, a_queue, a_chainWord, a_chainEquation, a_chainSide, a_chainPlace) x1) :
    ∀ d i, i + d = cq_n (fun z => gc_r c z ≠ none) (ww_f K (L + 1)) → ∀ n, d < n → ∀ a_fresh : Nat → Int32, (∀ w, w < 127 → a_fresh w = ge_b (rz_f c i w)) →
    wX_raise_34 post x1 x2 f_letters (nI T) f_capacity (nI (L + 1)) f_equations f_taken f_rules f_confluence f_agendaTop f_queueSize f_chainLength n (nI i) a_power a_first a_sizes a_buffer a_equationSide a_ruleRight a_next a_fresh a_ruleLeft a_normalForm a_agendaOne a_agendaTwo a_distance a_queue a_chainWord a_chainEquation a_chainSide a_chainPlace := by
  have h2 := tb_2 hK
  have cn : ww_f K (L + 1) ≤ 127 := Nat.le_trans (ww_fle h2 (by omega)) (tb_f7 hK).2.2
  have r7 := cq_le (fun z => gc_r c z ≠ none) (ww_f K (L + 1))
  obtain ⟨n1, n2, n3⟩ := hN
  intro d
  induction d with
  | zero =>
    intro i hi n hn a_fresh hf
    obtain ⟨m, rfl⟩ : ∃ m, n = m + 1 := ⟨n - 1, by omega⟩
    have ei : i = cq_n (fun z => gc_r c z ≠ none) (ww_f K (L + 1)) := by omega
    rw [n2]
    refine br_t (nI_le (by omega) (by omega)) ?_
    have kk : kb_I K T (L + 1) Q (gc_r c, gc_x c, (fun w => (gc_r c w).isSome), gc_1 c, gc_2 c, gc_t c) := kb_up hI rfl rfl ht ht (fun w => by
      show (gc_r c w).isSome = true ↔ _
      cases gc_r c w with
      | none => exact ⟨fun q => (by cases q), fun q => absurd rfl q⟩
      | some r => exact ⟨fun _ q => (by cases q), fun _ => rfl⟩)
    have gg : gx (gc_r c, gc_x c, (fun w => (gc_r c w).isSome), gc_1 c, gc_2 c, gc_t c) a_ruleRight a_next a_fresh a_agendaOne a_agendaTwo f_agendaTop := by
      refine ⟨hg.1, hg.2.1, fun w hw => ?_, hg.2.2.2.1, hg.2.2.2.2.1, hg.2.2.2.2.2⟩
      rw [hf w hw]
      show ge_b (rz_f c i w) = ge_b ((gc_r c w).isSome)
      refine congrArg ge_b ?_
      unfold rz_f
      rcases Option.eq_none_or_eq_some (gc_r c w) with z | ⟨r, z⟩
      · rw [z]; rfl
      · have wl := (ww_nle h2).mp (hI.1 w r z).2.1
        have lt := cq_st (P := fun z => gc_r c z ≠ none) wl (by rw [z]; exact fun q => by cases q)
        rw [decide_eq_true (by omega), Bool.and_true]
    exact xk_complete hK hX hL gg kk (by show gc_t c ≤ 1270; omega) hc
  | succ d ih =>
    intro i hi n hn a_fresh hf
    obtain ⟨m, rfl⟩ : ∃ m, n = m + 1 := ⟨n - 1, by omega⟩
    obtain ⟨z, z1, z2, z3⟩ := cq_sj (show i < cq_n (fun z => gc_r c z ≠ none) (ww_f K (L + 1)) by omega)
    have el := n3 z z1 z2
    rw [z3] at el
    have z7 : z < 127 := by omega
    refine br_f (by rw [n2]; exact nI_ge (by omega) (by omega)) ?_
    rw [nI_clamp (show i < 2 ^ 31 by omega), el, nI_clamp (show z < 2 ^ 31 by omega)]
    refine ⟨vp_in_nI (by omega) (by decide), vp_in_nI z7 (by decide), nm_e (nm_r (nI_1 i) (ih (i + 1) (by omega) m (by omega) _ (fun w hw => ?_)))⟩
    rcases Classical.em (w = z) with q | q
    · subst q
      rw [pk_us]
      have : rz_f c (i + 1) w = true := by
        unfold rz_f
        obtain ⟨r, e⟩ := Option.ne_none_iff_exists'.mp z2
        rw [e, decide_eq_true (by omega)]; rfl
      rw [this]; rfl
    · rw [pk_un q, hf w hw]
      refine congrArg ge_b ?_
      unfold rz_f
      rcases Option.eq_none_or_eq_some (gc_r c w) with y | ⟨r, y⟩
      · rw [y]; rfl
      · have ne : cq_n (fun z => gc_r c z ≠ none) w ≠ i := fun e => by
          have wy : gc_r c w ≠ none := by rw [y]; exact fun q => by cases q
          rcases Nat.lt_trichotomy w z with p | p | p
          · have := cq_st (P := fun z => gc_r c z ≠ none) p wy; omega
          · exact q p
          · have := cq_st (P := fun z => gc_r c z ≠ none) p z2; omega
        have e2 : decide (cq_n (fun z => gc_r c z ≠ none) w < i) = decide (cq_n (fun z => gc_r c z ≠ none) w < i + 1) := by
          rcases Nat.lt_or_ge (cq_n (fun z => gc_r c z ≠ none) w) i with p | p
          · rw [decide_eq_true p, decide_eq_true (by omega)]
          · rw [decide_eq_false (by omega), decide_eq_false (by omega)]
        rw [e2]
end
section
variable {K T L : Nat} {ls old : Nat → Nat} {f_letters f_top f_capacity f_level f_count f_taken f_chainN : Int32} {a_buffer a_equation a_least a_ruleLeft a_chainWord a_chainStep a_old a_dist a_link a_last : Nat → Int32}
theorem yz_72 (hg : yl_g ls a_least) (ho : yl_g old a_old) (hb : ∀ w, w < 127 → ls w < 127 ∧ old w < 127) {N u : Nat} (hN : N ≤ 127) (hu : u < N) {post : Int32 → SY → Prop} {J65 : Int32 → Prop} (h1 : (∃ u v, u < N ∧ v < N ∧ old u ≠ old v ∧ ls u = ls v) → post 1 (f_letters, f_top, f_capacity, f_level, f_count, f_taken, f_chainN, a_buffer, a_equation, a_least, a_ruleLeft, a_chainWord, a_chainStep, a_old, a_dist, a_link, a_last)) :
    ∀ d v, v + d = N → ((∀ v', v ≤ v' → v' < N → old u ≠ old v' → ls u ≠ ls v') → J65 (nI (u + 1))) → ∀ n, d < n → wY_raise_72 post J65 (nI N) (nI u) f_letters f_top f_capacity f_level f_count f_taken f_chainN a_buffer a_equation a_least a_ruleLeft a_chainWord a_chainStep a_old a_dist a_link a_last n (nI v) := by
  intro d
  induction d with
  | zero =>
    intro v hv hc n hn
    obtain ⟨m, rfl⟩ : ∃ m, n = m + 1 := ⟨n - 1, by omega⟩
    exact br_t (nI_le (by omega) (by omega)) (nm_r (nI_1 u) (hc (fun v' q1 q2 => by omega)))
  | succ d ih =>
    intro v hv hc n hn
    obtain ⟨m, rfl⟩ : ∃ m, n = m + 1 := ⟨n - 1, by omega⟩
    have bu := hb u (by omega)
    have bv := hb v (by omega)
    refine br_f (nI_ge (by omega) (by omega)) ⟨vp_in_nI (by omega) (by decide), vp_in_nI (by omega) (by decide), ?_⟩
    rw [nI_clamp (show u < 2 ^ 31 by omega), nI_clamp (show v < 2 ^ 31 by omega), ho u (by omega), ho v (by omega), hg u (by omega), hg v (by omega)]
    have go : (old u ≠ old v → ls u ≠ ls v) → ∀ x3 : Int32, x3 = nI v + 1 → wY_raise_72 post J65 (nI N) (nI u) f_letters f_top f_capacity f_level f_count f_taken f_chainN a_buffer a_equation a_least a_ruleLeft a_chainWord a_chainStep a_old a_dist a_link a_last m x3 := by
      intro q
      refine nm_r (nI_1 v) (ih (v + 1) (by omega) (fun k => hc (fun v' q1 q2 => ?_)) m (by omega))
      rcases Nat.lt_or_ge v v' with z | z
      · exact k v' z q2
      · have : v' = v := by omega
        rw [this]; exact q
    refine pk_eq (old u) (old v) (fun e => go (fun q => absurd e q)) (fun ne => ⟨vp_in_nI (by omega) (by decide), vp_in_nI (by omega) (by decide), pk_eq (ls u) (ls v) (fun e => h1 ⟨u, v, hu, by omega, ne, e⟩) (fun ne' => go (fun _ => ne'))⟩)
theorem yz_65 (hg : yl_g ls a_least) (ho : yl_g old a_old) (hb : ∀ w, w < 127 → ls w < 127 ∧ old w < 127) {N : Nat} (hN : N ≤ 127) {post : Int32 → SY → Prop} (h1 : (∃ u v, u < N ∧ v < N ∧ old u ≠ old v ∧ ls u = ls v) → post 1 (f_letters, f_top, f_capacity, f_level, f_count, f_taken, f_chainN, a_buffer, a_equation, a_least, a_ruleLeft, a_chainWord, a_chainStep, a_old, a_dist, a_link, a_last)) :
    ∀ d u, u + d = N → ((∀ u' v', u ≤ u' → u' < N → v' < N → old u' ≠ old v' → ls u' ≠ ls v') → post 0 (f_letters, f_top, f_capacity, f_level, f_count, f_taken, f_chainN, a_buffer, a_equation, a_least, a_ruleLeft, a_chainWord, a_chainStep, a_old, a_dist, a_link, a_last)) → ∀ n, d < n → wY_raise_65 post (nI N) f_letters f_top f_capacity f_level f_count f_taken f_chainN a_buffer a_equation a_least a_ruleLeft a_chainWord a_chainStep a_old a_dist a_link a_last n (nI u) := by
  intro d
  induction d with
  | zero =>
    intro u hu hc n hn
    obtain ⟨m, rfl⟩ : ∃ m, n = m + 1 := ⟨n - 1, by omega⟩
    exact br_t (nI_le (by omega) (by omega)) (hc (fun u' v' q1 q2 => by omega))
  | succ d ih =>
    intro u hu hc n hn
    obtain ⟨m, rfl⟩ : ∃ m, n = m + 1 := ⟨n - 1, by omega⟩
    refine br_f (nI_ge (by omega) (by omega)) ⟨N + 1, yz_72 hg ho hb hN (by omega) h1 N 0 (by omega) (fun k => ih (u + 1) (by omega) (fun k2 => hc (fun u' v' q1 q2 q3 => ?_)) m (by omega)) _ (by omega)⟩
    rcases Nat.lt_or_ge u u' with z | z
    · exact k2 u' v' z q2 q3
    · have : u' = u := by omega
      rw [this]; exact k v' (Nat.zero_le _) q3
end
section
variable {K T L cap ne t : Nat} {E B : Nat → Nat} {ls ls2 : Nat → Nat}
/-- fewer least words exactly if two old classes are joined -/
theorem rz_cmp {Q : Nat → Nat → Prop} (hK : tb_K K T) (hL : L + 1 ≤ T) (h1 : ∀ w, ww_n K w ≤ L → rl_m K L Q w (ls w)) (h2 : ∀ w, ww_n K w ≤ L + 1 → rl_m K (L + 1) Q w (ls2 w)) :
    cq_n (fun z => ls z = z) (ww_f K (L + 1)) ≤ cq_n (fun z => ls2 z = z) (ww_f K (L + 1)) ↔ ¬ ∃ u v, u < ww_f K (L + 1) ∧ v < ww_f K (L + 1) ∧ ls u ≠ ls v ∧ ls2 u = ls2 v := by
  have k2 := tb_2 hK
  have mo : ∀ u v, rl_r K L Q u v → rl_r K (L + 1) Q u v := fun u v h => rl_mono (Nat.le_succ _) (fun p q e => rl_q e) h
  have l1 : ∀ w, w < ww_f K (L + 1) → ww_n K w ≤ L := fun w hw => (ww_nle k2).mpr hw
  have m1 : ∀ w, w < ww_f K (L + 1) → rl_m K L Q w (ls w) := fun w hw => h1 w (l1 w hw)
  have m2 : ∀ w, w < ww_f K (L + 1) → rl_m K (L + 1) Q w (ls2 w) := fun w hw => h2 w (by have := l1 w hw; omega)
  have sub : ∀ w, w < ww_f K (L + 1) → ls2 w = w → ls w = w := by
    intro w hw e
    have a := rl_mle (m1 w hw)
    have b := (m2 w hw).2 _ (mo _ _ (m1 w hw).1)
    omega
  constructor
  · rintro hle ⟨u, v, hu, hv, ne, e⟩
    have stay : ∀ w, w < ww_f K (L + 1) → ls w = w → ls2 w = w := by
      intro w hw e
      rcases Classical.em (ls2 w = w) with z | z
      · exact z
      · have := cq_lt (P := fun z => ls2 z = z) (Q := fun z => ls z = z) (a := w) z e (fun k hk q => sub k hk q) hw
        omega
    have fix : ∀ x, x < ww_f K (L + 1) → ls2 (ls x) = ls x ∧ ls2 (ls x) = ls2 x := by
      intro x hx
      have a := rl_mle (m1 x hx)
      have lx : ls x < ww_f K (L + 1) := by omega
      have i1 : ls (ls x) = ls x := rl_un (m1 _ lx) (rl_mi (m1 x hx))
      refine ⟨stay _ lx i1, ?_⟩
      exact ((rl_me (m2 x hx) (m2 _ lx)).mp (mo _ _ (m1 x hx).1)).symm
    have a := fix u hu
    have b := fix v hv
    exact ne (by rw [← a.1, ← b.1, a.2, b.2, e])
  · intro hno
    refine cq_mono (fun w hw e => ?_)
    rcases Classical.em (ls2 w = w) with z | z
    · exact z
    · have a := rl_mle (m2 w hw)
      have lx : ls2 w < ww_f K (L + 1) := by omega
      have b := rl_mle (m1 _ lx)
      exact absurd ⟨w, ls2 w, hw, lx, by omega, (rl_un (m2 _ lx) (rl_mi (m2 w hw))).symm⟩ hno
end
end
section
/-! raise, chain. -/
section
variable {K T L t : Nat} {E ls : Nat → Nat} {f_top f_capacity f_count f_chainN : Int32} {a_buffer a_equation a_chainWord a_chainStep a_dist a_link a_last : Nat → Int32}
theorem yz_16 (hK : tb_K K T) (hL : L + 1 ≤ T) (hL0 : 1 ≤ L) (hE : ∀ i, i < 16 → a_equation i = nI (E i)) (ht : t ≤ 8) (hEL : ∀ i, i < 2 * t → E i < 127) {a_least a_ruleLeft : Nat → Int32} (hg : yl_g ls a_least) {post : Int32 → SY → Prop}
    (hc : ∀ (ls' : Nat → Nat) (a_least a_ruleLeft a_old : Nat → Int32), yl_g ls' a_least → yl_g ls a_old → (∀ w, w < 127 → rl_m K (L + 1) (eq_Q E t) w (ls' w)) → (∀ w, w < 127 → a_ruleLeft w = yb (rl_red K ls' w)) →
      ∃ n65, wY_raise_65 post (nI (ww_f K (L + 1))) (nI K) f_top f_capacity (nI (L + 1)) f_count (nI t) f_chainN a_buffer a_equation a_least a_ruleLeft a_chainWord a_chainStep a_old a_dist a_link a_last n65 0) :
    ∀ d j, j + d = 127 → ∀ n, d < n → ∀ a_old : Nat → Int32, (∀ w, w < j → a_old w = nI (ls w)) → wY_raise_16 post (nI K) f_top f_capacity (nI L) f_count (nI t) f_chainN n (nI j) a_buffer a_equation a_least a_ruleLeft a_chainWord a_chainStep a_old a_dist a_link a_last := by
  have hT := tb_T hK
  intro d
  induction d with
  | zero =>
    intro j hj n hn a_old h
    obtain ⟨m, rfl⟩ : ∃ m, n = m + 1 := ⟨n - 1, by omega⟩
    refine br_t (nI_le (a := 127) (by omega) (by omega)) (yl_siz (by omega) (nm_r (nI_1 L) ?_))
    refine yk_rel hK hL (by omega) hE ht hEL ?_
    intro ls' a_least a_ruleLeft g1 g2 g3
    exact hc ls' a_least a_ruleLeft a_old g1 (fun w hw => h w (by omega)) g2 g3
  | succ d ih =>
    intro j hj n hn a_old h
    obtain ⟨m, rfl⟩ : ∃ m, n = m + 1 := ⟨n - 1, by omega⟩
    have cl : (nI j).toNatClampNeg = j := nI_clamp (by omega)
    refine br_f (nI_ge (b := 127) (by omega) (by decide)) ?_
    rw [cl, hg j (by omega)]
    refine ⟨vp_in_nI (by omega) (by decide), vp_in_nI (by omega) (by decide), nm_e (nm_r (nI_1 j) (ih (j + 1) (by omega) m (by omega) _ (fun w hw => ?_)))⟩
    rcases Classical.em (w = j) with q | q
    · subst q; exact pk_us
    · rw [pk_un q]; exact h w (by omega)
end
theorem i_vc_raise {k : Nat} {u : SX} {v : SY} (I : i_Rel k u v) (hk : k + 3 ≤ 1539) : wpX_raise (fun r u' => wpY_raise (fun r' v' => r' = r ∧ i_Rel (k + 3) u' v') v) u := by
  refine zz_el (P := fun u v => wpX_raise (fun r u' => wpY_raise (fun r' v' => r' = r ∧ i_Rel (k + 3) u' v') v) u) ?_ u v I
  intro K T L cap ne t E B c ls f_rules f_confluence f_agendaTop f_queueSize f_chainLength a_power a_first a_sizes a_buffer a_equationSide a_ruleRight a_next a_fresh a_ruleLeft a_normalForm a_agendaOne a_agendaTwo a_distance a_queue a_chainWord a_chainEquation a_chainSide a_chainPlace y_least y_ruleLeft y_chainWord y_chainStep y_old y_dist y_link y_last hA hX hY hC hN
  have hA' := hA
  obtain ⟨hK, a2, a3, a4, a5, a6, a7, a8, a9, a10⟩ := hA'
  have h2 := tb_2 hK
  have hT := tb_T hK
  have hb : ∀ w, w < 127 → ls w < 127 := fun w hw => by have := cf_le (zz_H hA hY) hw; omega
  have cn : ww_f K (L + 1) ≤ 127 := Nat.le_trans (ww_fle h2 (by omega)) (tb_f7 hK).2.2
  have c7 := cq_le (fun z => ls z = z) (ww_f K (L + 1))
  unfold wpX_raise; dsimp only
  rcases Nat.lt_or_ge L T with z | z
  · refine br_t (nI_lt z (by omega)) (xr_up hK hX.1 a3 (zz_N hA hX hY) hb (Nat.le_refl L) (nm_r (nI_1 L) ⟨cq_n (fun z => gc_r c z ≠ none) (ww_f K (L + 1)) + 1, ?_⟩))
    obtain ⟨x1, x2, x3, x4, x5⟩ := hX.2
    refine xz_34 hK hX.1 z x2 x3 x1 x5 ?_ (cq_n (fun z => gc_r c z ≠ none) (ww_f K (L + 1))) 0 (by omega) _ (by omega) a_fresh (fun w hw => ?_)
    · intro c2 f_rules f_agendaTop a_ruleRight a_next a_fresh a_ruleLeft a_normalForm a_agendaOne a_agendaTwo hS
      have hA2 : zA K T (L + 1) cap ne t E B a_buffer a_equationSide := ⟨hK, by omega, z, a4, a5, a6, a7, fun i hi => ⟨(a8 i hi).1, by have := (a8 i hi).2; omega⟩, a9, fun i hi => by have := a10 i hi; omega⟩
      have hX2 : zX K T (L + 1) t E c2 f_rules f_agendaTop a_power a_first a_sizes a_ruleRight a_next a_fresh a_ruleLeft a_normalForm a_agendaOne a_agendaTwo := ⟨hX.1, hS⟩
      have nf := zz_nf0 hA2 hX2
      -- the new least words, as the component has them
      have key : ∃ ls2 : Nat → Nat, (∀ w, ww_n K w ≤ L + 1 → a_normalForm w = nI (ls2 w)) ∧ (∀ w, w < 127 → ls2 w < 127) ∧ (∀ w, ww_n K w ≤ L + 1 → rl_m K (L + 1) (eq_Q E t) w (ls2 w)) := by
        refine ⟨fun w => if ww_n K w ≤ L + 1 then kb_z (gc_x c2) w else w, fun w hw => ?_, fun w hw => ?_, fun w hw => ?_⟩
        · show a_normalForm w = nI (if ww_n K w ≤ L + 1 then kb_z (gc_x c2) w else w)
          rw [if_pos hw]
          exact hS.2.2.2.2.1 w ((ww_nle h2).mp hw)
        · show (if ww_n K w ≤ L + 1 then kb_z (gc_x c2) w else w) < 127
          rcases Classical.em (ww_n K w ≤ L + 1) with q | q
          · rw [if_pos q]; have := nf.2.1 w q; omega
          · rw [if_neg q]; exact hw
        · show rl_m K (L + 1) (eq_Q E t) w (if ww_n K w ≤ L + 1 then kb_z (gc_x c2) w else w)
          rw [if_pos hw]; exact nf.2.2 w hw
      obtain ⟨ls2, k1, k2, k3⟩ := key
      have d7 := cq_le (fun z => ls2 z = z) (ww_f K (L + 1))
      have cmp := rz_cmp hK z (fun w hw => hY.2.1 w (tb_127 hK (by omega))) k3
      -- the reference's turn
      have yy : ∀ r : Int32, ((r = 1 ∧ ∃ u v, u < ww_f K (L + 1) ∧ v < ww_f K (L + 1) ∧ ls u ≠ ls v ∧ ls2 u = ls2 v) ∨ (r = 0 ∧ ¬ ∃ u v, u < ww_f K (L + 1) ∧ v < ww_f K (L + 1) ∧ ls u ≠ ls v ∧ ls2 u = ls2 v)) →
          wpY_raise (fun r' v' => r' = r ∧ i_Rel (k + 3) (nI K, nI T, nI cap, nI (L + 1), nI ne, nI t, f_rules, -1, f_agendaTop, f_queueSize, f_chainLength, a_power, a_first, a_sizes, a_buffer, a_equationSide, a_ruleRight, a_next, a_fresh, a_ruleLeft, a_normalForm, a_agendaOne, a_agendaTwo, a_distance, a_queue, a_chainWord, a_chainEquation, a_chainSide, a_chainPlace) v') (nI K, nI T, nI cap, nI L, nI ne, nI t, f_chainLength, a_buffer, a_equationSide, y_least, y_ruleLeft, y_chainWord, y_chainStep, y_old, y_dist, y_link, y_last) := by
        intro r hr
        unfold wpY_raise; dsimp only
        refine br_t (nI_lt z (by omega)) ⟨128, yz_16 (ls := ls) hK z (by omega) a9 (by omega) (zz_E7 hA a7) hY.1 ?_ 127 0 rfl 128 (by decide) y_old (fun w h => by omega)⟩
        intro ls' y_least y_ruleLeft y_old g1 g2 g3 g4
        have rel := zz_in (k := k + 3) (f_queueSize := f_queueSize) (a_distance := a_distance) (a_queue := a_queue) (y_old := y_old) (y_dist := y_dist) (y_link := y_link) (y_last := y_last) hA2 hX2 (ls := ls') ⟨g1, g3, g4⟩ (Or.inl rfl) hN
        have eq2 : ∀ w, w < ww_f K (L + 1) → ls2 w = ls' w := fun w hw => rl_un (k3 w (by have := (ww_nle h2).mpr hw; omega)) (g3 w (by omega))
        have hb2 : ∀ w, w < 127 → ls' w < 127 ∧ ls w < 127 := fun w hw => ⟨by have := rl_mle (g3 w hw); omega, hb w hw⟩
        refine ⟨ww_f K (L + 1) + 1, yz_65 g1 g2 hb2 cn (fun ex => ?_) (ww_f K (L + 1)) 0 (by omega) (fun no => ?_) _ (by omega)⟩
        · rcases hr with ⟨e, _⟩ | ⟨_, q⟩
          · exact ⟨e.symm, rel⟩
          · obtain ⟨u, v, q1, q2, q3, q4⟩ := ex
            exact absurd ⟨u, v, q1, q2, q3, by rw [eq2 u q1, eq2 v q2]; exact q4⟩ q
        · rcases hr with ⟨_, u, v, q1, q2, q3, q4⟩ | ⟨e, _⟩
          · exact absurd (by rw [← eq2 u q1, ← eq2 v q2]; exact q4) (no u v (Nat.zero_le _) q1 q2 q3)
          · exact ⟨e.symm, rel⟩
      refine xr_up hK hX.1 z k1 k2 (Nat.le_succ L) ?_
      refine pk_le _ _ (fun le => yy 0 (Or.inr ⟨rfl, cmp.mp le⟩)) (fun lt => yy 1 (Or.inl ⟨rfl, ?_⟩))
      rcases Classical.em (∃ u v, u < ww_f K (L + 1) ∧ v < ww_f K (L + 1) ∧ ls u ≠ ls v ∧ ls2 u = ls2 v) with q | q
      · exact q
      · have := cmp.mpr q; omega
    · rw [x1.2.2.1 w hw, x4 w]
      have : rz_f c 0 w = false := by unfold rz_f; rw [decide_eq_false (by omega), Bool.and_false]
      rw [this]
  · refine br_f (nI_nlt z (by omega)) ?_
    unfold wpY_raise; dsimp only
    exact br_f (nI_nlt z (by omega)) ⟨rfl, zz_in hA hX hY hC hN⟩
theorem ge_oj {o : Option Nat} {j : Nat} (hj : j < 127) (ho : ∀ d, o = some d → d < 127) : ge_o o = nI j ↔ o = some j := by
  cases o with
  | none =>
    refine ⟨fun q => ?_, fun q => by cases q⟩
    have q : (-1 : Int32) = nI j := q
    have := congrArg Int32.toInt q
    rw [nI_toInt (by omega)] at this
    have e1 : (-1 : Int32).toInt = -1 := by decide
    omega
  | some d =>
    have := ho d rfl
    refine ⟨fun q => ?_, fun q => by rw [q]; rfl⟩
    have q : nI d = nI j := q
    rw [nI_eq (by omega) (by omega)] at q
    rw [q]
theorem i_vc_chain {k : Nat} {u : SX} {v : SY} (I : i_Rel k u v) (hk : k + 3 ≤ 1539) : wpX_chain (fun r u' => wpY_chain (fun r' v' => r' = r ∧ i_Rel (k + 3) u' v') v) u := by
  refine zz_el (P := fun u v => wpX_chain (fun r u' => wpY_chain (fun r' v' => r' = r ∧ i_Rel (k + 3) u' v') v) u) ?_ u v I
  intro K T L cap ne t E B c ls f_rules f_confluence f_agendaTop f_queueSize f_chainLength a_power a_first a_sizes a_buffer a_equationSide a_ruleRight a_next a_fresh a_ruleLeft a_normalForm a_agendaOne a_agendaTwo a_distance a_queue a_chainWord a_chainEquation a_chainSide a_chainPlace y_least y_ruleLeft y_chainWord y_chainStep y_old y_dist y_link y_last hA hX hY hC hN
  have hA' := hA
  obtain ⟨hK, a2, a3, a4, a5, a6, a7, a8, a9, a10⟩ := hA'
  have h2 := tb_2 hK
  have hT := tb_T hK
  have cn : ww_f K (L + 1) ≤ 127 := Nat.le_trans (ww_fle h2 (by omega)) (tb_f7 hK).2.2
  have q0 := a8 0 (by omega)
  have q1 := a8 1 (by omega)
  have b0 : B 0 < 127 := tb_127 hK (by omega)
  have b1 : B 1 < 127 := tb_127 hK (by omega)
  have s0 := cf_le (zz_H hA hY) b0
  have s1 := cf_le (zz_H hA hY) b1
  have cb0 : (nI (B 0)).toNatClampNeg = B 0 := nI_clamp (by omega)
  have cb1 : (nI (B 1)).toNatClampNeg = B 1 := nI_clamp (by omega)
  have HE : eq_H K T L E t a_equationSide := ⟨hK, a3, by omega, a9, fun i hi => a10 i (by omega)⟩
  -- the reference's chain
  have yc : ∀ (r : Int32) (P : SY → Prop), ls (B 0) = ls (B 1) →
      ((∀ j, ¬ ch_d K L E t (B 1) j (B 0)) → r = -6 ∧ ∀ y_dist y_link : Nat → Int32, P (nI K, nI T, nI cap, nI L, nI ne, nI t, -1, a_buffer, a_equationSide, y_least, y_ruleLeft, y_chainWord, y_chainStep, y_old, y_dist, y_link, y_last)) →
      (∀ (D : Nat) (pw ps : Nat → Nat) (y_chainWord y_chainStep y_dist y_link : Nat → Int32), D < 127 → ch_d K L E t (B 1) D (B 0) → ch_C K L E t (B 1) D (B 0) pw ps → (∀ k, k < D + 1 → y_chainWord k = nI (pw k)) → (∀ k, k < D → y_chainStep k = nI (ps k)) → r = nI D ∧ P (nI K, nI T, nI cap, nI L, nI ne, nI t, nI D, a_buffer, a_equationSide, y_least, y_ruleLeft, y_chainWord, y_chainStep, y_old, y_dist, y_link, y_last)) →
      wpY_chain (fun r' v' => r' = r ∧ P v') (nI K, nI T, nI cap, nI L, nI ne, nI t, f_chainLength, a_buffer, a_equationSide, y_least, y_ruleLeft, y_chainWord, y_chainStep, y_old, y_dist, y_link, y_last) := by
    intro r P e g6 gD
    unfold wpY_chain; dsimp only
    rw [q0.1, q1.1]
    refine nm_e (nm_e ⟨vp_in_nI b0 (by decide), vp_in_nI b1 (by decide), ?_⟩)
    rw [cb0, cb1, hY.1 _ b0, hY.1 _ b1]
    refine br_t (by rw [e]) (yf_all HE ?_)
    intro y_link hl
    refine yl_siz (by omega) ⟨128, yd_53 HE q1.2 hl b0 (fun no y_dist => ?_) (fun D pw ps cw cs y_dist d7 kd kC k1 k2 => ?_) 127 0 rfl 128 (by decide) _ (fun w h => by omega)⟩
    · have := g6 no
      exact ⟨this.1.symm, this.2 y_dist y_link⟩
    · have := gD D pw ps cw cs y_dist y_link d7 kd kC k1 k2
      exact ⟨this.1.symm, this.2⟩
  unfold wpX_chain; dsimp only
  rw [q0.1, q1.1]
  refine nm_e (nm_e ⟨vp_in_nI b0 (by decide), vp_in_nI b1 (by decide), ?_⟩)
  rw [cb0, cb1, zz_N hA hX hY _ q0.2, zz_N hA hX hY _ q1.2]
  refine pk_eq (ls (B 0)) (ls (B 1)) (fun e => ?_) (fun ne' => ?_)
  · refine xs_me HE hX.1 q1.2 b0 ?_
    intro h dd qq qn f_queueSize a_distance a_queue hbx hI hcond
    dsimp only
    refine ⟨vp_in_nI b0 (by decide), ?_⟩
    rw [hbx.1 _ b0]
    have small : ∀ w d, dd w = some d → d < 127 := fun w d ed => by have := bx_d h2 q1.2 hI ed; omega
    rcases Option.eq_none_or_eq_some (dd (B 0)) with z | ⟨D, z⟩
    · rw [z]
      have hq : h = qn := hcond.elim (fun q => absurd z q) id
      subst hq
      have no : ∀ j, ¬ ch_d K L E t (B 1) j (B 0) := fun j hj => bf_all hI hj z
      refine br_f (by decide) (yc (-6) _ e (fun _ => ⟨rfl, fun y_dist y_link => zz_in hA hX hY hC (Or.inl rfl)⟩) (fun D pw ps cw cs yd yl d7 kd => absurd kd (no D)))
    · have kd := bf_ex hI z
      have D7 := small _ _ z
      rw [z]
      refine br_t (nI_pos' (by omega)) ?_
      refine xc_st HE hX.1 q1.2 b0 D7 kd (by rw [hbx.1 _ b0, z]; rfl) (fun j hj v v7 => ?_) ?_
      · rw [hbx.1 v v7, ge_oj (by omega) (small v)]
        exact bf_end hI z hj
      · intro pw ps a_chainWord a_chainEquation a_chainSide a_chainPlace kC k1 k2
        refine yc (nI D) _ e (fun no => absurd kd (no D)) (fun D' pw' ps' y_chainWord y_chainStep y_dist y_link d7 kd' kC' k1' k2' => ?_)
        have eD := ch_du kd kd'
        subst eD
        have uq := ch_Cu h2 kC kC'
        refine ⟨rfl, zz_in hA hX hY hC (Or.inr ⟨D, pw, ps, D7, rfl, fun i hi => ⟨k1 i hi, ?_⟩, k2, fun i hi => ⟨?_, ?_⟩⟩)⟩
        · rw [k1' i hi, (uq i (by omega)).1]
        · rw [k2' i hi, (uq i (by omega)).2 hi]
        · have := (kC.2 i hi).2.1.1
          omega
  · unfold wpY_chain; dsimp only
    rw [q0.1, q1.1]
    refine nm_e (nm_e ⟨vp_in_nI b0 (by decide), vp_in_nI b1 (by decide), ?_⟩)
    rw [cb0, cb1, hY.1 _ b0, hY.1 _ b1]
    exact br_f (by rw [nI_eq (by omega) (by omega)]; exact ne') ⟨rfl, zz_in hA hX hY hC (Or.inl rfl)⟩
end
section
/-! The constructors. -/
theorem zz_cl (v : Int32) (lo hi : Nat) (h : lo ≤ hi) (h31 : hi < 2 ^ 31) : ∃ n, lo ≤ n ∧ n ≤ hi ∧ ∀ A : Int32 → Prop, A (nI n) → ((nI lo ≤ v → ((v ≤ nI hi → A v) ∧ (¬ v ≤ nI hi → A (nI hi)))) ∧ (¬ nI lo ≤ v → A (nI lo))) := by
  rcases Classical.em (nI lo ≤ v) with z | z
  · rcases Classical.em (v ≤ nI hi) with y | y
    · have p : ¬ v < 0 := Int32.not_lt.mpr (Int32.le_trans (nI_pos' (by omega)) z)
      obtain ⟨n, hn, rfl⟩ := nI_of p
      rw [nI_leI (by omega) hn] at z
      rw [nI_leI hn h31] at y
      exact ⟨n, z, y, fun A a => br_t (nI_le z hn) (br_t (nI_le y h31) a)⟩
    · exact ⟨hi, h, Nat.le_refl _, fun A a => br_t z (br_f y a)⟩
  · exact ⟨lo, Nat.le_refl _, h, fun A a => br_f z a⟩
section
variable {K T L : Nat} {f_capacity f_equations f_taken f_queueSize f_chainLength : Int32} {a_buffer a_equationSide a_agendaOne a_agendaTwo a_distance a_queue a_chainWord a_chainEquation a_chainSide a_chainPlace : Nat → Int32}
theorem xi_287 (hK : tb_K K T) (hL : L ≤ T) {a_power a_first a_ruleRight a_next a_fresh a_ruleLeft a_normalForm : Nat → Int32} {f_rules f_agendaTop f_confluence : Int32} (hp : ∀ n, n < 16 → a_power n = nI (K ^ n)) (hf : ∀ n, n < 16 → a_first n = nI (ww_f K n)) {post : SX → Prop}
    (hc : ∀ (f_rules f_agendaTop : Int32) (a_power a_first a_sizes a_ruleRight a_next a_fresh a_ruleLeft a_normalForm a_agendaOne a_agendaTwo : Nat → Int32), tb_X K a_power a_first a_sizes → xs_S K T L (eq_Q (fun _ => 0) 0) gc_0 f_rules f_agendaTop a_ruleRight a_next a_fresh a_ruleLeft a_normalForm a_agendaOne a_agendaTwo → post (nI K, nI T, f_capacity, nI L, f_equations, f_taken, f_rules, -1, f_agendaTop, f_queueSize, -1, a_power, a_first, a_sizes, a_buffer, a_equationSide, a_ruleRight, a_next, a_fresh, a_ruleLeft, a_normalForm, a_agendaOne, a_agendaTwo, a_distance, a_queue, a_chainWord, a_chainEquation, a_chainSide, a_chainPlace)) :
    ∀ d w, w + d = 127 → ∀ n, d < n → ∀ (l : Nat) (a_sizes : Nat → Int32), ww_f K l ≤ w → w ≤ ww_f K (l + 1) → (∀ z, z < w → a_sizes z = nI (ww_n K z)) →
    wX_init_287 post (nI K) (nI T) f_capacity (nI L) f_equations f_taken f_rules f_confluence f_agendaTop f_queueSize f_chainLength n (nI l) (nI w) a_power a_first a_sizes a_buffer a_equationSide a_ruleRight a_next a_fresh a_ruleLeft a_normalForm a_agendaOne a_agendaTwo a_distance a_queue a_chainWord a_chainEquation a_chainSide a_chainPlace := by
  have h2 := tb_2 hK
  have hT := tb_T hK
  have f7 := (tb_f7 hK).1
  intro d
  induction d with
  | zero =>
    intro w hw n hn l a_sizes h1 h3 hz
    obtain ⟨m, rfl⟩ : ∃ m, n = m + 1 := ⟨n - 1, by omega⟩
    have hX : tb_X K a_power a_first a_sizes := ⟨hp, hf, fun z h => hz z (by omega)⟩
    refine br_t (nI_le (a := 127) (by omega) (by omega)) (xk_cr ?_)
    intro a_ruleRight a_next a_fresh hg
    refine xk_settle hK hX hL hg (fun w _ => Nat.le_refl _) (fun w r e => by cases e) ?_
    intro f_rules a_ruleLeft a_normalForm hN
    refine hc _ _ _ _ _ _ _ _ _ _ _ _ hX ⟨hg, ?_, rfl, fun _ => rfl, hN⟩
    exact kb_nil h2 (fun p q ⟨e, he, _⟩ => by omega) (fun _ => rfl) (fun _ => rfl) (fun _ => rfl) rfl
  | succ d ih =>
    intro w hw n hn l a_sizes h1 h3 hz
    obtain ⟨m, rfl⟩ : ∃ m, n = m + 1 := ⟨n - 1, by omega⟩
    have l7 : l < 7 := by
      rcases Nat.lt_or_ge l 7 with q | q
      · exact q
      · have := ww_fle h2 q; omega
    have cl : (nI w).toNatClampNeg = w := nI_clamp (by omega)
    have e1 : a_first (nI l + 1).toNatClampNeg = nI (ww_f K (l + 1)) := by rw [nI_1, nI_clamp (by omega)]; exact hf _ (by omega)
    have upz : ∀ l', ww_n K w = l' → ∀ z, z < w + 1 → upd a_sizes w (nI l') z = nI (ww_n K z) := by
      intro l' e z hz'
      rcases Classical.em (z = w) with q | q
      · subst q; rw [pk_us, e]
      · rw [pk_un q]; exact hz z (by omega)
    refine br_f (nI_ge (b := 127) (by omega) (by decide)) ⟨by rw [nI_1]; exact vp_in_nI (by omega) (by decide), ?_⟩
    rw [e1, cl]
    have fl1 := tb_f hK (show l + 1 ≤ 15 by omega)
    rcases Nat.lt_or_ge w (ww_f K (l + 1)) with q | q
    · exact br_t (nI_lt q fl1) ⟨vp_in_nI (by omega) (by decide), nm_e (nm_r (nI_1 w) (ih (w + 1) (by omega) m (by omega) l _ (by omega) (by omega) (upz l (ww_nu h2 h1 q))))⟩
    · have f2 := ww_fs h2 (l + 1)
      exact br_f (nI_nlt q (by omega)) (nm_r (nI_1 l) ⟨vp_in_nI (by omega) (by decide), nm_e (nm_r (nI_1 w) (ih (w + 1) (by omega) m (by omega) (l + 1) _ (by omega) (by omega) (upz (l + 1) (ww_nu h2 q (by omega)))))⟩)
theorem xi_221 (hK : tb_K K T) (hL : L ≤ T) {a_sizes a_ruleRight a_next a_fresh a_ruleLeft a_normalForm : Nat → Int32} {f_rules f_agendaTop f_confluence : Int32} {post : SX → Prop}
    (hc : ∀ (f_rules f_agendaTop : Int32) (a_power a_first a_sizes a_ruleRight a_next a_fresh a_ruleLeft a_normalForm a_agendaOne a_agendaTwo : Nat → Int32), tb_X K a_power a_first a_sizes → xs_S K T L (eq_Q (fun _ => 0) 0) gc_0 f_rules f_agendaTop a_ruleRight a_next a_fresh a_ruleLeft a_normalForm a_agendaOne a_agendaTwo → post (nI K, nI T, f_capacity, nI L, f_equations, f_taken, f_rules, -1, f_agendaTop, f_queueSize, -1, a_power, a_first, a_sizes, a_buffer, a_equationSide, a_ruleRight, a_next, a_fresh, a_ruleLeft, a_normalForm, a_agendaOne, a_agendaTwo, a_distance, a_queue, a_chainWord, a_chainEquation, a_chainSide, a_chainPlace)) :
    ∀ d j, j + 1 + d = 16 → ∀ n, d < n → ∀ (a_power a_first : Nat → Int32), (∀ i, i < j + 1 → a_power i = nI (K ^ i)) → (∀ i, i < j + 1 → a_first i = nI (ww_f K i)) →
    wX_init_221 post (nI K) (nI T) f_capacity (nI L) f_equations f_taken f_rules f_confluence f_agendaTop f_queueSize f_chainLength n (nI (j + 1)) a_power a_first a_sizes a_buffer a_equationSide a_ruleRight a_next a_fresh a_ruleLeft a_normalForm a_agendaOne a_agendaTwo a_distance a_queue a_chainWord a_chainEquation a_chainSide a_chainPlace := by
  intro d
  induction d with
  | zero =>
    intro j hj n hn a_power a_first hp hf
    obtain ⟨m, rfl⟩ : ∃ m, n = m + 1 := ⟨n - 1, by omega⟩
    refine br_t (nI_le (a := 16) (by omega) (by omega)) ⟨128, ?_⟩
    exact xi_287 hK hL (fun i hi => hp i (by omega)) (fun i hi => hf i (by omega)) hc 127 0 rfl 128 (by decide) 0 _ (Nat.le_refl _) (Nat.zero_le _) (fun z h => by omega)
  | succ d ih =>
    intro j hj n hn a_power a_first hp hf
    obtain ⟨m, rfl⟩ : ∃ m, n = m + 1 := ⟨n - 1, by omega⟩
    have e1 : nI (j + 1) - 1 = nI j := nI_pred j
    have c0 : (nI j).toNatClampNeg = j := nI_clamp (by omega)
    have c1 : (nI (j + 1)).toNatClampNeg = j + 1 := nI_clamp (by omega)
    have ep : nI (K ^ j) * nI K = nI (K ^ (j + 1)) := by rw [pk_mul, Nat.pow_succ]
    have ef : nI (ww_f K j) * nI K + 1 = nI (ww_f K (j + 1)) := by rw [pk_mul, nI_1]; rfl
    refine br_f (nI_ge (b := 16) (by omega) (by decide)) ?_
    rw [e1, c0, c1, hp j (by omega), hf j (by omega), ep, ef]
    refine ⟨vp_in_nI (by omega) (by decide), vp_in_nI (by omega) (by decide), nm_e ⟨vp_in_nI (by omega) (by decide), vp_in_nI (by omega) (by decide), nm_e (nm_r (nI_1 (j + 1)) (ih (j + 1) (by omega) m (by omega) _ _ (fun i hi => ?_) (fun i hi => ?_)))⟩⟩
    · rcases Classical.em (i = j + 1) with q | q
      · subst q; exact pk_us
      · rw [pk_un q]; exact hp i (by omega)
    · rcases Classical.em (i = j + 1) with q | q
      · subst q; exact pk_us
      · rw [pk_un q]; exact hf i (by omega)
end
section
variable {f_letters f_topLevel f_capacity f_level f_equations f_taken f_rules f_confluence f_agendaTop f_queueSize f_chainLength : Int32} {a_power a_first a_sizes a_buffer a_equationSide a_ruleRight a_next a_fresh a_ruleLeft a_normalForm a_agendaOne a_agendaTwo a_distance a_queue a_chainWord a_chainEquation a_chainSide a_chainPlace : Nat → Int32}
theorem xi_cl {v : Int32} {lo hi n : Nat} (lA : ∀ A : Int32 → Prop, A (nI n) → ((nI lo ≤ v → ((v ≤ nI hi → A v) ∧ (¬ v ≤ nI hi → A (nI hi)))) ∧ (¬ nI lo ≤ v → A (nI lo)))) {post : Int32 → Prop} (h : post (nI n)) : wpX_clamp post (f_letters, f_topLevel, f_capacity, f_level, f_equations, f_taken, f_rules, f_confluence, f_agendaTop, f_queueSize, f_chainLength, a_power, a_first, a_sizes, a_buffer, a_equationSide, a_ruleRight, a_next, a_fresh, a_ruleLeft, a_normalForm, a_agendaOne, a_agendaTwo, a_distance, a_queue, a_chainWord, a_chainEquation, a_chainSide, a_chainPlace) v (nI lo) (nI hi) := by
  unfold wpX_clamp
  exact lA post h
end
section
variable {f_letters f_top f_capacity f_level f_count f_taken f_chainN : Int32} {a_buffer a_equation a_least a_ruleLeft a_chainWord a_chainStep a_old a_dist a_link a_last : Nat → Int32}
theorem yi_111 {v x3 : Int32} {T n : Nat} (lA : ∀ A : Int32 → Prop, A (nI n) → ((nI 2 ≤ v → ((v ≤ nI T → A v) ∧ (¬ v ≤ nI T → A (nI T)))) ∧ (¬ nI 2 ≤ v → A (nI 2)))) {post : SY → Prop} (h : wY_init_140 post x3 (nI n) f_letters (nI T) f_capacity f_level f_count f_taken f_chainN a_buffer a_equation a_least a_ruleLeft a_chainWord a_chainStep a_old a_dist a_link a_last) : wY_init_111 post v x3 (nI T) f_letters f_top f_capacity f_level f_count f_taken f_chainN a_buffer a_equation a_least a_ruleLeft a_chainWord a_chainStep a_old a_dist a_link a_last := by
  unfold wY_init_111
  exact lA (fun r => wY_init_140 post x3 r f_letters (nI T) f_capacity f_level f_count f_taken f_chainN a_buffer a_equation a_least a_ruleLeft a_chainWord a_chainStep a_old a_dist a_link a_last) h
theorem yi_140 {v z0 : Int32} {n : Nat} (lA : ∀ A : Int32 → Prop, A (nI n) → ((nI 1 ≤ v → ((v ≤ nI 8 → A v) ∧ (¬ v ≤ nI 8 → A (nI 8)))) ∧ (¬ nI 1 ≤ v → A (nI 1)))) {post : SY → Prop} (h : wY_init_165 post (nI n) f_letters f_top f_capacity z0 f_count f_taken f_chainN a_buffer a_equation a_least a_ruleLeft a_chainWord a_chainStep a_old a_dist a_link a_last) : wY_init_140 post v z0 f_letters f_top f_capacity f_level f_count f_taken f_chainN a_buffer a_equation a_least a_ruleLeft a_chainWord a_chainStep a_old a_dist a_link a_last := by
  unfold wY_init_140
  exact lA (fun r => wY_init_165 post r f_letters f_top f_capacity z0 f_count f_taken f_chainN a_buffer a_equation a_least a_ruleLeft a_chainWord a_chainStep a_old a_dist a_link a_last) h
end
/-- behind the first clamp: one alphabet for both -/
theorem zi_2 {K T : Nat} (hK : tb_K K T) (k0 k1 k2 : Int32)
    (hY : ∀ (post : SY → Prop), wY_init_111 post k1 k2 (nI T) (nI K) 0 0 0 0 0 0 (fun _ => 0) (fun _ => 0) (fun _ => 0) (fun _ => 0) (fun _ => 0) (fun _ => 0) (fun _ => 0) (fun _ => 0) (fun _ => 0) (fun _ => 0) → wpY_init post k0 k1 k2) :
    wX_init_175 (fun u => wpY_init (fun v => i_Rel 3 u v) k0 k1 k2) k1 k2 (nI T) (nI K) 0 0 0 0 0 0 0 0 0 0 (fun _ => 0) (fun _ => 0) (fun _ => 0) (fun _ => 0) (fun _ => 0) (fun _ => 0) (fun _ => 0) (fun _ => 0) (fun _ => 0) (fun _ => 0) (fun _ => 0) (fun _ => 0) (fun _ => 0) (fun _ => 0) (fun _ => 0) (fun _ => 0) (fun _ => 0) (fun _ => 0) := by
  have hT := tb_T hK
  obtain ⟨L, l1, l2, lA⟩ := zz_cl k1 2 T (by omega) (by omega)
  obtain ⟨cap, c1, c2, cA⟩ := zz_cl k2 1 8 (by omega) (by omega)
  unfold wX_init_175
  refine xi_cl lA (xi_cl cA (nm_e (nm_e ⟨16, ?_⟩)))
  refine xi_221 hK l2 ?_ 15 0 rfl 16 (by decide) _ _ (fun i hi => ?_) (fun i hi => ?_)
  · intro f_rules f_agendaTop a_power a_first a_sizes a_ruleRight a_next a_fresh a_ruleLeft a_normalForm a_agendaOne a_agendaTwo hX hS
    refine hY _ ?_
    refine yi_111 lA (yi_140 cA ?_)
    unfold wY_init_165
    refine yk_rel (E := fun _ => 0) (t := 0) hK l2 (by omega) (fun i _ => rfl) (by omega) (fun i hi => by omega) ?_
    intro ls y_least y_ruleLeft g1 g2 g3
    have hA : zA K T L cap 0 0 (fun _ => 0) (fun _ => 0) (fun _ => 0) (fun _ => 0) := ⟨hK, l1, l2, c1, c2, by omega, by omega, fun i _ => ⟨rfl, by rw [ww_n0]; omega⟩, fun i _ => rfl, fun i hi => by omega⟩
    exact zz_in hA ⟨hX, hS⟩ ⟨g1, g2, g3⟩ (Or.inl rfl) (Or.inl rfl)
  · have : i = 0 := by omega
    rw [this, pk_us, Nat.pow_zero]; rfl
  · have : i = 0 := by omega
    rw [this, pk_us]; rfl
theorem i_vc0 (k0 : Int32) (k1 : Int32) (k2 : Int32) : wpX_init (fun u => wpY_init (fun v => i_Rel 3 u v) k0 k1 k2) k0 k1 k2 := by
  rcases Classical.em ((2 : Int32) < k0) with z | z
  · have g : wX_init_175 (fun u => wpY_init (fun v => i_Rel 3 u v) k0 k1 k2) k1 k2 4 3 0 0 0 0 0 0 0 0 0 0 (fun _ => 0) (fun _ => 0) (fun _ => 0) (fun _ => 0) (fun _ => 0) (fun _ => 0) (fun _ => 0) (fun _ => 0) (fun _ => 0) (fun _ => 0) (fun _ => 0) (fun _ => 0) (fun _ => 0) (fun _ => 0) (fun _ => 0) (fun _ => 0) (fun _ => 0) (fun _ => 0) :=
      zi_2 (K := 3) (T := 4) (Or.inr ⟨rfl, rfl⟩) k0 k1 k2 (fun post h => by
        unfold wpY_init wY_init_96
        exact br_t z (br_t z h))
    unfold wpX_init wpX_clamp
    refine br_t (Int32.le_of_lt z) (br_c (fun y => ?_) (fun _ => br_f (by decide) g))
    have e : k0 = 3 := by
      refine Int32.le_antisymm y ?_
      rw [Int32.le_iff_toInt_le]
      rw [Int32.lt_iff_toInt_lt] at z
      have e2 : (2 : Int32).toInt = 2 := by decide
      have e3 : (3 : Int32).toInt = 3 := by decide
      omega
    rw [e]
    rw [e] at g
    exact br_f (by decide) g
  · have g : wX_init_175 (fun u => wpY_init (fun v => i_Rel 3 u v) k0 k1 k2) k1 k2 6 2 0 0 0 0 0 0 0 0 0 0 (fun _ => 0) (fun _ => 0) (fun _ => 0) (fun _ => 0) (fun _ => 0) (fun _ => 0) (fun _ => 0) (fun _ => 0) (fun _ => 0) (fun _ => 0) (fun _ => 0) (fun _ => 0) (fun _ => 0) (fun _ => 0) (fun _ => 0) (fun _ => 0) (fun _ => 0) (fun _ => 0) :=
      zi_2 (K := 2) (T := 6) (Or.inl ⟨rfl, rfl⟩) k0 k1 k2 (fun post h => by
        unfold wpY_init wY_init_96
        exact br_f z (br_f z h))
    unfold wpX_init wpX_clamp
    have le := Int32.not_lt.mp z
    refine br_c (fun y => br_t (Int32.le_trans le (by decide)) ?_) (fun _ => br_t rfl g)
    have e : k0 = 2 := Int32.le_antisymm le y
    rw [e]
    rw [e] at g
    exact br_t rfl g
end
