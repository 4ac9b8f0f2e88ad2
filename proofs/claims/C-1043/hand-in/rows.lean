section
/-! pure rows to paste: stores, nI and lN arithmetic, masks, shifts, narrowing, branches by naturals (pk_le, pk_lt, pk_eq), loops (lp1 .. lp16: the measure of the state; rp1 ..: recursion), negatives. Take what you need -/
theorem pk_us {f : Nat → Int32} {k : Nat} {x : Int32} : upd f k x k = x := if_pos rfl
theorem pk_un {f : Nat → Int32} {k j : Nat} {x : Int32} (h : j ≠ k) : upd f k x j = f j := if_neg h
theorem pk_uLs {f : Nat → Int64} {k : Nat} {x : Int64} : vp_updL f k x k = x := if_pos rfl
theorem pk_uLn {f : Nat → Int64} {k j : Nat} {x : Int64} (h : j ≠ k) : vp_updL f k x j = f j := if_neg h
theorem pk_sub {a b : Nat} (h : b ≤ a) : nI a - nI b = nI (a - b) := by
  obtain ⟨c, rfl⟩ : ∃ c, a = c + b := ⟨a - b, by omega⟩
  rw [← nI_add, Int32.add_sub_cancel, Nat.add_sub_cancel]
theorem pk_m1 (n : Nat) : nI (n + 1) + (-1) = nI n := by
  rw [← nI_1, Int32.add_assoc, show (1 : Int32) + (-1) = 0 from rfl, Int32.add_zero]
theorem pk_mul (a b : Nat) : nI a * nI b = nI (a * b) := (Int32.ofNat_mul a b).symm
theorem pk_div {a d : Nat} (ha : a < 2 ^ 31) (h0 : 0 < d) (hd : d < 2 ^ 31) : nI a / nI d = nI (a / d) := by
  apply Int32.toInt_inj.mp
  rw [lg_idiv_nonneg (by rw [nI_toInt ha]; omega) (by rw [nI_toInt hd]; omega), nI_toInt ha, nI_toInt hd, nI_toInt (Nat.lt_of_le_of_lt (Nat.div_le_self a d) ha)]
  first | rfl | exact (Int.natCast_ediv _ _).symm
theorem pk_rem {a d : Nat} (ha : a < 2 ^ 31) (h0 : 0 < d) (hd : d < 2 ^ 31) : nI a - nI a / nI d * nI d = nI (a % d) := by
  rw [pk_div ha h0 hd, pk_mul, pk_sub (Nat.div_mul_le_self a d)]
  exact congrArg nI (by have := Nat.div_add_mod' a d; omega)
theorem pk_sub_toInt {a b : Nat} (ha : a < 2 ^ 30) (hb : b < 2 ^ 30) : (nI a - nI b).toInt = (a : Int) - b := by
  rw [Int32.toInt_sub, nI_toInt (by omega), nI_toInt (by omega)]
  exact Int.bmod_eq_of_le (by omega) (by omega)
theorem pk_sneg {a b : Nat} (hb : b < 2 ^ 30) (h : a < b) : nI a - nI b < 0 := by
  rw [Int32.lt_iff_toInt_lt, pk_sub_toInt (by omega) hb, show (0 : Int32).toInt = 0 from by decide]
  omega
theorem pk_ix (x : Int32) {n : Nat} (hn : n < 2 ^ 31) : x < 0 ∨ nI n ≤ x ∨ ∃ j : Nat, j < n ∧ x = nI j := by
  by_cases h : x < 0
  · exact Or.inl h
  · obtain ⟨j, hj, rfl⟩ := nI_of h
    by_cases h2 : j < n
    · exact Or.inr (Or.inr ⟨j, h2, rfl⟩)
    · exact Or.inr (Or.inl (nI_le (by omega) hj))
theorem pk_le {x y : Int32} {A B : Prop} (a b : Nat) (f : a ≤ b → A) (g : b < a → B) (hx : x = nI a := by rfl) (hy : y = nI b := by rfl) (ha : a < 2 ^ 31 := by omega) (hb : b < 2 ^ 31 := by omega) : (x ≤ y → A) ∧ (¬ x ≤ y → B) := by
  subst hx hy
  rw [nI_leI ha hb]
  exact ⟨f, fun z => g (by omega)⟩
theorem pk_lt {x y : Int32} {A B : Prop} (a b : Nat) (f : a < b → A) (g : b ≤ a → B) (hx : x = nI a := by rfl) (hy : y = nI b := by rfl) (ha : a < 2 ^ 31 := by omega) (hb : b < 2 ^ 31 := by omega) : (x < y → A) ∧ (¬ x < y → B) := by
  subst hx hy
  rw [nI_ltI ha hb]
  exact ⟨f, fun z => g (by omega)⟩
theorem pk_eq {x y : Int32} {A B : Prop} (a b : Nat) (f : a = b → A) (g : a ≠ b → B) (hx : x = nI a := by rfl) (hy : y = nI b := by rfl) (ha : a < 2 ^ 31 := by omega) (hb : b < 2 ^ 31 := by omega) : (x = y → A) ∧ (¬ x = y → B) := by
  subst hx hy
  rw [nI_eq ha hb]
  exact ⟨f, g⟩
theorem pk_in {x : Int32} (n N : Nat) (h : n < N) (hx : x = nI n := by rfl) (hN : N < 2 ^ 31 := by omega) : vp_in x N := by
  subst hx
  exact vp_in_nI h hN
theorem pk_cl {x : Int32} (n : Nat) (hx : x = nI n := by rfl) (h : n < 2 ^ 31 := by omega) : x.toNatClampNeg = n := by
  subst hx
  exact nI_clamp h
theorem pk_tn {n : Nat} (h : n < 2 ^ 32) : (nI n).toBitVec.toNat = n := Nat.mod_eq_of_lt h
theorem pk_and (x : Int32) {m : Int32} (k : Nat) (hm : m.toBitVec.toNat = 2 ^ k - 1) : x &&& m = nI (x.toBitVec.toNat % 2 ^ k) := by
  apply Int32.toBitVec_inj.mp
  apply BitVec.eq_of_toNat_eq
  rw [Int32.toBitVec_and, BitVec.toNat_and, hm, Nat.and_two_pow_sub_one_eq_mod]
  show _ = (BitVec.ofNat 32 _).toNat
  rw [BitVec.toNat_ofNat]
  exact (Nat.mod_eq_of_lt (Nat.lt_of_le_of_lt (Nat.mod_le _ _) x.toBitVec.isLt)).symm
theorem pk_andN {n : Nat} (h : n < 2 ^ 32) {m : Int32} (k : Nat) (hm : m.toBitVec.toNat = 2 ^ k - 1) : nI n &&& m = nI (n % 2 ^ k) := by
  rw [pk_and _ k hm, pk_tn h]
theorem pk_andE (x : Int32) {m : Int32} (k : Nat) (hm : m.toBitVec.toNat = 2 ^ k - 1) : ∃ j : Nat, j < 2 ^ k ∧ x &&& m = nI j := ⟨_, Nat.mod_lt _ (Nat.two_pow_pos k), pk_and x k hm⟩
theorem pk_andIn (x : Int32) {m : Int32} (k : Nat) (hm : m.toBitVec.toNat = 2 ^ k - 1) (hk : k ≤ 30) : vp_in (x &&& m) (2 ^ k) := by
  obtain ⟨j, hj, e⟩ := pk_andE x k hm
  rw [e]
  exact vp_in_nI hj (Nat.lt_of_le_of_lt (Nat.pow_le_pow_right (by decide) hk) (by decide))
theorem pk_shl (a s : Int32) (k : Nat) (hs : (s.toBitVec.smod 32).toNat = k) : (a <<< s).toBitVec.toNat = a.toBitVec.toNat * 2 ^ k % 2 ^ 32 := by
  show (a.toBitVec <<< (s.toBitVec.smod 32).toNat).toNat = _
  rw [hs, BitVec.toNat_shiftLeft, Nat.shiftLeft_eq]
theorem pk_shlN {n : Nat} (s : Int32) (k : Nat) (hs : (s.toBitVec.smod 32).toNat = k) (h : n * 2 ^ k < 2 ^ 32) : nI n <<< s = nI (n * 2 ^ k) := by
  apply Int32.toBitVec_inj.mp
  apply BitVec.eq_of_toNat_eq
  have hn : n < 2 ^ 32 := Nat.lt_of_le_of_lt (Nat.le_mul_of_pos_right n (Nat.two_pow_pos k)) h
  rw [pk_shl _ _ k hs, pk_tn hn, pk_tn h, Nat.mod_eq_of_lt h]
theorem pk_shr (a s : Int32) (k : Nat) (hs : (s.toBitVec.smod 32).toNat = k) : (a >>> s).toInt = a.toInt >>> k := by
  show (a.toBitVec.sshiftRight (s.toBitVec.smod 32).toNat).toInt = _
  rw [hs, BitVec.toInt_sshiftRight]
  rfl
theorem pk_shrN {n : Nat} (h : n < 2 ^ 31) (s : Int32) (k : Nat) (hs : (s.toBitVec.smod 32).toNat = k) : nI n >>> s = nI (n / 2 ^ k) := by
  apply Int32.toInt_inj.mp
  have h2 : n / 2 ^ k ≤ n := Nat.div_le_self _ _
  rw [pk_shr _ _ k hs, nI_toInt h, nI_toInt (by omega), Int.shiftRight_eq_div_pow]
  rfl
theorem pk_ushr (x s : Int32) (k : Nat) (hs : ((s.toUInt32 &&& Int32.toUInt32 31).toBitVec % 32).toNat = k) : (x.toUInt32 >>> (s.toUInt32 &&& Int32.toUInt32 31)).toInt32.toBitVec.toNat = x.toBitVec.toNat / 2 ^ k := by
  have e : (x.toUInt32 >>> (s.toUInt32 &&& Int32.toUInt32 31)).toInt32.toBitVec = x.toBitVec >>> k := by
    rw [← hs]
    exact UInt32.toBitVec_shiftRight _ _
  rw [e, BitVec.toNat_ushiftRight, Nat.shiftRight_eq_div_pow]
theorem pk_ushrN {n : Nat} (hn : n < 2 ^ 32) (s : Int32) (k : Nat) (hs : ((s.toUInt32 &&& Int32.toUInt32 31).toBitVec % 32).toNat = k) : ((nI n).toUInt32 >>> (s.toUInt32 &&& Int32.toUInt32 31)).toInt32 = nI (n / 2 ^ k) := by
  apply Int32.toBitVec_inj.mp
  apply BitVec.eq_of_toNat_eq
  rw [pk_ushr _ s k hs, pk_tn hn, pk_tn (Nat.lt_of_le_of_lt (Nat.div_le_self _ _) hn)]
theorem pk_nb (z : Int32) : narrow .byte (.int z.toInt8.toInt32) = .int z.toInt8.toInt32 := congrArg Value.int (by simp)
theorem pk_ns (z : Int32) : narrow .short (.int z.toInt16.toInt32) = .int z.toInt16.toInt32 := congrArg Value.int (by simp)
theorem pk_fb (r : Int32) : fits .byte (.int r.toInt8.toInt32) = true := by
  have ⟨a, b⟩ := lg_i2b_range r
  have h1 : (-128 : Int32).toInt = -128 := by decide
  have h2 : (127 : Int32).toInt = 127 := by decide
  simp only [fits, Bool.and_eq_true, decide_eq_true_eq, Int32.le_iff_toInt_le, h1, h2]
  omega
theorem pk_fs (r : Int32) : fits .short (.int r.toInt16.toInt32) = true := by
  have ⟨a, b⟩ := lg_i2s_range r
  have h1 : (-32768 : Int32).toInt = -32768 := by decide
  have h2 : (32767 : Int32).toInt = 32767 := by decide
  simp only [fits, Bool.and_eq_true, decide_eq_true_eq, Int32.le_iff_toInt_le, h1, h2]
  omega
theorem pk_charN {q : Nat} (hq : q < 65536) : narrow .char (.int (nI q)) = .int (nI q) ∧ fits .char (.int (nI q)) = true := by
  constructor
  · have e : (nI q).toUInt32.toUInt16.toUInt32.toInt32 = nI q := by
      apply Int32.toBitVec_inj.mp
      apply BitVec.eq_of_toNat_eq
      show (nI q).toUInt32.toUInt16.toUInt32.toNat = q % 2 ^ 32
      rw [UInt16.toNat_toUInt32, UInt32.toNat_toUInt16, show (nI q).toUInt32.toNat = q % 2 ^ 32 from rfl]
      omega
    exact congrArg Value.int e
  · have a : (0 : Int32) ≤ nI q := nI_pos' (by omega)
    have b : nI q ≤ 65535 := nI_le (b := 65535) (by omega) (by decide)
    show (decide ((0 : Int32) ≤ nI q) && decide (nI q ≤ 65535)) = true
    rw [decide_eq_true a, decide_eq_true b]
    rfl
theorem pk_char (x : Int32) : (x.toUInt32 % 65536).toInt32 = nI (x.toBitVec.toNat % 65536) := by
  apply Int32.toBitVec_inj.mp
  apply BitVec.eq_of_toNat_eq
  rw [pk_tn (by omega)]
  show (x.toUInt32 % 65536).toNat = _
  rw [UInt32.toNat_mod]
  rfl
theorem pk_nc (x : Int32) : narrow .char (.int (x.toUInt32 % 65536).toInt32) = .int (x.toUInt32 % 65536).toInt32 := by
  rw [pk_char]
  exact (pk_charN (Nat.mod_lt _ (by decide))).1
theorem pk_fc (x : Int32) : fits .char (.int (x.toUInt32 % 65536).toInt32) = true := by
  rw [pk_char]
  exact (pk_charN (Nat.mod_lt _ (by decide))).2
theorem pk_vb (z : Int32) : vp_nar .byte z.toInt8.toInt32 = z.toInt8.toInt32 := by rw [vp_nar_byte]; simp
theorem pk_vs (z : Int32) : vp_nar .short z.toInt16.toInt32 = z.toInt16.toInt32 := by rw [vp_nar_short]; simp
theorem pk_vc (z : Int32) : vp_nar .char (z.toUInt32 % 65536).toInt32 = (z.toUInt32 % 65536).toInt32 := Value.int.inj (pk_nc z)
theorem pk_lT {n : Nat} (h : n < 2 ^ 63) : (lN n).toInt = (n : Int) := lg_ofNat_toInt h
theorem pk_lLT {a b : Nat} (ha : a < 2 ^ 63) (hb : b < 2 ^ 63) : lN a < lN b ↔ a < b := by
  rw [Int64.lt_iff_toInt_lt, pk_lT ha, pk_lT hb]; omega
theorem pk_lLE {a b : Nat} (ha : a < 2 ^ 63) (hb : b < 2 ^ 63) : lN a ≤ lN b ↔ a ≤ b := by
  rw [Int64.le_iff_toInt_le, pk_lT ha, pk_lT hb]; omega
theorem pk_lEQ {a b : Nat} (ha : a < 2 ^ 63) (hb : b < 2 ^ 63) : lN a = lN b ↔ a = b := by
  rw [← Int64.toInt_inj, pk_lT ha, pk_lT hb]; omega
theorem pk_lOf {x : Int64} (h : ¬ x < 0) : ∃ k : Nat, k < 2 ^ 63 ∧ x = lN k := by
  rw [Int64.lt_iff_toInt_lt] at h
  have h0 : (0 : Int64).toInt = 0 := by decide
  have hx := Int64.toInt_lt x
  refine ⟨x.toInt.toNat, by omega, Int64.toInt_inj.mp ?_⟩
  rw [pk_lT (by omega)]
  omega
theorem pk_lDiv {a b : Nat} (ha : a < 2 ^ 63) (h0 : 0 < b) (hb : b < 2 ^ 63) : lN a / lN b = lN (a / b) := by
  apply Int64.toInt_inj.mp
  rw [lg_ldiv_nonneg (by rw [pk_lT ha]; omega) (by rw [pk_lT hb]; omega), pk_lT ha, pk_lT hb, pk_lT (Nat.lt_of_le_of_lt (Nat.div_le_self a b) ha)]
  rfl
theorem pk_lRem {a b : Nat} (ha : a < 2 ^ 63) (h0 : 0 < b) (hb : b < 2 ^ 63) : lN a - lN a / lN b * lN b = lN (a % b) := by
  rw [pk_lDiv ha h0 hb, lN_mul, lN_sub (Nat.div_mul_le_self a b)]
  exact congrArg lN (by have := Nat.div_add_mod' a b; omega)
theorem pk_loop {σ : Type} (W : Nat → Nat → σ → Prop) (I : Nat → σ → Prop) (e i0 : Nat) (s : σ) (hi : i0 ≤ e) (h0 : I i0 s) (hx : ∀ n s, I e s → W (n + 1) e s)
    (hs : ∀ n i s, i < e → I i s → (∀ s', I (i + 1) s' → W n (i + 1) s') → W (n + 1) i s) : ∃ n, W n i0 s :=
  ⟨e + 1, loop_i W I e hx hs (e + 1) i0 s hi (by omega) h0⟩
theorem pk_loopD {σ : Type} (W : Nat → Nat → σ → Prop) (I : Nat → σ → Prop) (hx : ∀ n s, I 0 s → W (n + 1) 0 s)
    (hs : ∀ n i s, I (i + 1) s → (∀ s', I i s' → W n i s') → W (n + 1) (i + 1) s) : ∀ (e : Nat) (s : σ), I e s → W (e + 1) e s := by
  intro e
  induction e with
  | zero => exact fun s h => hx 0 s h
  | succ e ih => exact fun s h => hs (e + 1) e s h (fun s' h' => ih s' h')
theorem lp1 {A1 : Type} (W : Nat → A1 → Prop) (I : A1 → Prop) (μ : A1 → Nat) (hs : ∀ (n : Nat) (a1 : A1), I a1 → (∀ (b1 : A1), I b1 → μ b1 < μ a1 → W n b1) → W (n + 1) a1) (a1 : A1) (h : I a1) : ∃ n, W n a1 :=
  loop_m (σ := A1) (fun n s => W n s) (fun s => I s) (fun s => μ s) (fun n s hI hk => hs n s hI (fun b1 h9 hm => hk b1 h9 hm)) a1 h
theorem lp2 {A1 A2 : Type} (W : Nat → A1 → A2 → Prop) (I : A1 → A2 → Prop) (μ : A1 → A2 → Nat) (hs : ∀ (n : Nat) (a1 : A1) (a2 : A2), I a1 a2 → (∀ (b1 : A1) (b2 : A2), I b1 b2 → μ b1 b2 < μ a1 a2 → W n b1 b2) → W (n + 1) a1 a2) (a1 : A1) (a2 : A2) (h : I a1 a2) : ∃ n, W n a1 a2 :=
  loop_m (σ := A1 × A2) (fun n s => W n s.1 s.2) (fun s => I s.1 s.2) (fun s => μ s.1 s.2) (fun n s hI hk => hs n s.1 s.2 hI (fun b1 b2 h9 hm => hk (b1, b2) h9 hm)) (a1, a2) h
theorem lp3 {A1 A2 A3 : Type} (W : Nat → A1 → A2 → A3 → Prop) (I : A1 → A2 → A3 → Prop) (μ : A1 → A2 → A3 → Nat) (hs : ∀ (n : Nat) (a1 : A1) (a2 : A2) (a3 : A3), I a1 a2 a3 → (∀ (b1 : A1) (b2 : A2) (b3 : A3), I b1 b2 b3 → μ b1 b2 b3 < μ a1 a2 a3 → W n b1 b2 b3) → W (n + 1) a1 a2 a3) (a1 : A1) (a2 : A2) (a3 : A3) (h : I a1 a2 a3) : ∃ n, W n a1 a2 a3 :=
  loop_m (σ := A1 × A2 × A3) (fun n s => W n s.1 s.2.1 s.2.2) (fun s => I s.1 s.2.1 s.2.2) (fun s => μ s.1 s.2.1 s.2.2) (fun n s hI hk => hs n s.1 s.2.1 s.2.2 hI (fun b1 b2 b3 h9 hm => hk (b1, b2, b3) h9 hm)) (a1, a2, a3) h
theorem lp4 {A1 A2 A3 A4 : Type} (W : Nat → A1 → A2 → A3 → A4 → Prop) (I : A1 → A2 → A3 → A4 → Prop) (μ : A1 → A2 → A3 → A4 → Nat) (hs : ∀ (n : Nat) (a1 : A1) (a2 : A2) (a3 : A3) (a4 : A4), I a1 a2 a3 a4 → (∀ (b1 : A1) (b2 : A2) (b3 : A3) (b4 : A4), I b1 b2 b3 b4 → μ b1 b2 b3 b4 < μ a1 a2 a3 a4 → W n b1 b2 b3 b4) → W (n + 1) a1 a2 a3 a4) (a1 : A1) (a2 : A2) (a3 : A3) (a4 : A4) (h : I a1 a2 a3 a4) : ∃ n, W n a1 a2 a3 a4 :=
  loop_m (σ := A1 × A2 × A3 × A4) (fun n s => W n s.1 s.2.1 s.2.2.1 s.2.2.2) (fun s => I s.1 s.2.1 s.2.2.1 s.2.2.2) (fun s => μ s.1 s.2.1 s.2.2.1 s.2.2.2) (fun n s hI hk => hs n s.1 s.2.1 s.2.2.1 s.2.2.2 hI (fun b1 b2 b3 b4 h9 hm => hk (b1, b2, b3, b4) h9 hm)) (a1, a2, a3, a4) h
theorem lp5 {A1 A2 A3 A4 A5 : Type} (W : Nat → A1 → A2 → A3 → A4 → A5 → Prop) (I : A1 → A2 → A3 → A4 → A5 → Prop) (μ : A1 → A2 → A3 → A4 → A5 → Nat) (hs : ∀ (n : Nat) (a1 : A1) (a2 : A2) (a3 : A3) (a4 : A4) (a5 : A5), I a1 a2 a3 a4 a5 → (∀ (b1 : A1) (b2 : A2) (b3 : A3) (b4 : A4) (b5 : A5), I b1 b2 b3 b4 b5 → μ b1 b2 b3 b4 b5 < μ a1 a2 a3 a4 a5 → W n b1 b2 b3 b4 b5) → W (n + 1) a1 a2 a3 a4 a5) (a1 : A1) (a2 : A2) (a3 : A3) (a4 : A4) (a5 : A5) (h : I a1 a2 a3 a4 a5) : ∃ n, W n a1 a2 a3 a4 a5 :=
  loop_m (σ := A1 × A2 × A3 × A4 × A5) (fun n s => W n s.1 s.2.1 s.2.2.1 s.2.2.2.1 s.2.2.2.2) (fun s => I s.1 s.2.1 s.2.2.1 s.2.2.2.1 s.2.2.2.2) (fun s => μ s.1 s.2.1 s.2.2.1 s.2.2.2.1 s.2.2.2.2) (fun n s hI hk => hs n s.1 s.2.1 s.2.2.1 s.2.2.2.1 s.2.2.2.2 hI (fun b1 b2 b3 b4 b5 h9 hm => hk (b1, b2, b3, b4, b5) h9 hm)) (a1, a2, a3, a4, a5) h
theorem lp6 {A1 A2 A3 A4 A5 A6 : Type} (W : Nat → A1 → A2 → A3 → A4 → A5 → A6 → Prop) (I : A1 → A2 → A3 → A4 → A5 → A6 → Prop) (μ : A1 → A2 → A3 → A4 → A5 → A6 → Nat) (hs : ∀ (n : Nat) (a1 : A1) (a2 : A2) (a3 : A3) (a4 : A4) (a5 : A5) (a6 : A6), I a1 a2 a3 a4 a5 a6 → (∀ (b1 : A1) (b2 : A2) (b3 : A3) (b4 : A4) (b5 : A5) (b6 : A6), I b1 b2 b3 b4 b5 b6 → μ b1 b2 b3 b4 b5 b6 < μ a1 a2 a3 a4 a5 a6 → W n b1 b2 b3 b4 b5 b6) → W (n + 1) a1 a2 a3 a4 a5 a6) (a1 : A1) (a2 : A2) (a3 : A3) (a4 : A4) (a5 : A5) (a6 : A6) (h : I a1 a2 a3 a4 a5 a6) : ∃ n, W n a1 a2 a3 a4 a5 a6 :=
  loop_m (σ := A1 × A2 × A3 × A4 × A5 × A6) (fun n s => W n s.1 s.2.1 s.2.2.1 s.2.2.2.1 s.2.2.2.2.1 s.2.2.2.2.2) (fun s => I s.1 s.2.1 s.2.2.1 s.2.2.2.1 s.2.2.2.2.1 s.2.2.2.2.2) (fun s => μ s.1 s.2.1 s.2.2.1 s.2.2.2.1 s.2.2.2.2.1 s.2.2.2.2.2) (fun n s hI hk => hs n s.1 s.2.1 s.2.2.1 s.2.2.2.1 s.2.2.2.2.1 s.2.2.2.2.2 hI (fun b1 b2 b3 b4 b5 b6 h9 hm => hk (b1, b2, b3, b4, b5, b6) h9 hm)) (a1, a2, a3, a4, a5, a6) h
theorem lp7 {A1 A2 A3 A4 A5 A6 A7 : Type} (W : Nat → A1 → A2 → A3 → A4 → A5 → A6 → A7 → Prop) (I : A1 → A2 → A3 → A4 → A5 → A6 → A7 → Prop) (μ : A1 → A2 → A3 → A4 → A5 → A6 → A7 → Nat) (hs : ∀ (n : Nat) (a1 : A1) (a2 : A2) (a3 : A3) (a4 : A4) (a5 : A5) (a6 : A6) (a7 : A7), I a1 a2 a3 a4 a5 a6 a7 → (∀ (b1 : A1) (b2 : A2) (b3 : A3) (b4 : A4) (b5 : A5) (b6 : A6) (b7 : A7), I b1 b2 b3 b4 b5 b6 b7 → μ b1 b2 b3 b4 b5 b6 b7 < μ a1 a2 a3 a4 a5 a6 a7 → W n b1 b2 b3 b4 b5 b6 b7) → W (n + 1) a1 a2 a3 a4 a5 a6 a7) (a1 : A1) (a2 : A2) (a3 : A3) (a4 : A4) (a5 : A5) (a6 : A6) (a7 : A7) (h : I a1 a2 a3 a4 a5 a6 a7) : ∃ n, W n a1 a2 a3 a4 a5 a6 a7 :=
  loop_m (σ := A1 × A2 × A3 × A4 × A5 × A6 × A7) (fun n s => W n s.1 s.2.1 s.2.2.1 s.2.2.2.1 s.2.2.2.2.1 s.2.2.2.2.2.1 s.2.2.2.2.2.2) (fun s => I s.1 s.2.1 s.2.2.1 s.2.2.2.1 s.2.2.2.2.1 s.2.2.2.2.2.1 s.2.2.2.2.2.2) (fun s => μ s.1 s.2.1 s.2.2.1 s.2.2.2.1 s.2.2.2.2.1 s.2.2.2.2.2.1 s.2.2.2.2.2.2) (fun n s hI hk => hs n s.1 s.2.1 s.2.2.1 s.2.2.2.1 s.2.2.2.2.1 s.2.2.2.2.2.1 s.2.2.2.2.2.2 hI (fun b1 b2 b3 b4 b5 b6 b7 h9 hm => hk (b1, b2, b3, b4, b5, b6, b7) h9 hm)) (a1, a2, a3, a4, a5, a6, a7) h
theorem lp8 {A1 A2 A3 A4 A5 A6 A7 A8 : Type} (W : Nat → A1 → A2 → A3 → A4 → A5 → A6 → A7 → A8 → Prop) (I : A1 → A2 → A3 → A4 → A5 → A6 → A7 → A8 → Prop) (μ : A1 → A2 → A3 → A4 → A5 → A6 → A7 → A8 → Nat) (hs : ∀ (n : Nat) (a1 : A1) (a2 : A2) (a3 : A3) (a4 : A4) (a5 : A5) (a6 : A6) (a7 : A7) (a8 : A8), I a1 a2 a3 a4 a5 a6 a7 a8 → (∀ (b1 : A1) (b2 : A2) (b3 : A3) (b4 : A4) (b5 : A5) (b6 : A6) (b7 : A7) (b8 : A8), I b1 b2 b3 b4 b5 b6 b7 b8 → μ b1 b2 b3 b4 b5 b6 b7 b8 < μ a1 a2 a3 a4 a5 a6 a7 a8 → W n b1 b2 b3 b4 b5 b6 b7 b8) → W (n + 1) a1 a2 a3 a4 a5 a6 a7 a8) (a1 : A1) (a2 : A2) (a3 : A3) (a4 : A4) (a5 : A5) (a6 : A6) (a7 : A7) (a8 : A8) (h : I a1 a2 a3 a4 a5 a6 a7 a8) : ∃ n, W n a1 a2 a3 a4 a5 a6 a7 a8 :=
  loop_m (σ := A1 × A2 × A3 × A4 × A5 × A6 × A7 × A8) (fun n s => W n s.1 s.2.1 s.2.2.1 s.2.2.2.1 s.2.2.2.2.1 s.2.2.2.2.2.1 s.2.2.2.2.2.2.1 s.2.2.2.2.2.2.2) (fun s => I s.1 s.2.1 s.2.2.1 s.2.2.2.1 s.2.2.2.2.1 s.2.2.2.2.2.1 s.2.2.2.2.2.2.1 s.2.2.2.2.2.2.2) (fun s => μ s.1 s.2.1 s.2.2.1 s.2.2.2.1 s.2.2.2.2.1 s.2.2.2.2.2.1 s.2.2.2.2.2.2.1 s.2.2.2.2.2.2.2) (fun n s hI hk => hs n s.1 s.2.1 s.2.2.1 s.2.2.2.1 s.2.2.2.2.1 s.2.2.2.2.2.1 s.2.2.2.2.2.2.1 s.2.2.2.2.2.2.2 hI (fun b1 b2 b3 b4 b5 b6 b7 b8 h9 hm => hk (b1, b2, b3, b4, b5, b6, b7, b8) h9 hm)) (a1, a2, a3, a4, a5, a6, a7, a8) h
theorem lp9 {A1 A2 A3 A4 A5 A6 A7 A8 A9 : Type} (W : Nat → A1 → A2 → A3 → A4 → A5 → A6 → A7 → A8 → A9 → Prop) (I : A1 → A2 → A3 → A4 → A5 → A6 → A7 → A8 → A9 → Prop) (μ : A1 → A2 → A3 → A4 → A5 → A6 → A7 → A8 → A9 → Nat) (hs : ∀ (n : Nat) (a1 : A1) (a2 : A2) (a3 : A3) (a4 : A4) (a5 : A5) (a6 : A6) (a7 : A7) (a8 : A8) (a9 : A9), I a1 a2 a3 a4 a5 a6 a7 a8 a9 → (∀ (b1 : A1) (b2 : A2) (b3 : A3) (b4 : A4) (b5 : A5) (b6 : A6) (b7 : A7) (b8 : A8) (b9 : A9), I b1 b2 b3 b4 b5 b6 b7 b8 b9 → μ b1 b2 b3 b4 b5 b6 b7 b8 b9 < μ a1 a2 a3 a4 a5 a6 a7 a8 a9 → W n b1 b2 b3 b4 b5 b6 b7 b8 b9) → W (n + 1) a1 a2 a3 a4 a5 a6 a7 a8 a9) (a1 : A1) (a2 : A2) (a3 : A3) (a4 : A4) (a5 : A5) (a6 : A6) (a7 : A7) (a8 : A8) (a9 : A9) (h : I a1 a2 a3 a4 a5 a6 a7 a8 a9) : ∃ n, W n a1 a2 a3 a4 a5 a6 a7 a8 a9 :=
  loop_m (σ := A1 × A2 × A3 × A4 × A5 × A6 × A7 × A8 × A9) (fun n s => W n s.1 s.2.1 s.2.2.1 s.2.2.2.1 s.2.2.2.2.1 s.2.2.2.2.2.1 s.2.2.2.2.2.2.1 s.2.2.2.2.2.2.2.1 s.2.2.2.2.2.2.2.2) (fun s => I s.1 s.2.1 s.2.2.1 s.2.2.2.1 s.2.2.2.2.1 s.2.2.2.2.2.1 s.2.2.2.2.2.2.1 s.2.2.2.2.2.2.2.1 s.2.2.2.2.2.2.2.2) (fun s => μ s.1 s.2.1 s.2.2.1 s.2.2.2.1 s.2.2.2.2.1 s.2.2.2.2.2.1 s.2.2.2.2.2.2.1 s.2.2.2.2.2.2.2.1 s.2.2.2.2.2.2.2.2) (fun n s hI hk => hs n s.1 s.2.1 s.2.2.1 s.2.2.2.1 s.2.2.2.2.1 s.2.2.2.2.2.1 s.2.2.2.2.2.2.1 s.2.2.2.2.2.2.2.1 s.2.2.2.2.2.2.2.2 hI (fun b1 b2 b3 b4 b5 b6 b7 b8 b9 h9 hm => hk (b1, b2, b3, b4, b5, b6, b7, b8, b9) h9 hm)) (a1, a2, a3, a4, a5, a6, a7, a8, a9) h
theorem lp10 {A1 A2 A3 A4 A5 A6 A7 A8 A9 A10 : Type} (W : Nat → A1 → A2 → A3 → A4 → A5 → A6 → A7 → A8 → A9 → A10 → Prop) (I : A1 → A2 → A3 → A4 → A5 → A6 → A7 → A8 → A9 → A10 → Prop) (μ : A1 → A2 → A3 → A4 → A5 → A6 → A7 → A8 → A9 → A10 → Nat) (hs : ∀ (n : Nat) (a1 : A1) (a2 : A2) (a3 : A3) (a4 : A4) (a5 : A5) (a6 : A6) (a7 : A7) (a8 : A8) (a9 : A9) (a10 : A10), I a1 a2 a3 a4 a5 a6 a7 a8 a9 a10 → (∀ (b1 : A1) (b2 : A2) (b3 : A3) (b4 : A4) (b5 : A5) (b6 : A6) (b7 : A7) (b8 : A8) (b9 : A9) (b10 : A10), I b1 b2 b3 b4 b5 b6 b7 b8 b9 b10 → μ b1 b2 b3 b4 b5 b6 b7 b8 b9 b10 < μ a1 a2 a3 a4 a5 a6 a7 a8 a9 a10 → W n b1 b2 b3 b4 b5 b6 b7 b8 b9 b10) → W (n + 1) a1 a2 a3 a4 a5 a6 a7 a8 a9 a10) (a1 : A1) (a2 : A2) (a3 : A3) (a4 : A4) (a5 : A5) (a6 : A6) (a7 : A7) (a8 : A8) (a9 : A9) (a10 : A10) (h : I a1 a2 a3 a4 a5 a6 a7 a8 a9 a10) : ∃ n, W n a1 a2 a3 a4 a5 a6 a7 a8 a9 a10 :=
  loop_m (σ := A1 × A2 × A3 × A4 × A5 × A6 × A7 × A8 × A9 × A10) (fun n s => W n s.1 s.2.1 s.2.2.1 s.2.2.2.1 s.2.2.2.2.1 s.2.2.2.2.2.1 s.2.2.2.2.2.2.1 s.2.2.2.2.2.2.2.1 s.2.2.2.2.2.2.2.2.1 s.2.2.2.2.2.2.2.2.2) (fun s => I s.1 s.2.1 s.2.2.1 s.2.2.2.1 s.2.2.2.2.1 s.2.2.2.2.2.1 s.2.2.2.2.2.2.1 s.2.2.2.2.2.2.2.1 s.2.2.2.2.2.2.2.2.1 s.2.2.2.2.2.2.2.2.2) (fun s => μ s.1 s.2.1 s.2.2.1 s.2.2.2.1 s.2.2.2.2.1 s.2.2.2.2.2.1 s.2.2.2.2.2.2.1 s.2.2.2.2.2.2.2.1 s.2.2.2.2.2.2.2.2.1 s.2.2.2.2.2.2.2.2.2) (fun n s hI hk => hs n s.1 s.2.1 s.2.2.1 s.2.2.2.1 s.2.2.2.2.1 s.2.2.2.2.2.1 s.2.2.2.2.2.2.1 s.2.2.2.2.2.2.2.1 s.2.2.2.2.2.2.2.2.1 s.2.2.2.2.2.2.2.2.2 hI (fun b1 b2 b3 b4 b5 b6 b7 b8 b9 b10 h9 hm => hk (b1, b2, b3, b4, b5, b6, b7, b8, b9, b10) h9 hm)) (a1, a2, a3, a4, a5, a6, a7, a8, a9, a10) h
theorem lp11 {A1 A2 A3 A4 A5 A6 A7 A8 A9 A10 A11 : Type} (W : Nat → A1 → A2 → A3 → A4 → A5 → A6 → A7 → A8 → A9 → A10 → A11 → Prop) (I : A1 → A2 → A3 → A4 → A5 → A6 → A7 → A8 → A9 → A10 → A11 → Prop) (μ : A1 → A2 → A3 → A4 → A5 → A6 → A7 → A8 → A9 → A10 → A11 → Nat) (hs : ∀ (n : Nat) (a1 : A1) (a2 : A2) (a3 : A3) (a4 : A4) (a5 : A5) (a6 : A6) (a7 : A7) (a8 : A8) (a9 : A9) (a10 : A10) (a11 : A11), I a1 a2 a3 a4 a5 a6 a7 a8 a9 a10 a11 → (∀ (b1 : A1) (b2 : A2) (b3 : A3) (b4 : A4) (b5 : A5) (b6 : A6) (b7 : A7) (b8 : A8) (b9 : A9) (b10 : A10) (b11 : A11), I b1 b2 b3 b4 b5 b6 b7 b8 b9 b10 b11 → μ b1 b2 b3 b4 b5 b6 b7 b8 b9 b10 b11 < μ a1 a2 a3 a4 a5 a6 a7 a8 a9 a10 a11 → W n b1 b2 b3 b4 b5 b6 b7 b8 b9 b10 b11) → W (n + 1) a1 a2 a3 a4 a5 a6 a7 a8 a9 a10 a11) (a1 : A1) (a2 : A2) (a3 : A3) (a4 : A4) (a5 : A5) (a6 : A6) (a7 : A7) (a8 : A8) (a9 : A9) (a10 : A10) (a11 : A11) (h : I a1 a2 a3 a4 a5 a6 a7 a8 a9 a10 a11) : ∃ n, W n a1 a2 a3 a4 a5 a6 a7 a8 a9 a10 a11 :=
  loop_m (σ := A1 × A2 × A3 × A4 × A5 × A6 × A7 × A8 × A9 × A10 × A11) (fun n s => W n s.1 s.2.1 s.2.2.1 s.2.2.2.1 s.2.2.2.2.1 s.2.2.2.2.2.1 s.2.2.2.2.2.2.1 s.2.2.2.2.2.2.2.1 s.2.2.2.2.2.2.2.2.1 s.2.2.2.2.2.2.2.2.2.1 s.2.2.2.2.2.2.2.2.2.2) (fun s => I s.1 s.2.1 s.2.2.1 s.2.2.2.1 s.2.2.2.2.1 s.2.2.2.2.2.1 s.2.2.2.2.2.2.1 s.2.2.2.2.2.2.2.1 s.2.2.2.2.2.2.2.2.1 s.2.2.2.2.2.2.2.2.2.1 s.2.2.2.2.2.2.2.2.2.2) (fun s => μ s.1 s.2.1 s.2.2.1 s.2.2.2.1 s.2.2.2.2.1 s.2.2.2.2.2.1 s.2.2.2.2.2.2.1 s.2.2.2.2.2.2.2.1 s.2.2.2.2.2.2.2.2.1 s.2.2.2.2.2.2.2.2.2.1 s.2.2.2.2.2.2.2.2.2.2) (fun n s hI hk => hs n s.1 s.2.1 s.2.2.1 s.2.2.2.1 s.2.2.2.2.1 s.2.2.2.2.2.1 s.2.2.2.2.2.2.1 s.2.2.2.2.2.2.2.1 s.2.2.2.2.2.2.2.2.1 s.2.2.2.2.2.2.2.2.2.1 s.2.2.2.2.2.2.2.2.2.2 hI (fun b1 b2 b3 b4 b5 b6 b7 b8 b9 b10 b11 h9 hm => hk (b1, b2, b3, b4, b5, b6, b7, b8, b9, b10, b11) h9 hm)) (a1, a2, a3, a4, a5, a6, a7, a8, a9, a10, a11) h
theorem lp12 {A1 A2 A3 A4 A5 A6 A7 A8 A9 A10 A11 A12 : Type} (W : Nat → A1 → A2 → A3 → A4 → A5 → A6 → A7 → A8 → A9 → A10 → A11 → A12 → Prop) (I : A1 → A2 → A3 → A4 → A5 → A6 → A7 → A8 → A9 → A10 → A11 → A12 → Prop) (μ : A1 → A2 → A3 → A4 → A5 → A6 → A7 → A8 → A9 → A10 → A11 → A12 → Nat) (hs : ∀ (n : Nat) (a1 : A1) (a2 : A2) (a3 : A3) (a4 : A4) (a5 : A5) (a6 : A6) (a7 : A7) (a8 : A8) (a9 : A9) (a10 : A10) (a11 : A11) (a12 : A12), I a1 a2 a3 a4 a5 a6 a7 a8 a9 a10 a11 a12 → (∀ (b1 : A1) (b2 : A2) (b3 : A3) (b4 : A4) (b5 : A5) (b6 : A6) (b7 : A7) (b8 : A8) (b9 : A9) (b10 : A10) (b11 : A11) (b12 : A12), I b1 b2 b3 b4 b5 b6 b7 b8 b9 b10 b11 b12 → μ b1 b2 b3 b4 b5 b6 b7 b8 b9 b10 b11 b12 < μ a1 a2 a3 a4 a5 a6 a7 a8 a9 a10 a11 a12 → W n b1 b2 b3 b4 b5 b6 b7 b8 b9 b10 b11 b12) → W (n + 1) a1 a2 a3 a4 a5 a6 a7 a8 a9 a10 a11 a12) (a1 : A1) (a2 : A2) (a3 : A3) (a4 : A4) (a5 : A5) (a6 : A6) (a7 : A7) (a8 : A8) (a9 : A9) (a10 : A10) (a11 : A11) (a12 : A12) (h : I a1 a2 a3 a4 a5 a6 a7 a8 a9 a10 a11 a12) : ∃ n, W n a1 a2 a3 a4 a5 a6 a7 a8 a9 a10 a11 a12 :=
  loop_m (σ := A1 × A2 × A3 × A4 × A5 × A6 × A7 × A8 × A9 × A10 × A11 × A12) (fun n s => W n s.1 s.2.1 s.2.2.1 s.2.2.2.1 s.2.2.2.2.1 s.2.2.2.2.2.1 s.2.2.2.2.2.2.1 s.2.2.2.2.2.2.2.1 s.2.2.2.2.2.2.2.2.1 s.2.2.2.2.2.2.2.2.2.1 s.2.2.2.2.2.2.2.2.2.2.1 s.2.2.2.2.2.2.2.2.2.2.2) (fun s => I s.1 s.2.1 s.2.2.1 s.2.2.2.1 s.2.2.2.2.1 s.2.2.2.2.2.1 s.2.2.2.2.2.2.1 s.2.2.2.2.2.2.2.1 s.2.2.2.2.2.2.2.2.1 s.2.2.2.2.2.2.2.2.2.1 s.2.2.2.2.2.2.2.2.2.2.1 s.2.2.2.2.2.2.2.2.2.2.2) (fun s => μ s.1 s.2.1 s.2.2.1 s.2.2.2.1 s.2.2.2.2.1 s.2.2.2.2.2.1 s.2.2.2.2.2.2.1 s.2.2.2.2.2.2.2.1 s.2.2.2.2.2.2.2.2.1 s.2.2.2.2.2.2.2.2.2.1 s.2.2.2.2.2.2.2.2.2.2.1 s.2.2.2.2.2.2.2.2.2.2.2) (fun n s hI hk => hs n s.1 s.2.1 s.2.2.1 s.2.2.2.1 s.2.2.2.2.1 s.2.2.2.2.2.1 s.2.2.2.2.2.2.1 s.2.2.2.2.2.2.2.1 s.2.2.2.2.2.2.2.2.1 s.2.2.2.2.2.2.2.2.2.1 s.2.2.2.2.2.2.2.2.2.2.1 s.2.2.2.2.2.2.2.2.2.2.2 hI (fun b1 b2 b3 b4 b5 b6 b7 b8 b9 b10 b11 b12 h9 hm => hk (b1, b2, b3, b4, b5, b6, b7, b8, b9, b10, b11, b12) h9 hm)) (a1, a2, a3, a4, a5, a6, a7, a8, a9, a10, a11, a12) h
theorem lp13 {A1 A2 A3 A4 A5 A6 A7 A8 A9 A10 A11 A12 A13 : Type} (W : Nat → A1 → A2 → A3 → A4 → A5 → A6 → A7 → A8 → A9 → A10 → A11 → A12 → A13 → Prop) (I : A1 → A2 → A3 → A4 → A5 → A6 → A7 → A8 → A9 → A10 → A11 → A12 → A13 → Prop) (μ : A1 → A2 → A3 → A4 → A5 → A6 → A7 → A8 → A9 → A10 → A11 → A12 → A13 → Nat) (hs : ∀ (n : Nat) (a1 : A1) (a2 : A2) (a3 : A3) (a4 : A4) (a5 : A5) (a6 : A6) (a7 : A7) (a8 : A8) (a9 : A9) (a10 : A10) (a11 : A11) (a12 : A12) (a13 : A13), I a1 a2 a3 a4 a5 a6 a7 a8 a9 a10 a11 a12 a13 → (∀ (b1 : A1) (b2 : A2) (b3 : A3) (b4 : A4) (b5 : A5) (b6 : A6) (b7 : A7) (b8 : A8) (b9 : A9) (b10 : A10) (b11 : A11) (b12 : A12) (b13 : A13), I b1 b2 b3 b4 b5 b6 b7 b8 b9 b10 b11 b12 b13 → μ b1 b2 b3 b4 b5 b6 b7 b8 b9 b10 b11 b12 b13 < μ a1 a2 a3 a4 a5 a6 a7 a8 a9 a10 a11 a12 a13 → W n b1 b2 b3 b4 b5 b6 b7 b8 b9 b10 b11 b12 b13) → W (n + 1) a1 a2 a3 a4 a5 a6 a7 a8 a9 a10 a11 a12 a13) (a1 : A1) (a2 : A2) (a3 : A3) (a4 : A4) (a5 : A5) (a6 : A6) (a7 : A7) (a8 : A8) (a9 : A9) (a10 : A10) (a11 : A11) (a12 : A12) (a13 : A13) (h : I a1 a2 a3 a4 a5 a6 a7 a8 a9 a10 a11 a12 a13) : ∃ n, W n a1 a2 a3 a4 a5 a6 a7 a8 a9 a10 a11 a12 a13 :=
  loop_m (σ := A1 × A2 × A3 × A4 × A5 × A6 × A7 × A8 × A9 × A10 × A11 × A12 × A13) (fun n s => W n s.1 s.2.1 s.2.2.1 s.2.2.2.1 s.2.2.2.2.1 s.2.2.2.2.2.1 s.2.2.2.2.2.2.1 s.2.2.2.2.2.2.2.1 s.2.2.2.2.2.2.2.2.1 s.2.2.2.2.2.2.2.2.2.1 s.2.2.2.2.2.2.2.2.2.2.1 s.2.2.2.2.2.2.2.2.2.2.2.1 s.2.2.2.2.2.2.2.2.2.2.2.2) (fun s => I s.1 s.2.1 s.2.2.1 s.2.2.2.1 s.2.2.2.2.1 s.2.2.2.2.2.1 s.2.2.2.2.2.2.1 s.2.2.2.2.2.2.2.1 s.2.2.2.2.2.2.2.2.1 s.2.2.2.2.2.2.2.2.2.1 s.2.2.2.2.2.2.2.2.2.2.1 s.2.2.2.2.2.2.2.2.2.2.2.1 s.2.2.2.2.2.2.2.2.2.2.2.2) (fun s => μ s.1 s.2.1 s.2.2.1 s.2.2.2.1 s.2.2.2.2.1 s.2.2.2.2.2.1 s.2.2.2.2.2.2.1 s.2.2.2.2.2.2.2.1 s.2.2.2.2.2.2.2.2.1 s.2.2.2.2.2.2.2.2.2.1 s.2.2.2.2.2.2.2.2.2.2.1 s.2.2.2.2.2.2.2.2.2.2.2.1 s.2.2.2.2.2.2.2.2.2.2.2.2) (fun n s hI hk => hs n s.1 s.2.1 s.2.2.1 s.2.2.2.1 s.2.2.2.2.1 s.2.2.2.2.2.1 s.2.2.2.2.2.2.1 s.2.2.2.2.2.2.2.1 s.2.2.2.2.2.2.2.2.1 s.2.2.2.2.2.2.2.2.2.1 s.2.2.2.2.2.2.2.2.2.2.1 s.2.2.2.2.2.2.2.2.2.2.2.1 s.2.2.2.2.2.2.2.2.2.2.2.2 hI (fun b1 b2 b3 b4 b5 b6 b7 b8 b9 b10 b11 b12 b13 h9 hm => hk (b1, b2, b3, b4, b5, b6, b7, b8, b9, b10, b11, b12, b13) h9 hm)) (a1, a2, a3, a4, a5, a6, a7, a8, a9, a10, a11, a12, a13) h
theorem lp14 {A1 A2 A3 A4 A5 A6 A7 A8 A9 A10 A11 A12 A13 A14 : Type} (W : Nat → A1 → A2 → A3 → A4 → A5 → A6 → A7 → A8 → A9 → A10 → A11 → A12 → A13 → A14 → Prop) (I : A1 → A2 → A3 → A4 → A5 → A6 → A7 → A8 → A9 → A10 → A11 → A12 → A13 → A14 → Prop) (μ : A1 → A2 → A3 → A4 → A5 → A6 → A7 → A8 → A9 → A10 → A11 → A12 → A13 → A14 → Nat) (hs : ∀ (n : Nat) (a1 : A1) (a2 : A2) (a3 : A3) (a4 : A4) (a5 : A5) (a6 : A6) (a7 : A7) (a8 : A8) (a9 : A9) (a10 : A10) (a11 : A11) (a12 : A12) (a13 : A13) (a14 : A14), I a1 a2 a3 a4 a5 a6 a7 a8 a9 a10 a11 a12 a13 a14 → (∀ (b1 : A1) (b2 : A2) (b3 : A3) (b4 : A4) (b5 : A5) (b6 : A6) (b7 : A7) (b8 : A8) (b9 : A9) (b10 : A10) (b11 : A11) (b12 : A12) (b13 : A13) (b14 : A14), I b1 b2 b3 b4 b5 b6 b7 b8 b9 b10 b11 b12 b13 b14 → μ b1 b2 b3 b4 b5 b6 b7 b8 b9 b10 b11 b12 b13 b14 < μ a1 a2 a3 a4 a5 a6 a7 a8 a9 a10 a11 a12 a13 a14 → W n b1 b2 b3 b4 b5 b6 b7 b8 b9 b10 b11 b12 b13 b14) → W (n + 1) a1 a2 a3 a4 a5 a6 a7 a8 a9 a10 a11 a12 a13 a14) (a1 : A1) (a2 : A2) (a3 : A3) (a4 : A4) (a5 : A5) (a6 : A6) (a7 : A7) (a8 : A8) (a9 : A9) (a10 : A10) (a11 : A11) (a12 : A12) (a13 : A13) (a14 : A14) (h : I a1 a2 a3 a4 a5 a6 a7 a8 a9 a10 a11 a12 a13 a14) : ∃ n, W n a1 a2 a3 a4 a5 a6 a7 a8 a9 a10 a11 a12 a13 a14 :=
  loop_m (σ := A1 × A2 × A3 × A4 × A5 × A6 × A7 × A8 × A9 × A10 × A11 × A12 × A13 × A14) (fun n s => W n s.1 s.2.1 s.2.2.1 s.2.2.2.1 s.2.2.2.2.1 s.2.2.2.2.2.1 s.2.2.2.2.2.2.1 s.2.2.2.2.2.2.2.1 s.2.2.2.2.2.2.2.2.1 s.2.2.2.2.2.2.2.2.2.1 s.2.2.2.2.2.2.2.2.2.2.1 s.2.2.2.2.2.2.2.2.2.2.2.1 s.2.2.2.2.2.2.2.2.2.2.2.2.1 s.2.2.2.2.2.2.2.2.2.2.2.2.2) (fun s => I s.1 s.2.1 s.2.2.1 s.2.2.2.1 s.2.2.2.2.1 s.2.2.2.2.2.1 s.2.2.2.2.2.2.1 s.2.2.2.2.2.2.2.1 s.2.2.2.2.2.2.2.2.1 s.2.2.2.2.2.2.2.2.2.1 s.2.2.2.2.2.2.2.2.2.2.1 s.2.2.2.2.2.2.2.2.2.2.2.1 s.2.2.2.2.2.2.2.2.2.2.2.2.1 s.2.2.2.2.2.2.2.2.2.2.2.2.2) (fun s => μ s.1 s.2.1 s.2.2.1 s.2.2.2.1 s.2.2.2.2.1 s.2.2.2.2.2.1 s.2.2.2.2.2.2.1 s.2.2.2.2.2.2.2.1 s.2.2.2.2.2.2.2.2.1 s.2.2.2.2.2.2.2.2.2.1 s.2.2.2.2.2.2.2.2.2.2.1 s.2.2.2.2.2.2.2.2.2.2.2.1 s.2.2.2.2.2.2.2.2.2.2.2.2.1 s.2.2.2.2.2.2.2.2.2.2.2.2.2) (fun n s hI hk => hs n s.1 s.2.1 s.2.2.1 s.2.2.2.1 s.2.2.2.2.1 s.2.2.2.2.2.1 s.2.2.2.2.2.2.1 s.2.2.2.2.2.2.2.1 s.2.2.2.2.2.2.2.2.1 s.2.2.2.2.2.2.2.2.2.1 s.2.2.2.2.2.2.2.2.2.2.1 s.2.2.2.2.2.2.2.2.2.2.2.1 s.2.2.2.2.2.2.2.2.2.2.2.2.1 s.2.2.2.2.2.2.2.2.2.2.2.2.2 hI (fun b1 b2 b3 b4 b5 b6 b7 b8 b9 b10 b11 b12 b13 b14 h9 hm => hk (b1, b2, b3, b4, b5, b6, b7, b8, b9, b10, b11, b12, b13, b14) h9 hm)) (a1, a2, a3, a4, a5, a6, a7, a8, a9, a10, a11, a12, a13, a14) h
theorem lp15 {A1 A2 A3 A4 A5 A6 A7 A8 A9 A10 A11 A12 A13 A14 A15 : Type} (W : Nat → A1 → A2 → A3 → A4 → A5 → A6 → A7 → A8 → A9 → A10 → A11 → A12 → A13 → A14 → A15 → Prop) (I : A1 → A2 → A3 → A4 → A5 → A6 → A7 → A8 → A9 → A10 → A11 → A12 → A13 → A14 → A15 → Prop) (μ : A1 → A2 → A3 → A4 → A5 → A6 → A7 → A8 → A9 → A10 → A11 → A12 → A13 → A14 → A15 → Nat) (hs : ∀ (n : Nat) (a1 : A1) (a2 : A2) (a3 : A3) (a4 : A4) (a5 : A5) (a6 : A6) (a7 : A7) (a8 : A8) (a9 : A9) (a10 : A10) (a11 : A11) (a12 : A12) (a13 : A13) (a14 : A14) (a15 : A15), I a1 a2 a3 a4 a5 a6 a7 a8 a9 a10 a11 a12 a13 a14 a15 → (∀ (b1 : A1) (b2 : A2) (b3 : A3) (b4 : A4) (b5 : A5) (b6 : A6) (b7 : A7) (b8 : A8) (b9 : A9) (b10 : A10) (b11 : A11) (b12 : A12) (b13 : A13) (b14 : A14) (b15 : A15), I b1 b2 b3 b4 b5 b6 b7 b8 b9 b10 b11 b12 b13 b14 b15 → μ b1 b2 b3 b4 b5 b6 b7 b8 b9 b10 b11 b12 b13 b14 b15 < μ a1 a2 a3 a4 a5 a6 a7 a8 a9 a10 a11 a12 a13 a14 a15 → W n b1 b2 b3 b4 b5 b6 b7 b8 b9 b10 b11 b12 b13 b14 b15) → W (n + 1) a1 a2 a3 a4 a5 a6 a7 a8 a9 a10 a11 a12 a13 a14 a15) (a1 : A1) (a2 : A2) (a3 : A3) (a4 : A4) (a5 : A5) (a6 : A6) (a7 : A7) (a8 : A8) (a9 : A9) (a10 : A10) (a11 : A11) (a12 : A12) (a13 : A13) (a14 : A14) (a15 : A15) (h : I a1 a2 a3 a4 a5 a6 a7 a8 a9 a10 a11 a12 a13 a14 a15) : ∃ n, W n a1 a2 a3 a4 a5 a6 a7 a8 a9 a10 a11 a12 a13 a14 a15 :=
  loop_m (σ := A1 × A2 × A3 × A4 × A5 × A6 × A7 × A8 × A9 × A10 × A11 × A12 × A13 × A14 × A15) (fun n s => W n s.1 s.2.1 s.2.2.1 s.2.2.2.1 s.2.2.2.2.1 s.2.2.2.2.2.1 s.2.2.2.2.2.2.1 s.2.2.2.2.2.2.2.1 s.2.2.2.2.2.2.2.2.1 s.2.2.2.2.2.2.2.2.2.1 s.2.2.2.2.2.2.2.2.2.2.1 s.2.2.2.2.2.2.2.2.2.2.2.1 s.2.2.2.2.2.2.2.2.2.2.2.2.1 s.2.2.2.2.2.2.2.2.2.2.2.2.2.1 s.2.2.2.2.2.2.2.2.2.2.2.2.2.2) (fun s => I s.1 s.2.1 s.2.2.1 s.2.2.2.1 s.2.2.2.2.1 s.2.2.2.2.2.1 s.2.2.2.2.2.2.1 s.2.2.2.2.2.2.2.1 s.2.2.2.2.2.2.2.2.1 s.2.2.2.2.2.2.2.2.2.1 s.2.2.2.2.2.2.2.2.2.2.1 s.2.2.2.2.2.2.2.2.2.2.2.1 s.2.2.2.2.2.2.2.2.2.2.2.2.1 s.2.2.2.2.2.2.2.2.2.2.2.2.2.1 s.2.2.2.2.2.2.2.2.2.2.2.2.2.2) (fun s => μ s.1 s.2.1 s.2.2.1 s.2.2.2.1 s.2.2.2.2.1 s.2.2.2.2.2.1 s.2.2.2.2.2.2.1 s.2.2.2.2.2.2.2.1 s.2.2.2.2.2.2.2.2.1 s.2.2.2.2.2.2.2.2.2.1 s.2.2.2.2.2.2.2.2.2.2.1 s.2.2.2.2.2.2.2.2.2.2.2.1 s.2.2.2.2.2.2.2.2.2.2.2.2.1 s.2.2.2.2.2.2.2.2.2.2.2.2.2.1 s.2.2.2.2.2.2.2.2.2.2.2.2.2.2) (fun n s hI hk => hs n s.1 s.2.1 s.2.2.1 s.2.2.2.1 s.2.2.2.2.1 s.2.2.2.2.2.1 s.2.2.2.2.2.2.1 s.2.2.2.2.2.2.2.1 s.2.2.2.2.2.2.2.2.1 s.2.2.2.2.2.2.2.2.2.1 s.2.2.2.2.2.2.2.2.2.2.1 s.2.2.2.2.2.2.2.2.2.2.2.1 s.2.2.2.2.2.2.2.2.2.2.2.2.1 s.2.2.2.2.2.2.2.2.2.2.2.2.2.1 s.2.2.2.2.2.2.2.2.2.2.2.2.2.2 hI (fun b1 b2 b3 b4 b5 b6 b7 b8 b9 b10 b11 b12 b13 b14 b15 h9 hm => hk (b1, b2, b3, b4, b5, b6, b7, b8, b9, b10, b11, b12, b13, b14, b15) h9 hm)) (a1, a2, a3, a4, a5, a6, a7, a8, a9, a10, a11, a12, a13, a14, a15) h
theorem lp16 {A1 A2 A3 A4 A5 A6 A7 A8 A9 A10 A11 A12 A13 A14 A15 A16 : Type} (W : Nat → A1 → A2 → A3 → A4 → A5 → A6 → A7 → A8 → A9 → A10 → A11 → A12 → A13 → A14 → A15 → A16 → Prop) (I : A1 → A2 → A3 → A4 → A5 → A6 → A7 → A8 → A9 → A10 → A11 → A12 → A13 → A14 → A15 → A16 → Prop) (μ : A1 → A2 → A3 → A4 → A5 → A6 → A7 → A8 → A9 → A10 → A11 → A12 → A13 → A14 → A15 → A16 → Nat) (hs : ∀ (n : Nat) (a1 : A1) (a2 : A2) (a3 : A3) (a4 : A4) (a5 : A5) (a6 : A6) (a7 : A7) (a8 : A8) (a9 : A9) (a10 : A10) (a11 : A11) (a12 : A12) (a13 : A13) (a14 : A14) (a15 : A15) (a16 : A16), I a1 a2 a3 a4 a5 a6 a7 a8 a9 a10 a11 a12 a13 a14 a15 a16 → (∀ (b1 : A1) (b2 : A2) (b3 : A3) (b4 : A4) (b5 : A5) (b6 : A6) (b7 : A7) (b8 : A8) (b9 : A9) (b10 : A10) (b11 : A11) (b12 : A12) (b13 : A13) (b14 : A14) (b15 : A15) (b16 : A16), I b1 b2 b3 b4 b5 b6 b7 b8 b9 b10 b11 b12 b13 b14 b15 b16 → μ b1 b2 b3 b4 b5 b6 b7 b8 b9 b10 b11 b12 b13 b14 b15 b16 < μ a1 a2 a3 a4 a5 a6 a7 a8 a9 a10 a11 a12 a13 a14 a15 a16 → W n b1 b2 b3 b4 b5 b6 b7 b8 b9 b10 b11 b12 b13 b14 b15 b16) → W (n + 1) a1 a2 a3 a4 a5 a6 a7 a8 a9 a10 a11 a12 a13 a14 a15 a16) (a1 : A1) (a2 : A2) (a3 : A3) (a4 : A4) (a5 : A5) (a6 : A6) (a7 : A7) (a8 : A8) (a9 : A9) (a10 : A10) (a11 : A11) (a12 : A12) (a13 : A13) (a14 : A14) (a15 : A15) (a16 : A16) (h : I a1 a2 a3 a4 a5 a6 a7 a8 a9 a10 a11 a12 a13 a14 a15 a16) : ∃ n, W n a1 a2 a3 a4 a5 a6 a7 a8 a9 a10 a11 a12 a13 a14 a15 a16 :=
  loop_m (σ := A1 × A2 × A3 × A4 × A5 × A6 × A7 × A8 × A9 × A10 × A11 × A12 × A13 × A14 × A15 × A16) (fun n s => W n s.1 s.2.1 s.2.2.1 s.2.2.2.1 s.2.2.2.2.1 s.2.2.2.2.2.1 s.2.2.2.2.2.2.1 s.2.2.2.2.2.2.2.1 s.2.2.2.2.2.2.2.2.1 s.2.2.2.2.2.2.2.2.2.1 s.2.2.2.2.2.2.2.2.2.2.1 s.2.2.2.2.2.2.2.2.2.2.2.1 s.2.2.2.2.2.2.2.2.2.2.2.2.1 s.2.2.2.2.2.2.2.2.2.2.2.2.2.1 s.2.2.2.2.2.2.2.2.2.2.2.2.2.2.1 s.2.2.2.2.2.2.2.2.2.2.2.2.2.2.2) (fun s => I s.1 s.2.1 s.2.2.1 s.2.2.2.1 s.2.2.2.2.1 s.2.2.2.2.2.1 s.2.2.2.2.2.2.1 s.2.2.2.2.2.2.2.1 s.2.2.2.2.2.2.2.2.1 s.2.2.2.2.2.2.2.2.2.1 s.2.2.2.2.2.2.2.2.2.2.1 s.2.2.2.2.2.2.2.2.2.2.2.1 s.2.2.2.2.2.2.2.2.2.2.2.2.1 s.2.2.2.2.2.2.2.2.2.2.2.2.2.1 s.2.2.2.2.2.2.2.2.2.2.2.2.2.2.1 s.2.2.2.2.2.2.2.2.2.2.2.2.2.2.2) (fun s => μ s.1 s.2.1 s.2.2.1 s.2.2.2.1 s.2.2.2.2.1 s.2.2.2.2.2.1 s.2.2.2.2.2.2.1 s.2.2.2.2.2.2.2.1 s.2.2.2.2.2.2.2.2.1 s.2.2.2.2.2.2.2.2.2.1 s.2.2.2.2.2.2.2.2.2.2.1 s.2.2.2.2.2.2.2.2.2.2.2.1 s.2.2.2.2.2.2.2.2.2.2.2.2.1 s.2.2.2.2.2.2.2.2.2.2.2.2.2.1 s.2.2.2.2.2.2.2.2.2.2.2.2.2.2.1 s.2.2.2.2.2.2.2.2.2.2.2.2.2.2.2) (fun n s hI hk => hs n s.1 s.2.1 s.2.2.1 s.2.2.2.1 s.2.2.2.2.1 s.2.2.2.2.2.1 s.2.2.2.2.2.2.1 s.2.2.2.2.2.2.2.1 s.2.2.2.2.2.2.2.2.1 s.2.2.2.2.2.2.2.2.2.1 s.2.2.2.2.2.2.2.2.2.2.1 s.2.2.2.2.2.2.2.2.2.2.2.1 s.2.2.2.2.2.2.2.2.2.2.2.2.1 s.2.2.2.2.2.2.2.2.2.2.2.2.2.1 s.2.2.2.2.2.2.2.2.2.2.2.2.2.2.1 s.2.2.2.2.2.2.2.2.2.2.2.2.2.2.2 hI (fun b1 b2 b3 b4 b5 b6 b7 b8 b9 b10 b11 b12 b13 b14 b15 b16 h9 hm => hk (b1, b2, b3, b4, b5, b6, b7, b8, b9, b10, b11, b12, b13, b14, b15, b16) h9 hm)) (a1, a2, a3, a4, a5, a6, a7, a8, a9, a10, a11, a12, a13, a14, a15, a16) h
theorem pk_least (P : Nat → Prop) (h : ∃ k, P k) : ∃ k, P k ∧ ∀ j, j < k → ¬ P j := by
  obtain ⟨k, hk⟩ := h
  induction k using Nat.strongRecOn with
  | ind k ih =>
    by_cases e : ∃ j, j < k ∧ P j
    · obtain ⟨j, hj, pj⟩ := e
      exact ih j hj pj
    · exact ⟨k, hk, fun j hj pj => e ⟨j, hj, pj⟩⟩
theorem rp1 {ρ A1 : Type} (W : Nat → (ρ → Prop) → A1 → Prop) (ok : A1 → Prop) (μ : A1 → Nat) (val : A1 → ρ)
    (hs : ∀ (d : Nat) (post : ρ → Prop) (a1 : A1), ok a1 → post (val a1) → (∀ (post' : ρ → Prop) (b1 : A1), ok b1 → μ b1 < μ a1 → post' (val b1) → W d post' b1) → W (d + 1) post a1) :
    ∀ (d : Nat) (post : ρ → Prop) (a1 : A1), ok a1 → μ a1 < d → post (val a1) → W d post a1 := by
  intro d
  induction d with
  | zero => intro post a1 _ h; omega
  | succ d ih =>
    intro post a1 ho hm hp
    exact hs d post a1 ho hp (fun post' b1 ho' hm' hp' => ih post' b1 ho' (by omega) hp')
theorem rp2 {ρ A1 A2 : Type} (W : Nat → (ρ → Prop) → A1 → A2 → Prop) (ok : A1 → A2 → Prop) (μ : A1 → A2 → Nat) (val : A1 → A2 → ρ)
    (hs : ∀ (d : Nat) (post : ρ → Prop) (a1 : A1) (a2 : A2), ok a1 a2 → post (val a1 a2) → (∀ (post' : ρ → Prop) (b1 : A1) (b2 : A2), ok b1 b2 → μ b1 b2 < μ a1 a2 → post' (val b1 b2) → W d post' b1 b2) → W (d + 1) post a1 a2) :
    ∀ (d : Nat) (post : ρ → Prop) (a1 : A1) (a2 : A2), ok a1 a2 → μ a1 a2 < d → post (val a1 a2) → W d post a1 a2 := by
  intro d
  induction d with
  | zero => intro post a1 a2 _ h; omega
  | succ d ih =>
    intro post a1 a2 ho hm hp
    exact hs d post a1 a2 ho hp (fun post' b1 b2 ho' hm' hp' => ih post' b1 b2 ho' (by omega) hp')
theorem rp3 {ρ A1 A2 A3 : Type} (W : Nat → (ρ → Prop) → A1 → A2 → A3 → Prop) (ok : A1 → A2 → A3 → Prop) (μ : A1 → A2 → A3 → Nat) (val : A1 → A2 → A3 → ρ)
    (hs : ∀ (d : Nat) (post : ρ → Prop) (a1 : A1) (a2 : A2) (a3 : A3), ok a1 a2 a3 → post (val a1 a2 a3) → (∀ (post' : ρ → Prop) (b1 : A1) (b2 : A2) (b3 : A3), ok b1 b2 b3 → μ b1 b2 b3 < μ a1 a2 a3 → post' (val b1 b2 b3) → W d post' b1 b2 b3) → W (d + 1) post a1 a2 a3) :
    ∀ (d : Nat) (post : ρ → Prop) (a1 : A1) (a2 : A2) (a3 : A3), ok a1 a2 a3 → μ a1 a2 a3 < d → post (val a1 a2 a3) → W d post a1 a2 a3 := by
  intro d
  induction d with
  | zero => intro post a1 a2 a3 _ h; omega
  | succ d ih =>
    intro post a1 a2 a3 ho hm hp
    exact hs d post a1 a2 a3 ho hp (fun post' b1 b2 b3 ho' hm' hp' => ih post' b1 b2 b3 ho' (by omega) hp')
theorem rp4 {ρ A1 A2 A3 A4 : Type} (W : Nat → (ρ → Prop) → A1 → A2 → A3 → A4 → Prop) (ok : A1 → A2 → A3 → A4 → Prop) (μ : A1 → A2 → A3 → A4 → Nat) (val : A1 → A2 → A3 → A4 → ρ)
    (hs : ∀ (d : Nat) (post : ρ → Prop) (a1 : A1) (a2 : A2) (a3 : A3) (a4 : A4), ok a1 a2 a3 a4 → post (val a1 a2 a3 a4) → (∀ (post' : ρ → Prop) (b1 : A1) (b2 : A2) (b3 : A3) (b4 : A4), ok b1 b2 b3 b4 → μ b1 b2 b3 b4 < μ a1 a2 a3 a4 → post' (val b1 b2 b3 b4) → W d post' b1 b2 b3 b4) → W (d + 1) post a1 a2 a3 a4) :
    ∀ (d : Nat) (post : ρ → Prop) (a1 : A1) (a2 : A2) (a3 : A3) (a4 : A4), ok a1 a2 a3 a4 → μ a1 a2 a3 a4 < d → post (val a1 a2 a3 a4) → W d post a1 a2 a3 a4 := by
  intro d
  induction d with
  | zero => intro post a1 a2 a3 a4 _ h; omega
  | succ d ih =>
    intro post a1 a2 a3 a4 ho hm hp
    exact hs d post a1 a2 a3 a4 ho hp (fun post' b1 b2 b3 b4 ho' hm' hp' => ih post' b1 b2 b3 b4 ho' (by omega) hp')
theorem rp5 {ρ A1 A2 A3 A4 A5 : Type} (W : Nat → (ρ → Prop) → A1 → A2 → A3 → A4 → A5 → Prop) (ok : A1 → A2 → A3 → A4 → A5 → Prop) (μ : A1 → A2 → A3 → A4 → A5 → Nat) (val : A1 → A2 → A3 → A4 → A5 → ρ)
    (hs : ∀ (d : Nat) (post : ρ → Prop) (a1 : A1) (a2 : A2) (a3 : A3) (a4 : A4) (a5 : A5), ok a1 a2 a3 a4 a5 → post (val a1 a2 a3 a4 a5) → (∀ (post' : ρ → Prop) (b1 : A1) (b2 : A2) (b3 : A3) (b4 : A4) (b5 : A5), ok b1 b2 b3 b4 b5 → μ b1 b2 b3 b4 b5 < μ a1 a2 a3 a4 a5 → post' (val b1 b2 b3 b4 b5) → W d post' b1 b2 b3 b4 b5) → W (d + 1) post a1 a2 a3 a4 a5) :
    ∀ (d : Nat) (post : ρ → Prop) (a1 : A1) (a2 : A2) (a3 : A3) (a4 : A4) (a5 : A5), ok a1 a2 a3 a4 a5 → μ a1 a2 a3 a4 a5 < d → post (val a1 a2 a3 a4 a5) → W d post a1 a2 a3 a4 a5 := by
  intro d
  induction d with
  | zero => intro post a1 a2 a3 a4 a5 _ h; omega
  | succ d ih =>
    intro post a1 a2 a3 a4 a5 ho hm hp
    exact hs d post a1 a2 a3 a4 a5 ho hp (fun post' b1 b2 b3 b4 b5 ho' hm' hp' => ih post' b1 b2 b3 b4 b5 ho' (by omega) hp')
theorem rp6 {ρ A1 A2 A3 A4 A5 A6 : Type} (W : Nat → (ρ → Prop) → A1 → A2 → A3 → A4 → A5 → A6 → Prop) (ok : A1 → A2 → A3 → A4 → A5 → A6 → Prop) (μ : A1 → A2 → A3 → A4 → A5 → A6 → Nat) (val : A1 → A2 → A3 → A4 → A5 → A6 → ρ)
    (hs : ∀ (d : Nat) (post : ρ → Prop) (a1 : A1) (a2 : A2) (a3 : A3) (a4 : A4) (a5 : A5) (a6 : A6), ok a1 a2 a3 a4 a5 a6 → post (val a1 a2 a3 a4 a5 a6) → (∀ (post' : ρ → Prop) (b1 : A1) (b2 : A2) (b3 : A3) (b4 : A4) (b5 : A5) (b6 : A6), ok b1 b2 b3 b4 b5 b6 → μ b1 b2 b3 b4 b5 b6 < μ a1 a2 a3 a4 a5 a6 → post' (val b1 b2 b3 b4 b5 b6) → W d post' b1 b2 b3 b4 b5 b6) → W (d + 1) post a1 a2 a3 a4 a5 a6) :
    ∀ (d : Nat) (post : ρ → Prop) (a1 : A1) (a2 : A2) (a3 : A3) (a4 : A4) (a5 : A5) (a6 : A6), ok a1 a2 a3 a4 a5 a6 → μ a1 a2 a3 a4 a5 a6 < d → post (val a1 a2 a3 a4 a5 a6) → W d post a1 a2 a3 a4 a5 a6 := by
  intro d
  induction d with
  | zero => intro post a1 a2 a3 a4 a5 a6 _ h; omega
  | succ d ih =>
    intro post a1 a2 a3 a4 a5 a6 ho hm hp
    exact hs d post a1 a2 a3 a4 a5 a6 ho hp (fun post' b1 b2 b3 b4 b5 b6 ho' hm' hp' => ih post' b1 b2 b3 b4 b5 b6 ho' (by omega) hp')
theorem rec_p {σ ρ : Type} (W : Nat → (ρ → Prop) → σ → Prop) (ok : σ → Prop) (μ : σ → Nat) (val : σ → ρ)
    (hs : ∀ d s post, ok s → post (val s) → (∀ s' post', ok s' → μ s' < μ s → post' (val s') → W d post' s') → W (d + 1) post s) :
    ∀ d s post, ok s → μ s < d → post (val s) → W d post s := by
  intro d
  induction d with
  | zero => intro s post _ h; omega
  | succ d ih =>
    intro s post ho hm hp
    exact hs d s post ho hp (fun s' post' ho' hm' hp' => ih s' post' ho' (by omega) hp')
theorem rec_q {σ ρ : Type} (W : Nat → (ρ → Prop) → σ → Prop) (ok : σ → Prop) (μ : σ → Nat) (Q : σ → ρ → Prop)
    (hs : ∀ d s post, ok s → (∀ r, Q s r → post r) → (∀ s' post', ok s' → μ s' < μ s → (∀ r, Q s' r → post' r) → W d post' s') → W (d + 1) post s) :
    ∀ d s post, ok s → μ s < d → (∀ r, Q s r → post r) → W d post s := by
  intro d
  induction d with
  | zero => intro s post _ h; omega
  | succ d ih =>
    intro s post ho hm hp
    exact hs d s post ho hp (fun s' post' ho' hm' hp' => ih s' post' ho' (by omega) hp')
def bx_sum (f : Nat → Int32) : Nat → Int32
  | 0 => 0
  | n + 1 => bx_sum f n + f n
theorem ek_u {A : Prop} {B : Nat → Prop} {k N : Nat} (hk : k < N) (h : B k) : (some k = none → A) ∧ (∀ y : Nat, some k = some y → (y < N ∧ B y)) :=
  ⟨fun z => absurd z (Option.some_ne_none k), fun _ e => (by cases e; exact ⟨hk, h⟩)⟩
theorem ek_nu {A : Prop} {B : Nat → Prop} (h : A) : ((none : Option Nat) = none → A) ∧ (∀ y : Nat, (none : Option Nat) = some y → B y) :=
  ⟨fun _ => h, fun _ e => (by cases e)⟩
theorem ek_if {c d A B : Prop} (e : c ↔ d) (f : d → A) (g : ¬ d → B) : (c → A) ∧ (¬ c → B) :=
  ⟨fun z => f (e.mp z), fun z => g (fun y => z (e.mpr y))⟩
theorem ek_v {α : Sort _} {P : α → Prop} {a b : α} (e : a = b) (h : P b) : P a := e ▸ h
theorem co_some {x : Option Nat} {A : Prop} {B : Nat → Prop} (i : Nat) (h : B i) (hx : x = some i := by rfl) : (x = none → A) ∧ (∀ y : Nat, x = some y → B y) := by
  subst hx
  exact ⟨fun e => (nomatch e), fun y e => Option.some.inj e ▸ h⟩
theorem co_none {x : Option Nat} {A : Prop} {B : Nat → Prop} (h : A) (hx : x = none := by rfl) : (x = none → A) ∧ (∀ y : Nat, x = some y → B y) := by
  subst hx
  exact ⟨fun _ => h, fun y e => (nomatch e)⟩
theorem co_any {x : Option Nat} {A : Prop} {B : Nat → Prop} (hn : x = none → A) (hs : ∀ i : Nat, x = some i → B i) : (x = none → A) ∧ (∀ y : Nat, x = some y → B y) := ⟨hn, hs⟩
theorem co_2 {P : Nat → Prop} (h0 : P 0) (h1 : P 1) {i : Nat} (hi : i < 2) : P i :=
  match i, hi with
  | 0, _ => h0
  | 1, _ => h1
theorem co_3 {P : Nat → Prop} (h0 : P 0) (h1 : P 1) (h2 : P 2) {i : Nat} (hi : i < 3) : P i :=
  match i, hi with
  | 0, _ => h0
  | 1, _ => h1
  | 2, _ => h2
theorem co_4 {P : Nat → Prop} (h0 : P 0) (h1 : P 1) (h2 : P 2) (h3 : P 3) {i : Nat} (hi : i < 4) : P i :=
  match i, hi with
  | 0, _ => h0
  | 1, _ => h1
  | 2, _ => h2
  | 3, _ => h3
theorem co_dec {N : Nat} {P : Nat → Prop} [DecidablePred P] (h : (List.range N).all (fun i => decide (P i)) = true) {i : Nat} (hi : i < N) : P i := by
  have := List.all_eq_true.mp h i (List.mem_range.mpr hi)
  exact of_decide_eq_true this
theorem co_tab {α : Type} {l : List α} {d : α} {P : α → Prop} (h : ∀ a, a ∈ l → P a) {i : Nat} (hi : i < l.length) : P (l.getD i d) := by
  rw [List.getD_eq_getElem?_getD, List.getElem?_eq_getElem hi]
  exact h _ (List.getElem_mem hi)
theorem pk_mu {x : Int32} {L : Nat} (h0 : ¬ x < 0) (h : ¬ nI L ≤ x) (hL : L < 2 ^ 31) : ∃ j : Nat, j < L ∧ x = nI j ∧ x + 1 = nI (j + 1) ∧ x.toNatClampNeg = j ∧ L - (x + 1).toNatClampNeg < L - x.toNatClampNeg := by
  obtain ⟨j, hj, rfl⟩ := nI_of h0
  have hl : j < L := Nat.not_le.mp fun q => h (nI_le q hj)
  refine ⟨j, hl, rfl, nI_1 j, nI_clamp hj, ?_⟩
  rw [nI_1, nI_clamp (by omega), nI_clamp hj]
  omega
theorem op_s {α : Type} {r : Option α} {A : Prop} {B : α → Prop} {y : α} (h : r = some y) (b : B y) : (r = none → A) ∧ ∀ z, r = some z → B z :=
  ⟨fun e => (by rw [h] at e; cases e), fun z e => (by rw [h] at e; cases e; exact b)⟩
def l_holds {α : Type} (a : Nat → Option Nat) (LP : List Nat) (p : Nat → α) (c : Nat) (b : Nat → α) : Prop :=
  ∀ j, j < c → ∃ y, a j = some y ∧ y ∈ LP ∧ p y = b j
theorem l_holds_0 {α : Type} {a : Nat → Option Nat} {LP : List Nat} {p b : Nat → α} : l_holds a LP p 0 b := fun j h => absurd h (Nat.not_lt_zero j)
theorem l_in_new (LP : List Nat) (q : Nat) : q ∈ LP ++ [q] := List.mem_append.mpr (Or.inr (List.mem_singleton.mpr rfl))
def l_sum (b : Nat → Int32) : Nat → Int32
  | 0 => 0
  | k + 1 => l_sum b k + b k
theorem sb_shr0 (x : Int32) : x >>> ((0 : Int32) &&& 31) = x := by
  rw [show ((0 : Int32) &&& 31) = 0 by decide]
  simp
theorem sb_shl0 (x : Int32) : x <<< ((0 : Int32) &&& 31) = x := by
  rw [show ((0 : Int32) &&& 31) = 0 by decide]
  simp
theorem sb_cl0 : (0 : Int32).toNatClampNeg = 0 := by decide
theorem sb_m1 {p : Nat} (h : 0 < p) : nI p + (-1) = nI (p - 1) := by
  obtain ⟨q, rfl⟩ : ∃ q, p = q + 1 := ⟨p - 1, by omega⟩
  exact pk_m1 q
def sb_b (c : Nat) : Int32 := (nI c).toInt8.toInt32
theorem sb_byte : ∀ c, c < 256 → sb_b c &&& 255 = nI c ∧ ((nI c).toUInt32 % 65536).toInt32 = nI c ∧ nI c ≤ 255 := by decide +kernel
def sb_Fit (a : Nat → Int32) : Prop := ∀ j, fits .byte (.int (a j)) = true
def sb_Lat (t : Nat → Nat) (n : Nat) (a : Nat → Int32) : Prop := ∀ j, j < n → t j < 256 ∧ a j = sb_b (t j)
theorem sb_fitB (c : Nat) : fits .byte (.int (sb_b c)) = true := pk_fb _
theorem sb_fit0 : sb_Fit (fun _ => 0) := fun _ => by
  show fits .byte (.int 0) = true
  decide
theorem sb_fitU {a : Nat → Int32} {k : Nat} {x : Int32} (h : sb_Fit a) (hx : fits .byte (.int x) = true) : sb_Fit (upd a k x) := by
  intro j
  by_cases e : j = k
  · subst e
    rw [pk_us]
    exact hx
  · rw [pk_un e]
    exact h j
def sb_cat (t : Nat → Nat) (n : Nat) (s : Nat → Nat) : Nat → Nat := fun j => if j < n then t j else s (j - n)
theorem sb_cat_lo {t s : Nat → Nat} {n j : Nat} (h : j < n) : sb_cat t n s j = t j := if_pos h
theorem sb_cat_hi {t s : Nat → Nat} {n j : Nat} : sb_cat t n s (n + j) = s j := by
  show (if n + j < n then t (n + j) else s (n + j - n)) = s j
  rw [if_neg (by omega), Nat.add_sub_cancel_left]
theorem sb_latPut {t s : Nat → Nat} {n w : Nat} {a a' : Nat → Int32} (h : sb_Lat t n a) (hk : ∀ j, j < n → a' j = a j) (hs : ∀ i, i < w → s i < 256 ∧ a' (n + i) = sb_b (s i)) : sb_Lat (sb_cat t n s) (n + w) a' := by
  intro j hj
  by_cases e : j < n
  · rw [sb_cat_lo e, hk j e]
    exact h j e
  · obtain ⟨i, rfl⟩ : ∃ i, j = n + i := ⟨j - n, by omega⟩
    rw [sb_cat_hi]
    exact hs i (by omega)
theorem sb_latKeep {t : Nat → Nat} {n : Nat} {a a' : Nat → Int32} (h : sb_Lat t n a) (hk : ∀ j, j < n → a' j = a j) : sb_Lat t n a' := fun j hj => by
  rw [hk j hj]
  exact h j hj
def sb_cap (q m : Nat) : Nat := if q ≤ m then m else if 2 * m + 2 < q then q else 2 * m + 2
def sb_Room (q m mc ms : Nat) : Prop := q ≤ m ∨ (1 ≤ mc ∧ sb_cap q m ≤ ms ∧ sb_cap q m ≤ 65536)
theorem sb_cap_ge (q m : Nat) : q ≤ sb_cap q m := by
  unfold sb_cap
  split
  · omega
  · split <;> omega
theorem sb_cap_gem (q m : Nat) : m ≤ sb_cap q m := by
  unfold sb_cap
  split
  · omega
  · split <;> omega
theorem sb_cap_le {q m mc ms : Nat} (hm : m ≤ 65536) (hr : sb_Room q m mc ms) : sb_cap q m ≤ 65536 := by
  rcases hr with h | h
  · rw [sb_cap, if_pos h]
    exact hm
  · exact h.2.2
theorem sb_at {P : Int32 → Prop} {x y : Int32} (e : x = y) (h : P y) : P x := e ▸ h
def sb_dg (w : Nat) : Nat := if w < 10 then 1 else if w < 100 then 2 else if w < 1000 then 3 else if w < 10000 then 4 else if w < 100000 then 5 else if w < 1000000 then 6 else if w < 10000000 then 7 else if w < 100000000 then 8 else if w < 1000000000 then 9 else 10
def sb_dec (v : Nat) : Nat → Nat := fun i => 48 + v / 10 ^ (sb_dg v - 1 - i) % 10
theorem sb_dg_in (w : Nat) : 1 ≤ sb_dg w ∧ sb_dg w ≤ 10 := by
  unfold sb_dg
  constructor <;> (repeat' split) <;> omega
theorem sb_dg100 {w : Nat} (h : 100 ≤ w) (hw : w < 2 ^ 31) : sb_dg w = sb_dg (w / 100) + 2 := by
  rw [sb_dg, sb_dg, if_neg (show ¬ w < 10 by omega), if_neg (show ¬ w < 100 by omega)]
  by_cases h3 : w < 1000
  · rw [if_pos h3, if_pos (show w / 100 < 10 by omega)]
  rw [if_neg h3, if_neg (show ¬ w / 100 < 10 by omega)]
  by_cases h4 : w < 10000
  · rw [if_pos h4, if_pos (show w / 100 < 100 by omega)]
  rw [if_neg h4, if_neg (show ¬ w / 100 < 100 by omega)]
  by_cases h5 : w < 100000
  · rw [if_pos h5, if_pos (show w / 100 < 1000 by omega)]
  rw [if_neg h5, if_neg (show ¬ w / 100 < 1000 by omega)]
  by_cases h6 : w < 1000000
  · rw [if_pos h6, if_pos (show w / 100 < 10000 by omega)]
  rw [if_neg h6, if_neg (show ¬ w / 100 < 10000 by omega)]
  by_cases h7 : w < 10000000
  · rw [if_pos h7, if_pos (show w / 100 < 100000 by omega)]
  rw [if_neg h7, if_neg (show ¬ w / 100 < 100000 by omega)]
  by_cases h8 : w < 100000000
  · rw [if_pos h8, if_pos (show w / 100 < 1000000 by omega)]
  rw [if_neg h8, if_neg (show ¬ w / 100 < 1000000 by omega)]
  by_cases h9 : w < 1000000000
  · rw [if_pos h9, if_pos (show w / 100 < 10000000 by omega)]
  rw [if_neg h9, if_neg (show ¬ w / 100 < 10000000 by omega)]
  rw [if_pos (show w / 100 < 100000000 by omega)]
theorem sb_negT {w : Nat} (h : w < 2 ^ 31) : (-nI w).toInt = -(w : Int) := by
  rw [Int32.toInt_neg, nI_toInt h]
  exact Int.bmod_eq_of_le (by omega) (by omega)
theorem sb_nle {a b : Nat} (ha : a < 2 ^ 31) (hb : b < 2 ^ 31) : -nI a ≤ -nI b ↔ b ≤ a := by
  rw [Int32.le_iff_toInt_le, sb_negT ha, sb_negT hb]
  omega
theorem sb_nlt {a b : Nat} (ha : a < 2 ^ 31) (hb : b < 2 ^ 31) : -nI a < -nI b ↔ b < a := by
  rw [Int32.lt_iff_toInt_lt, sb_negT ha, sb_negT hb]
  omega
theorem sb_cmp {A B : Prop} {x : Int32} (v c : Nat) (f : c ≤ v → A) (g : v < c → B) (hv : v < 2 ^ 31) (hx : x = -nI c := by rfl) (hc : c < 2 ^ 31 := by omega) : (-nI v ≤ x → A) ∧ (¬ -nI v ≤ x → B) := by
  subst hx
  rw [sb_nle hv hc]
  exact ⟨f, fun z => g (by omega)⟩
theorem sb_ndiv {w : Nat} (hw : w < 2 ^ 31) : (-nI w) / 100 = -nI (w / 100) := by
  apply Int32.toInt_inj.mp
  have h100 : (100 : Int32).toInt = 100 := by decide
  rw [Int32.toInt_div, sb_negT hw, h100, sb_negT (by omega), Int.neg_tdiv, Int.tdiv_eq_ediv_of_nonneg (by omega), Int.bmod_eq_of_le (by omega) (by omega)]
  omega
theorem sb_nrem {w : Nat} (hw : w < 2 ^ 31) : (-nI (w / 100)) * 100 - (-nI w) = nI (w % 100) := by
  have h := pk_rem (a := w) (d := 100) hw (by decide) (by decide)
  rw [pk_div hw (by decide) (by decide)] at h
  rw [← h]
  show (-nI (w / 100)) * nI 100 - (-nI w) = nI w - nI (w / 100) * nI 100
  rw [Int32.neg_mul, Int32.sub_neg, Int32.add_comm, ← Int32.sub_eq_add_neg]
end
section
/-! rows on bits, shifts and unsigned numbers, to paste: each family out of a closed proof of our own, whole with what it rests on; each by itself clean at Lean in its own claim (generation 39, form 5). Take a family whole -/
/-! ===== Int32 by its bits: bt x i ===== -/
def bt (x : Int32) (i : Nat) : Bool := x.toBitVec.getLsbD i
theorem b_ext {x y : Int32} (h : ∀ i, i < 32 → bt x i = bt y i) : x = y := Int32.toBitVec_inj.mp (BitVec.eq_of_getLsbD_eq (fun i hi => h i hi))
theorem b_or (x y : Int32) (i : Nat) : bt (x ||| y) i = (bt x i || bt y i) := by unfold bt; rw [Int32.toBitVec_or, BitVec.getLsbD_or]
theorem b_and (x y : Int32) (i : Nat) : bt (x &&& y) i = (bt x i && bt y i) := by unfold bt; rw [Int32.toBitVec_and, BitVec.getLsbD_and]
theorem b_xor (x y : Int32) (i : Nat) : bt (x ^^^ y) i = (bt x i ^^ bt y i) := by unfold bt; rw [Int32.toBitVec_xor, BitVec.getLsbD_xor]
theorem b_big {x : Int32} {i : Nat} (h : 32 ≤ i) : bt x i = false := BitVec.getLsbD_of_ge _ _ h
theorem b_255 (i : Nat) : bt 255 i = decide (i < 8) := by
  rcases Nat.lt_or_ge i 32 with h | h
  · exact (by decide +kernel : ∀ i, i < 32 → bt 255 i = decide (i < 8)) i h
  · rw [b_big h, decide_eq_false (by omega)]
theorem b_65535 (i : Nat) : bt 65535 i = decide (i < 16) := by
  rcases Nat.lt_or_ge i 32 with h | h
  · exact (by decide +kernel : ∀ i, i < 32 → bt 65535 i = decide (i < 16)) i h
  · rw [b_big h, decide_eq_false (by omega)]
theorem b_m1 : ∀ i, i < 32 → bt (-1) i = true := by decide +kernel
theorem b_0 (i : Nat) : bt 0 i = false := BitVec.getLsbD_zero
theorem s_l : ∀ n, n < 32 → ((nI n &&& 31).toBitVec.smod 32).toNat = n := by decide +kernel
theorem s_u : ∀ n, n < 32 → (((nI n).toUInt32 &&& Int32.toUInt32 31).toBitVec % 32).toNat = n := by decide +kernel
theorem b_shl (n : Nat) (hn : n < 32) (x : Int32) {i : Nat} (hi : i < 32) : bt (x <<< (nI n &&& 31)) i = (decide (n ≤ i) && bt x (i - n)) := by
  unfold bt
  rw [Int32.toBitVec_shiftLeft]
  show (x.toBitVec <<< ((nI n &&& 31).toBitVec.smod 32).toNat).getLsbD i = _
  rw [s_l n hn, BitVec.getLsbD_shiftLeft]
  rcases Nat.lt_or_ge i n with h | h
  · simp [h, Nat.not_le.mpr h]
  · simp [hi, h, Nat.not_lt.mpr h]
theorem b_ushr (n : Nat) (hn : n < 32) (x : Int32) (i : Nat) : bt ((x.toUInt32 >>> ((nI n).toUInt32 &&& Int32.toUInt32 31)).toInt32) i = bt x (n + i) := by
  show (x.toUInt32 >>> ((nI n).toUInt32 &&& Int32.toUInt32 31)).toBitVec.getLsbD i = x.toUInt32.toBitVec.getLsbD (n + i)
  rw [UInt32.toBitVec_shiftRight]
  show (x.toUInt32.toBitVec >>> (((nI n).toUInt32 &&& Int32.toUInt32 31).toBitVec % 32).toNat).getLsbD i = _
  rw [s_u n hn, BitVec.getLsbD_ushiftRight]
theorem b_sshr (n : Nat) (hn : n < 32) (x : Int32) {i : Nat} (hi : i < 32) : bt (x >>> (nI n &&& 31)) i = if n + i < 32 then bt x (n + i) else bt x 31 := by
  unfold bt
  rw [Int32.toBitVec_shiftRight]
  show (x.toBitVec.sshiftRight ((nI n &&& 31).toBitVec.smod 32).toNat).getLsbD i = _
  rw [s_l n hn, BitVec.getLsbD_sshiftRight, BitVec.msb_eq_getLsbD_last]
  simp [hi]
theorem b_shl8 (x : Int32) {i : Nat} (hi : i < 32) : bt (x <<< ((8 : Int32) &&& 31)) i = (decide (8 ≤ i) && bt x (i - 8)) := b_shl 8 (by omega) x hi
theorem b_shl16 (x : Int32) {i : Nat} (hi : i < 32) : bt (x <<< ((16 : Int32) &&& 31)) i = (decide (16 ≤ i) && bt x (i - 16)) := b_shl 16 (by omega) x hi
theorem b_shl24 (x : Int32) {i : Nat} (hi : i < 32) : bt (x <<< ((24 : Int32) &&& 31)) i = (decide (24 ≤ i) && bt x (i - 24)) := b_shl 24 (by omega) x hi
theorem b_sshr8 (x : Int32) {i : Nat} (hi : i < 32) : bt (x >>> ((8 : Int32) &&& 31)) i = if 8 + i < 32 then bt x (8 + i) else bt x 31 := b_sshr 8 (by omega) x hi
/-! ===== nI under and, xor, >>>, one bit, 65535 ===== -/
theorem nx_and (a b : Nat) : nI a &&& nI b = nI (a &&& b) := by
  apply Int32.toBitVec_inj.1
  show BitVec.ofNat 32 a &&& BitVec.ofNat 32 b = BitVec.ofNat 32 (a &&& b)
  apply BitVec.eq_of_getLsbD_eq
  intro i hi
  simp [hi]
theorem nx_xor (a b : Nat) : nI a ^^^ nI b = nI (a ^^^ b) := by
  apply Int32.toBitVec_inj.1
  show BitVec.ofNat 32 a ^^^ BitVec.ofNat 32 b = BitVec.ofNat 32 (a ^^^ b)
  apply BitVec.eq_of_getLsbD_eq
  intro i hi
  simp [hi]
theorem nx_cnt : ∀ j : Fin 32, (UInt32.ofNat j.val &&& Int32.toUInt32 31).toNat % 32 = j.val := by decide +kernel
theorem nx_ush {k j : Nat} (hk : k < 65536) (hj : j < 32) : ((nI k).toUInt32 >>> ((nI j).toUInt32 &&& Int32.toUInt32 31)).toInt32 = nI (k >>> j) := by
  have hs : k >>> j ≤ k := by
    rw [Nat.shiftRight_eq_div_pow]
    exact Nat.div_le_self _ _
  have e2 : UInt32.ofNat k >>> (UInt32.ofNat j &&& Int32.toUInt32 31) = UInt32.ofNat (k >>> j) := by
    apply UInt32.toNat_inj.1
    have h1 : (UInt32.ofNat k).toNat = k := Nat.mod_eq_of_lt (by omega)
    have h2 : (UInt32.ofNat (k >>> j)).toNat = k >>> j := Nat.mod_eq_of_lt (by omega)
    rw [UInt32.toNat_shiftRight, nx_cnt ⟨j, hj⟩, h1, h2]
  show (UInt32.ofNat k >>> (UInt32.ofNat j &&& Int32.toUInt32 31)).toInt32 = _
  rw [e2]
  rfl
theorem nx_bit {k j : Nat} (hk : k < 65536) (hj : j < 16) : (((nI k).toUInt32 >>> ((nI j).toUInt32 &&& Int32.toUInt32 31)).toInt32 &&& 1) = 0 ↔ k.testBit j = false := by
  rw [nx_ush hk (by omega)]
  show nI (k >>> j) &&& nI 1 = 0 ↔ _
  rw [nx_and, Nat.and_one_is_mod, ← nI_0, nI_eq (by omega) (by omega), Nat.testBit_eq_decide_div_mod_eq, Nat.shiftRight_eq_div_pow, decide_eq_false_iff_not]
  generalize k / 2 ^ j = z
  omega
theorem nx_mod (k : Nat) : nI k &&& 65535 = nI (k % 65536) := by
  show nI k &&& nI 65535 = _
  rw [nx_and, show (65535 : Nat) = 2 ^ 16 - 1 from rfl, Nat.and_two_pow_sub_one_eq_mod]
theorem nx_m16 {k : Nat} (h : k < 65536) : nI k &&& 65535 = nI k := by rw [nx_mod, Nat.mod_eq_of_lt h]
theorem nx_mask (x : Int32) : ∃ k, k < 65536 ∧ x &&& 65535 = nI k := by
  have e : x = nI x.toBitVec.toNat := by
    apply Int32.toBitVec_inj.1
    show x.toBitVec = BitVec.ofNat 32 x.toBitVec.toNat
    simp
  refine ⟨x.toBitVec.toNat % 65536, Nat.mod_lt _ (by omega), ?_⟩
  rw [← nx_mod, ← e]
/-! ===== Int32 as a set of bits: test, set ===== -/
def nf_M (m : Int32) : Nat := 4294967296 - m.toBitVec.toNat
theorem nf_sh : ∀ l, l < 32 → ((1 : Int32) <<< (nI l &&& 31)).toBitVec = BitVec.twoPow 32 l := by decide +kernel
theorem nf_sl : ∀ l, l < 32 → (((nI l).toUInt32 &&& Int32.toUInt32 31).toBitVec % 32).toNat = l := by decide +kernel
theorem nf_tp : ∀ l, l < 32 → BitVec.twoPow 32 l ≠ 0#32 := by decide +kernel
theorem nf_bit (m : Int32) (l : Nat) (hl : l < 32) : ((m.toUInt32 >>> ((nI l).toUInt32 &&& Int32.toUInt32 31)).toInt32 &&& 1) = 0 ↔ (m &&& ((1 : Int32) <<< (nI l &&& 31))) = 0 := by
  have e : ((m.toUInt32 >>> ((nI l).toUInt32 &&& Int32.toUInt32 31)).toInt32).toBitVec = m.toBitVec >>> l := by
    show m.toBitVec >>> (((nI l).toUInt32 &&& Int32.toUInt32 31).toBitVec % 32) = m.toBitVec >>> l
    rw [BitVec.ushiftRight_eq', nf_sl l hl]
  rw [← Int32.toBitVec_inj, ← Int32.toBitVec_inj, Int32.toBitVec_and, Int32.toBitVec_and, nf_sh l hl, e, BitVec.and_twoPow]
  show (m.toBitVec >>> l &&& 1#32) = 0#32 ↔ _ = 0#32
  rw [BitVec.and_one_eq_setWidth_ofBool_getLsbD, BitVec.getLsbD_ushiftRight, Nat.add_zero]
  cases hb : m.toBitVec.getLsbD l
  · exact ⟨fun _ => by simp, fun _ => by decide⟩
  · exact ⟨fun z => absurd z (by decide), fun z => absurd ((if_pos rfl).symm.trans z) (nf_tp l hl)⟩
theorem nf_gr (m k : Int32) (h : m &&& k = 0) (hk : k ≠ 0) : nf_M (m ||| k) < nf_M m := by
  have hm := m.toBitVec.isLt
  have hm' := (m ||| k).toBitVec.isLt
  have h1 : m.toBitVec.toNat ≤ (m ||| k).toBitVec.toNat := by
    rw [Int32.toBitVec_or, BitVec.toNat_or]
    exact Nat.left_le_or
  have h2 : m.toBitVec.toNat ≠ (m ||| k).toBitVec.toNat := by
    intro e
    have e2 : m = m ||| k := Int32.toBitVec_inj.mp (BitVec.eq_of_toNat_eq e)
    apply hk
    apply Int32.toBitVec_inj.mp
    show k.toBitVec = 0#32
    apply BitVec.eq_of_getLsbD_eq
    intro i hi
    have a : m.toBitVec.getLsbD i = (m.toBitVec.getLsbD i || k.toBitVec.getLsbD i) := by rw [← BitVec.getLsbD_or, ← Int32.toBitVec_or, ← e2]
    have b : (m.toBitVec.getLsbD i && k.toBitVec.getLsbD i) = false := by
      rw [← BitVec.getLsbD_and, ← Int32.toBitVec_and, h]
      exact BitVec.getLsbD_zero
    rw [BitVec.getLsbD_zero]
    revert a b
    cases m.toBitVec.getLsbD i <;> cases k.toBitVec.getLsbD i <;> simp
  unfold nf_M
  omega
end
section
/-! bits, narrowing, small tools -/
theorem fb_1 : ∀ i, i < 32 → bt 1 i = decide (i = 0) := by decide +kernel
theorem fb_2 : ∀ i, i < 32 → bt 2 i = decide (i = 1) := by decide +kernel
theorem fb_256 : ∀ i, i < 32 → bt 256 i = decide (i = 8) := by decide +kernel
theorem fb_val (x : Int32) {p : Nat} (hp : p < 32) : ((x >>> (nI p &&& 31)) &&& 1) = if bt x p = true then 1 else 0 := by
  apply b_ext
  intro i hi
  rw [b_and, b_sshr p hp x hi, fb_1 i hi]
  by_cases h0 : i = 0
  · subst h0
    rw [if_pos (by omega), Nat.add_zero]
    cases hb : bt x p
    · rw [if_neg (by decide), b_0]; rfl
    · rw [if_pos rfl, fb_1 0 (by decide)]; rfl
  · rw [decide_eq_false h0, Bool.and_false]
    cases hb : bt x p
    · rw [if_neg (by decide), b_0]
    · rw [if_pos rfl, fb_1 i hi, decide_eq_false h0]
theorem fb_br {x : Int32} {p : Nat} {A B : Prop} (hp : p < 32) (f : bt x p = false → A) (h : bt x p = true → B) : (((x >>> (nI p &&& 31)) &&& 1) = 0 → A) ∧ (¬ ((x >>> (nI p &&& 31)) &&& 1) = 0 → B) := by
  rw [fb_val x hp]
  cases hb : bt x p
  · rw [if_neg (by decide)]; exact br_t rfl (f hb)
  · rw [if_pos rfl]; exact br_f (by decide) (h hb)
theorem fb_br1 {x : Int32} {p : Nat} {A B : Prop} (hp : p < 32) (h : bt x p = true → A) (f : bt x p = false → B) : (((x >>> (nI p &&& 31)) &&& 1) = 1 → A) ∧ (¬ ((x >>> (nI p &&& 31)) &&& 1) = 1 → B) := by
  rw [fb_val x hp]
  cases hb : bt x p
  · rw [if_neg (by decide)]; exact br_f (by decide) (f hb)
  · rw [if_pos rfl]; exact br_t rfl (h hb)
theorem fb_one {q i : Nat} (hq : q < 32) (hi : i < 32) : bt ((1 : Int32) <<< (nI q &&& 31)) i = decide (i = q) := by
  rw [b_shl q hq _ hi]
  by_cases h : i = q
  · subst h; rw [Nat.sub_self, fb_1 0 (by decide)]; simp
  · rw [decide_eq_false h]
    by_cases h2 : q ≤ i
    · rw [fb_1 (i - q) (by omega), decide_eq_false (by omega : ¬ i - q = 0), Bool.and_false]
    · rw [decide_eq_false h2, Bool.false_and]
theorem fb_two {q i : Nat} (hq : q < 32) (hi : i < 32) : bt ((2 : Int32) <<< (nI q &&& 31)) i = decide (i = q + 1) := by
  rw [b_shl q hq _ hi]
  by_cases h : i = q + 1
  · subst h; rw [Nat.add_sub_cancel_left, fb_2 1 (by decide)]; simp
  · rw [decide_eq_false h]
    by_cases h2 : q ≤ i
    · rw [fb_2 (i - q) (by omega), decide_eq_false (by omega : ¬ i - q = 1), Bool.and_false]
    · rw [decide_eq_false h2, Bool.false_and]
theorem fb_not (x : Int32) {i : Nat} (hi : i < 32) : bt (x ^^^ (-1)) i = !bt x i := by
  rw [b_xor, b_m1 i hi, Bool.xor_true]
theorem fb_z {x : Int32} : x = 0 ↔ ∀ i, i < 32 → bt x i = false :=
  ⟨fun h i _ => by rw [h, b_0], fun h => b_ext fun i hi => by rw [h i hi, b_0]⟩
theorem fb_nz {x : Int32} (h : ¬ x = 0) : ∃ i, i < 32 ∧ bt x i = true := by
  apply Classical.byContradiction
  intro hn
  apply h
  rw [fb_z]
  intro i hi
  cases hb : bt x i
  · rfl
  · exact absurd ⟨i, hi, hb⟩ hn
theorem fb_lt {x : Int32} {i : Nat} (h : bt x i = true) : i < 32 := by
  rcases Nat.lt_or_ge i 32 with z | z
  · exact z
  · rw [b_big z] at h; exact absurd h (by decide)
/-- the set that a mask holds -/
def fb_rep (x : Int32) (S : Nat → Prop) : Prop := ∀ p, p < 32 → (bt x p = true ↔ S p)
theorem fb_rep_u {x y : Int32} {S : Nat → Prop} (h : fb_rep x S) (k : fb_rep y S) : x = y := by
  apply b_ext
  intro i hi
  have a := (h i hi).trans (k i hi).symm
  cases hx : bt x i <;> cases hy : bt y i
  · rfl
  · exact absurd (a.mpr hy) (by rw [hx]; decide)
  · exact absurd (a.mp hx) (by rw [hy]; decide)
  · rfl
theorem fb_rep_or {x y : Int32} {S T : Nat → Prop} (h : fb_rep x S) (k : fb_rep y T) : fb_rep (x ||| y) (fun p => S p ∨ T p) := by
  intro p hp
  rw [b_or, Bool.or_eq_true, h p hp, k p hp]
theorem fb_rep_e {x : Int32} {S T : Nat → Prop} (h : fb_rep x S) (e : ∀ p, S p ↔ T p) : fb_rep x T := fun p hp => (h p hp).trans (e p)
theorem fb_rep_one {s : Nat} (hs : s < 32) : fb_rep ((1 : Int32) <<< (nI s &&& 31)) (fun p => p = s) := by
  intro p hp
  rw [fb_one hs hp, decide_eq_true_eq]
theorem fb_rep_0 : fb_rep 0 (fun _ => False) := by
  intro p hp
  rw [b_0]
  exact ⟨fun h => absurd h (by decide), fun h => h.elim⟩
theorem fb_n8 {x : Int32} (h : ∀ i, i < 32 → 7 ≤ i → bt x i = false) : x.toInt8.toInt32 = x := by
  apply b_ext
  intro i hi
  show (x.toBitVec.signExtend 8 |>.signExtend 32).getLsbD i = x.toBitVec.getLsbD i
  have h7 : x.toBitVec.getLsbD 7 = false := h 7 (by decide) (by decide)
  rw [BitVec.getLsbD_signExtend]
  rcases Nat.lt_or_ge i 8 with z | z
  · rw [if_pos z, BitVec.getLsbD_signExtend, if_pos (by omega)]; simp [hi, z]
  · have e : x.toBitVec.getLsbD i = false := h i hi (by omega)
    rw [if_neg (by omega), e, BitVec.msb_eq_getLsbD_last, BitVec.getLsbD_signExtend]
    simp
    exact fun _ => (BitVec.getLsbD_eq_getElem (by decide)).symm.trans h7
theorem fb_n16 {x : Int32} (h : ∀ i, i < 32 → 15 ≤ i → bt x i = false) : x.toInt16.toInt32 = x := by
  apply b_ext
  intro i hi
  show (x.toBitVec.signExtend 16 |>.signExtend 32).getLsbD i = x.toBitVec.getLsbD i
  have h7 : x.toBitVec.getLsbD 15 = false := h 15 (by decide) (by decide)
  rw [BitVec.getLsbD_signExtend]
  rcases Nat.lt_or_ge i 16 with z | z
  · rw [if_pos z, BitVec.getLsbD_signExtend, if_pos (by omega)]; simp [hi, z]
  · have e : x.toBitVec.getLsbD i = false := h i hi (by omega)
    rw [if_neg (by omega), e, BitVec.msb_eq_getLsbD_last, BitVec.getLsbD_signExtend]
    simp
    exact fun _ => (BitVec.getLsbD_eq_getElem (by decide)).symm.trans h7
theorem fb_nI8 : ∀ n, n < 128 → (nI n).toInt8.toInt32 = nI n := by decide +kernel
theorem fb_nI16 : ∀ n, n < 4096 → (nI n).toInt16.toInt32 = nI n := by decide +kernel
theorem fb_m8 : (-1 : Int32).toInt8.toInt32 = -1 := by decide +kernel
theorem fb_vb {n : Nat} (h : n < 128) : vp_nar .byte (nI n) = nI n := by rw [vp_nar_byte, fb_nI8 n h]
theorem fb_vb2 {n : Nat} (h : n < 128) : vp_nar .byte (nI n).toInt8.toInt32 = nI n := by rw [fb_nI8 n h, fb_vb h]
theorem fb_vs2 {n : Nat} (h : n < 4096) : vp_nar .short (nI n).toInt16.toInt32 = nI n := by rw [vp_nar_short, fb_nI16 n h, fb_nI16 n h]
theorem fb_vm : vp_nar .byte (-1) = -1 := by rw [vp_nar_byte, fb_m8]
theorem fb_vm2 : vp_nar .byte (-1 : Int32).toInt8.toInt32 = -1 := by rw [fb_m8, fb_vm]
theorem fb_v0 : vp_nar .byte 0 = 0 := fb_vb (n := 0) (by decide)
theorem fb_vs0 : vp_nar .short 0 = 0 := by rw [vp_nar_short]; decide
theorem fb_v1 : vp_nar .byte 1 = 1 := fb_vb (n := 1) (by decide)
theorem fb_b0 : vp_nar .boolean 0 = 0 := rfl
theorem fb_b1 : vp_nar .boolean 1 = 1 := rfl
theorem fb_nIn {a b : Nat} (ha : a < 2 ^ 31) (hb : b < 2 ^ 31) (h : a ≠ b) : ¬ nI a = nI b := fun e => h ((nI_eq ha hb).mp e)
/-- the upper bounds of a number -/
def fb_ub (b : Nat) (P : Nat → Prop) : Prop := ∀ u, b ≤ u ↔ P u
theorem fb_ub_u {a b : Nat} {P : Nat → Prop} (h : fb_ub a P) (k : fb_ub b P) : a = b :=
  Nat.le_antisymm ((h b).mpr ((k b).mp (Nat.le_refl b))) ((k a).mpr ((h a).mp (Nat.le_refl a)))
end
section
/-! the grammar and the text as naturals: n, m, rule of, length, what, sign, text -/
abbrev fd_Gr : Type := Nat × Nat × (Nat → Nat) × (Nat → Nat) × (Nat → Nat → Nat) × (Nat → Nat → Nat) × (Nat → Nat)
def fd_n (g : fd_Gr) : Nat := g.1
def fd_m (g : fd_Gr) : Nat := g.2.1
def fd_R (g : fd_Gr) : Nat → Nat := g.2.2.1
def fd_L (g : fd_Gr) : Nat → Nat := g.2.2.2.1
def fd_W (g : fd_Gr) : Nat → Nat → Nat := g.2.2.2.2.1
def fd_S (g : fd_Gr) : Nat → Nat → Nat := g.2.2.2.2.2.1
def fd_T (g : fd_Gr) : Nat → Nat := g.2.2.2.2.2.2
/-- bounds, and what the arrays of either side hold -/
def fd_G (g : fd_Gr) (wh sg le ru tx : Nat → Int32) : Prop :=
  fd_n g ≤ 12 ∧ fd_m g ≤ 24 ∧
  (∀ a, a < fd_n g → fd_R g a < 6 ∧ ru a = nI (fd_R g a) ∧ fd_L g a ≤ 5 ∧ le a = nI (fd_L g a) ∧
    ∀ k, k < fd_L g a → fd_W g a k < 14 ∧ wh (5 * a + k) = nI (fd_W g a k) ∧ fd_S g a k < 4 ∧ sg (5 * a + k) = nI (fd_S g a k)) ∧
  (∀ p, p < fd_m g → fd_T g p < 8 ∧ tx p = nI (fd_T g p))
section
variable {g : fd_Gr} {wh sg le ru tx : Nat → Int32} (h : fd_G g wh sg le ru tx) {a k p : Nat}
theorem fd_n12 (h : fd_G g wh sg le ru tx) : fd_n g ≤ 12 := h.1
theorem fd_m24 (h : fd_G g wh sg le ru tx) : fd_m g ≤ 24 := h.2.1
theorem fd_R6 (h : fd_G g wh sg le ru tx) (ha : a < fd_n g) : fd_R g a < 6 := (h.2.2.1 a ha).1
theorem fd_ru (h : fd_G g wh sg le ru tx) (ha : a < fd_n g) : ru a = nI (fd_R g a) := (h.2.2.1 a ha).2.1
theorem fd_L5 (h : fd_G g wh sg le ru tx) (ha : a < fd_n g) : fd_L g a ≤ 5 := (h.2.2.1 a ha).2.2.1
theorem fd_le (h : fd_G g wh sg le ru tx) (ha : a < fd_n g) : le a = nI (fd_L g a) := (h.2.2.1 a ha).2.2.2.1
theorem fd_W14 (h : fd_G g wh sg le ru tx) (ha : a < fd_n g) (hk : k < fd_L g a) : fd_W g a k < 14 := ((h.2.2.1 a ha).2.2.2.2 k hk).1
theorem fd_wh (h : fd_G g wh sg le ru tx) (ha : a < fd_n g) (hk : k < fd_L g a) : wh (5 * a + k) = nI (fd_W g a k) := ((h.2.2.1 a ha).2.2.2.2 k hk).2.1
theorem fd_S4 (h : fd_G g wh sg le ru tx) (ha : a < fd_n g) (hk : k < fd_L g a) : fd_S g a k < 4 := ((h.2.2.1 a ha).2.2.2.2 k hk).2.2.1
theorem fd_sg (h : fd_G g wh sg le ru tx) (ha : a < fd_n g) (hk : k < fd_L g a) : sg (5 * a + k) = nI (fd_S g a k) := ((h.2.2.1 a ha).2.2.2.2 k hk).2.2.2
theorem fd_T8 (h : fd_G g wh sg le ru tx) (hp : p < fd_m g) : fd_T g p < 8 := (h.2.2.2 p hp).1
theorem fd_tx (h : fd_G g wh sg le ru tx) (hp : p < fd_m g) : tx p = nI (fd_T g p) := (h.2.2.2 p hp).2
end
/-! counting (after a worked proof) -/
noncomputable def fb_01 (P : Prop) : Nat := @ite Nat P (Classical.propDecidable P) 1 0
theorem fb_01t {P : Prop} (h : P) : fb_01 P = 1 := by unfold fb_01; rw [if_pos h]
theorem fb_01f {P : Prop} (h : ¬ P) : fb_01 P = 0 := by unfold fb_01; rw [if_neg h]
theorem fb_01le (P : Prop) : fb_01 P ≤ 1 := by
  rcases Classical.em P with h | h
  · rw [fb_01t h]; omega
  · rw [fb_01f h]; omega
theorem fb_01m {P Q : Prop} (h : P → Q) : fb_01 P ≤ fb_01 Q := by
  rcases Classical.em P with hp | hp
  · rw [fb_01t hp, fb_01t (h hp)]; omega
  · rw [fb_01f hp]; omega
noncomputable def fb_cn (P : Nat → Prop) : Nat → Nat
  | 0 => 0
  | k + 1 => fb_cn P k + fb_01 (P k)
theorem fb_cn_s (P : Nat → Prop) (k : Nat) : fb_cn P (k + 1) = fb_cn P k + fb_01 (P k) := rfl
theorem fb_cn_m {P Q : Nat → Prop} : ∀ {N : Nat}, (∀ k, k < N → P k → Q k) → fb_cn P N ≤ fb_cn Q N
  | 0, _ => Nat.le_refl _
  | N + 1, h => by
    have a := fb_cn_m (P := P) (Q := Q) (N := N) (fun k hk => h k (by omega))
    have b := fb_01m (h N (by omega))
    simp only [fb_cn]; omega
theorem fb_cn_lt {P Q : Nat → Prop} {a : Nat} (hp : ¬ P a) (hq : Q a) : ∀ {N : Nat}, (∀ k, k < N → P k → Q k) → a < N → fb_cn P N < fb_cn Q N
  | 0, _, h => by omega
  | N + 1, h, ha => by
    simp only [fb_cn]
    rcases Nat.lt_or_ge a N with z | z
    · have x := fb_cn_lt hp hq (N := N) (fun k hk => h k (by omega)) z
      have b := fb_01m (h N (by omega))
      omega
    · have e : a = N := by omega
      subst e
      have x := fb_cn_m (P := P) (Q := Q) (N := a) (fun k hk => h k (by omega))
      rw [fb_01t hq, fb_01f hp]; omega
theorem fb_cn_le (P : Nat → Prop) : ∀ N, fb_cn P N ≤ N
  | 0 => Nat.le_refl _
  | N + 1 => by have := fb_cn_le P N; have := fb_01le (P N); simp only [fb_cn]; omega
theorem fb_cn_e {P Q : Nat → Prop} {N : Nat} (h : ∀ k, k < N → (P k ↔ Q k)) : fb_cn P N = fb_cn Q N :=
  Nat.le_antisymm (fb_cn_m fun k hk => (h k hk).mp) (fb_cn_m fun k hk => (h k hk).mpr)
/-- a set that only grows, and grows in each round unless it is closed, is closed behind more rounds than it has room -/
theorem fb_grow {S S' : Nat → Prop} {N z : Nat} {C : Prop} (hm : ∀ k, k < N → S k → S' k) (hs : (∀ k, k < N → S' k → S k) → C) (h : z ≤ fb_cn S N) : C ∨ z + 1 ≤ fb_cn S' N := by
  rcases Classical.em (∀ k, k < N → S' k → S k) with e | e
  · exact Or.inl (hs e)
  · obtain ⟨k, hk⟩ := Classical.not_forall.mp e
    obtain ⟨hk1, hk2⟩ := Classical.not_imp.mp hk
    obtain ⟨hk2, hk3⟩ := Classical.not_imp.mp hk2
    have := fb_cn_lt hk3 hk2 hm hk1
    exact Or.inr (by omega)
end
section
/-! places that items lead to, the least ends and bounds -/
def fs_St (g : fd_Gr) (E : Nat → Nat → Nat → Prop) (w p q : Nat) : Prop :=
  (w < 8 ∧ p < fd_m g ∧ fd_T g p = w ∧ q = p + 1) ∨ (8 ≤ w ∧ E (w - 8) p q)
def fs_Ct (g : fd_Gr) (F : Nat → Nat → Nat) (w p u : Nat) : Prop :=
  (w < 8 → p < fd_m g → fd_T g p = w → p + 1 ≤ u) ∧ (8 ≤ w → F (w - 8) p ≤ u)
def fs_On (g : fd_Gr) (E : Nat → Nat → Nat → Prop) (w : Nat) (S : Nat → Prop) (q : Nat) : Prop := ∃ p, S p ∧ fs_St g E w p q
def fs_Sr (g : fd_Gr) (E : Nat → Nat → Nat → Prop) (w : Nat) (S : Nat → Prop) (q : Nat) : Prop :=
  ∀ T : Nat → Prop, (∀ p, S p → T p) → (∀ p q, T p → fs_St g E w p q → T q) → T q
def fs_iS (g : fd_Gr) (E : Nat → Nat → Nat → Prop) (a k : Nat) (c : Bool) (S : Nat → Prop) : Nat → Prop :=
  if fd_S g a k = 0 then fs_On g E (fd_W g a k) S
  else if fd_S g a k = 1 then (fun q => S q ∨ fs_On g E (fd_W g a k) S q)
  else if fd_S g a k = 2 then fs_Sr g E (fd_W g a k) S
  else if c = true then fs_Sr g E (fd_W g a k) S else fs_Sr g E (fd_W g a k) (fs_On g E (fd_W g a k) S)
def fs_iB (g : fd_Gr) (E : Nat → Nat → Nat → Prop) (F : Nat → Nat → Nat) (a k : Nat) (c : Bool) (S : Nat → Prop) (u : Nat) : Prop :=
  if fd_S g a k < 2 then ∀ p, S p → fs_Ct g F (fd_W g a k) p u
  else if fd_S g a k = 2 then ∀ p, fs_Sr g E (fd_W g a k) S p → fs_Ct g F (fd_W g a k) p u
  else (c = true ∨ ∀ p, S p → fs_Ct g F (fd_W g a k) p u) ∧ ∀ p, fs_iS g E a k c S p → fs_Ct g F (fd_W g a k) p u
def fs_go (g : fd_Gr) (E : Nat → Nat → Nat → Prop) (a : Nat) : Nat → Nat → Bool → (Nat → Prop) → Nat → Prop
  | 0, _, _, S => S
  | d + 1, k, c, S => fs_go g E a d (k + 1) false (fs_iS g E a k c S)
def fs_gB (g : fd_Gr) (E : Nat → Nat → Nat → Prop) (F : Nat → Nat → Nat) (a : Nat) : Nat → Nat → Bool → (Nat → Prop) → Nat → Prop
  | 0, _, _, _, _ => True
  | d + 1, k, c, S, u => fs_iB g E F a k c S u ∧ fs_gB g E F a d (k + 1) false (fs_iS g E a k c S) u
def fs_one (s : Nat) : Nat → Prop := fun p => p = s
def fs_Clo (g : fd_Gr) (E : Nat → Nat → Nat → Prop) (F : Nat → Nat → Nat) : Prop :=
  (∀ r p, p ≤ F r p) ∧ (∀ r p q, E r p q → q ≤ F r p) ∧ ∀ a s, a < fd_n g → s ≤ fd_m g →
    (∀ q, fs_go g E a (fd_L g a) 0 false (fs_one s) q → E (fd_R g a) s q) ∧ fs_gB g E F a (fd_L g a) 0 false (fs_one s) (F (fd_R g a) s)
section
variable {g : fd_Gr} {E E' : Nat → Nat → Nat → Prop} {F F' : Nat → Nat → Nat} {a : Nat}
theorem fs_iS0 {k : Nat} {c : Bool} {S : Nat → Prop} (h : fd_S g a k = 0) : fs_iS g E a k c S = fs_On g E (fd_W g a k) S := by
  unfold fs_iS; rw [if_pos h]
theorem fs_iS1 {k : Nat} {c : Bool} {S : Nat → Prop} (h : fd_S g a k = 1) : fs_iS g E a k c S = (fun q => S q ∨ fs_On g E (fd_W g a k) S q) := by
  unfold fs_iS; rw [if_neg (by omega), if_pos h]
theorem fs_iS2 {k : Nat} {c : Bool} {S : Nat → Prop} (h : fd_S g a k = 2) : fs_iS g E a k c S = fs_Sr g E (fd_W g a k) S := by
  unfold fs_iS; rw [if_neg (by omega), if_neg (by omega), if_pos h]
theorem fs_iS3t {k : Nat} {S : Nat → Prop} (h : 3 ≤ fd_S g a k) : fs_iS g E a k true S = fs_Sr g E (fd_W g a k) S := by
  unfold fs_iS; rw [if_neg (by omega), if_neg (by omega), if_neg (by omega), if_pos rfl]
theorem fs_iS3f {k : Nat} {S : Nat → Prop} (h : 3 ≤ fd_S g a k) : fs_iS g E a k false S = fs_Sr g E (fd_W g a k) (fs_On g E (fd_W g a k) S) := by
  unfold fs_iS; rw [if_neg (by omega), if_neg (by omega), if_neg (by omega), if_neg (by decide)]
theorem fs_iB1 {k : Nat} {c : Bool} {S : Nat → Prop} {u : Nat} (h : fd_S g a k < 2) : fs_iB g E F a k c S u = ∀ p, S p → fs_Ct g F (fd_W g a k) p u := by
  unfold fs_iB; rw [if_pos h]
theorem fs_iB2 {k : Nat} {c : Bool} {S : Nat → Prop} {u : Nat} (h : fd_S g a k = 2) : fs_iB g E F a k c S u = ∀ p, fs_Sr g E (fd_W g a k) S p → fs_Ct g F (fd_W g a k) p u := by
  unfold fs_iB; rw [if_neg (by omega), if_pos h]
theorem fs_iB3 {k : Nat} {c : Bool} {S : Nat → Prop} {u : Nat} (h : 3 ≤ fd_S g a k) : fs_iB g E F a k c S u = ((c = true ∨ ∀ p, S p → fs_Ct g F (fd_W g a k) p u) ∧ ∀ p, fs_iS g E a k c S p → fs_Ct g F (fd_W g a k) p u) := by
  unfold fs_iB; rw [if_neg (by omega), if_neg (by omega)]
theorem fs_St_m (hE : ∀ r p q, E r p q → E' r p q) {w p q : Nat} (h : fs_St g E w p q) : fs_St g E' w p q :=
  h.elim Or.inl (fun z => Or.inr ⟨z.1, hE _ _ _ z.2⟩)
theorem fs_On_m (hE : ∀ r p q, E r p q → E' r p q) {w q : Nat} {S S' : Nat → Prop} (hS : ∀ p, S p → S' p) (h : fs_On g E w S q) : fs_On g E' w S' q :=
  h.elim fun p z => ⟨p, hS p z.1, fs_St_m hE z.2⟩
theorem fs_Sr_m (hE : ∀ r p q, E r p q → E' r p q) {w q : Nat} {S S' : Nat → Prop} (hS : ∀ p, S p → S' p) (h : fs_Sr g E w S q) : fs_Sr g E' w S' q :=
  fun T h1 h2 => h T (fun p z => h1 p (hS p z)) (fun p q t z => h2 p q t (fs_St_m hE z))
theorem fs_Sr_b {w p : Nat} {S : Nat → Prop} (h : S p) : fs_Sr g E w S p := fun _ h1 _ => h1 p h
theorem fs_Sr_s {w p q : Nat} {S : Nat → Prop} (h : fs_Sr g E w S p) (z : fs_St g E w p q) : fs_Sr g E w S q :=
  fun T h1 h2 => h2 p q (h T h1 h2) z
theorem fs_iS_m (hE : ∀ r p q, E r p q → E' r p q) {k : Nat} {c : Bool} {S S' : Nat → Prop} (hS : ∀ p, S p → S' p) {q : Nat} (h : fs_iS g E a k c S q) : fs_iS g E' a k c S' q := by
  rcases (by omega : fd_S g a k = 0 ∨ fd_S g a k = 1 ∨ fd_S g a k = 2 ∨ 3 ≤ fd_S g a k) with s | s | s | s
  · rw [fs_iS0 s] at h ⊢; exact fs_On_m hE hS h
  · rw [fs_iS1 s] at h ⊢; exact h.elim (fun z => Or.inl (hS _ z)) (fun z => Or.inr (fs_On_m hE hS z))
  · rw [fs_iS2 s] at h ⊢; exact fs_Sr_m hE hS h
  · cases c
    · rw [fs_iS3f s] at h ⊢; exact fs_Sr_m hE (fun p z => fs_On_m hE hS z) h
    · rw [fs_iS3t s] at h ⊢; exact fs_Sr_m hE hS h
theorem fs_go_m (hE : ∀ r p q, E r p q → E' r p q) : ∀ (d k : Nat) (c : Bool) (S S' : Nat → Prop), (∀ p, S p → S' p) → ∀ q, fs_go g E a d k c S q → fs_go g E' a d k c S' q
  | 0, _, _, _, _, hS, q, h => hS q h
  | d + 1, k, c, S, S', hS, q, h => fs_go_m hE d (k + 1) false _ _ (fun p z => fs_iS_m hE hS z) q h
theorem fs_Ct_m (hF : ∀ r p, F' r p ≤ F r p) {w p u u' : Nat} (hu : u ≤ u') (h : fs_Ct g F w p u) : fs_Ct g F' w p u' :=
  ⟨fun a b c => Nat.le_trans (h.1 a b c) hu, fun z => Nat.le_trans (hF _ _) (Nat.le_trans (h.2 z) hu)⟩
theorem fs_iB_m (hE : ∀ r p q, E' r p q → E r p q) (hF : ∀ r p, F' r p ≤ F r p) {k u u' : Nat} (hu : u ≤ u') {c : Bool} {S S' : Nat → Prop} (hS : ∀ p, S' p → S p) (h : fs_iB g E F a k c S u) : fs_iB g E' F' a k c S' u' := by
  rcases (by omega : fd_S g a k < 2 ∨ fd_S g a k = 2 ∨ 3 ≤ fd_S g a k) with s | s | s
  · rw [fs_iB1 s] at h ⊢; exact fun p z => fs_Ct_m hF hu (h p (hS p z))
  · rw [fs_iB2 s] at h ⊢; exact fun p z => fs_Ct_m hF hu (h p (fs_Sr_m hE hS z))
  · rw [fs_iB3 s] at h ⊢
    exact ⟨h.1.elim Or.inl (fun y => Or.inr (fun p z => fs_Ct_m hF hu (y p (hS p z)))), fun p z => fs_Ct_m hF hu (h.2 p (fs_iS_m hE hS z))⟩
theorem fs_gB_m (hE : ∀ r p q, E' r p q → E r p q) (hF : ∀ r p, F' r p ≤ F r p) {u u' : Nat} (hu : u ≤ u') : ∀ (d k : Nat) (c : Bool) (S S' : Nat → Prop), (∀ p, S' p → S p) → fs_gB g E F a d k c S u → fs_gB g E' F' a d k c S' u'
  | 0, _, _, _, _, _, _ => trivial
  | d + 1, k, c, S, S', hS, h => ⟨fs_iB_m hE hF hu hS h.1, fs_gB_m hE hF hu d (k + 1) false _ _ (fun p z => fs_iS_m hE hS z) h.2⟩
/-- a set that holds the start and is kept by every step holds all -/
theorem fs_iS_in {I : Nat → Prop} (hI : ∀ w p q, I p → fs_St g E w p q → I q) {k : Nat} {c : Bool} {S : Nat → Prop} (hS : ∀ p, S p → I p) {q : Nat} (h : fs_iS g E a k c S q) : I q := by
  have hO : ∀ q, fs_On g E (fd_W g a k) S q → I q := fun q z => z.elim fun p y => hI _ p q (hS p y.1) y.2
  rcases (by omega : fd_S g a k = 0 ∨ fd_S g a k = 1 ∨ fd_S g a k = 2 ∨ 3 ≤ fd_S g a k) with s | s | s | s
  · rw [fs_iS0 s] at h; exact hO q h
  · rw [fs_iS1 s] at h; exact h.elim (hS q) (hO q)
  · rw [fs_iS2 s] at h; exact h I hS (hI _)
  · cases c
    · rw [fs_iS3f s] at h; exact h I hO (hI _)
    · rw [fs_iS3t s] at h; exact h I hS (hI _)
theorem fs_go_in {I : Nat → Prop} (hI : ∀ w p q, I p → fs_St g E w p q → I q) : ∀ (d k : Nat) (c : Bool) (S : Nat → Prop), (∀ p, S p → I p) → ∀ q, fs_go g E a d k c S q → I q
  | 0, _, _, _, hS, q, h => hS q h
  | d + 1, k, _, _, hS, q, h => fs_go_in hI d (k + 1) false _ (fun _ z => fs_iS_in hI hS z) q h
theorem fs_gB_in {I : Nat → Prop} {u : Nat} (hI : ∀ w p q, I p → fs_St g E w p q → I q) (hC : ∀ w p, I p → fs_Ct g F w p u) : ∀ (d k : Nat) (c : Bool) (S : Nat → Prop), (∀ p, S p → I p) → fs_gB g E F a d k c S u
  | 0, _, _, _, _ => trivial
  | d + 1, k, c, S, hS => by
    refine ⟨?_, fs_gB_in hI hC d (k + 1) false _ (fun _ z => fs_iS_in hI hS z)⟩
    rcases (by omega : fd_S g a k < 2 ∨ fd_S g a k = 2 ∨ 3 ≤ fd_S g a k) with s | s | s
    · rw [fs_iB1 s]; exact fun p z => hC _ p (hS p z)
    · rw [fs_iB2 s]; exact fun p z => hC _ p (z I hS (hI _))
    · rw [fs_iB3 s]; exact ⟨Or.inr (fun p z => hC _ p (hS p z)), fun p z => hC _ p (fs_iS_in hI hS z)⟩
/-- places stay below a bound of the contributions -/
theorem fs_iS_le (hEF : ∀ r p q, E r p q → q ≤ F r p) {k u : Nat} {c : Bool} {S : Nat → Prop} (hB : fs_iB g E F a k c S u) (hS : ∀ p, S p → p ≤ u) {q : Nat} (h : fs_iS g E a k c S q) : q ≤ u := by
  have st : ∀ {w p q : Nat}, fs_Ct g F w p u → fs_St g E w p q → q ≤ u := by
    intro w p q c z
    rcases z with ⟨h1, h2, h3, rfl⟩ | ⟨h1, h2⟩
    · exact c.1 h1 h2 h3
    · exact Nat.le_trans (hEF _ _ _ h2) (c.2 h1)
  rcases (by omega : fd_S g a k = 0 ∨ fd_S g a k = 1 ∨ fd_S g a k = 2 ∨ 3 ≤ fd_S g a k) with s | s | s | s
  · rw [fs_iS0 s] at h; rw [fs_iB1 (by omega)] at hB
    obtain ⟨p, hp, z⟩ := h
    exact st (hB p hp) z
  · rw [fs_iS1 s] at h; rw [fs_iB1 (by omega)] at hB
    rcases h with h | ⟨p, hp, z⟩
    · exact hS q h
    · exact st (hB p hp) z
  · rw [fs_iS2 s] at h; rw [fs_iB2 s] at hB
    exact (h (fun p => fs_Sr g E (fd_W g a k) S p ∧ p ≤ u) (fun p z => ⟨fs_Sr_b z, hS p z⟩) (fun p q z y => ⟨fs_Sr_s z.1 y, st (hB p z.1) y⟩)).2
  · rw [fs_iB3 s] at hB
    cases c
    · rw [fs_iS3f s] at h hB
      have hO : ∀ p, S p → fs_Ct g F (fd_W g a k) p u := hB.1.elim (fun z => absurd z (by decide)) id
      exact (h (fun p => fs_Sr g E (fd_W g a k) (fs_On g E (fd_W g a k) S) p ∧ p ≤ u) (fun p z => ⟨fs_Sr_b z, z.elim fun x y => st (hO x y.1) y.2⟩) (fun p q z y => ⟨fs_Sr_s z.1 y, st (hB.2 p z.1) y⟩)).2
    · rw [fs_iS3t s] at h hB
      exact (h (fun p => fs_Sr g E (fd_W g a k) S p ∧ p ≤ u) (fun p z => ⟨fs_Sr_b z, hS p z⟩) (fun p q z y => ⟨fs_Sr_s z.1 y, st (hB.2 p z.1) y⟩)).2
theorem fs_go_le (hEF : ∀ r p q, E r p q → q ≤ F r p) {u : Nat} : ∀ (d k : Nat) (c : Bool) (S : Nat → Prop), fs_gB g E F a d k c S u → (∀ p, S p → p ≤ u) → ∀ q, fs_go g E a d k c S q → q ≤ u
  | 0, _, _, _, _, hS, q, h => hS q h
  | d + 1, k, _, _, hB, hS, q, h => fs_go_le hEF d (k + 1) false _ hB.2 (fun _ z => fs_iS_le hEF hB.1 hS z) q h
end
/-! the least pair -/
def fs_tE (g : fd_Gr) (_ p q : Nat) : Prop := q ≤ fd_m g ∨ q ≤ p
def fs_tF (g : fd_Gr) (_ p : Nat) : Nat := if p ≤ fd_m g then fd_m g else p
theorem fs_top (g : fd_Gr) : fs_Clo g (fs_tE g) (fs_tF g) := by
  have hF : ∀ r p, p ≤ fd_m g → fs_tF g r p = fd_m g := fun r p h => if_pos h
  have hF' : ∀ r p, ¬ p ≤ fd_m g → fs_tF g r p = p := fun r p h => if_neg h
  have hI : ∀ w p q, p ≤ fd_m g → fs_St g (fs_tE g) w p q → q ≤ fd_m g := by
    intro w p q hp z
    rcases z with ⟨_, h, _, rfl⟩ | ⟨_, h⟩
    · omega
    · rcases h with h | h <;> omega
  refine ⟨fun r p => ?_, fun r p q h => ?_, fun a s _ hs => ?_⟩
  · by_cases h : p ≤ fd_m g
    · rw [hF r p h]; exact h
    · rw [hF' r p h]; exact Nat.le_refl _
  · by_cases h' : p ≤ fd_m g
    · rw [hF r p h']; rcases h with h | h <;> omega
    · rw [hF' r p h']; rcases h with h | h <;> omega
  · refine ⟨fun q h => Or.inl (fs_go_in (I := fun p => p ≤ fd_m g) hI _ _ _ _ (fun p z => by rw [show p = s from z]; exact hs) q h), ?_⟩
    rw [hF _ _ hs]
    refine fs_gB_in (I := fun p => p ≤ fd_m g) hI (fun w p hp => ⟨fun _ h _ => h, fun _ => by rw [hF _ _ hp]; exact Nat.le_refl _⟩) _ _ _ _ (fun p z => by rw [show p = s from z]; exact hs)
def fs_lE (g : fd_Gr) (r p q : Nat) : Prop := ∀ E F, fs_Clo g E F → E r p q
theorem fs_lFx (g : fd_Gr) (r p : Nat) : ∃ k, (∃ E F, fs_Clo g E F ∧ F r p = k) ∧ ∀ j, j < k → ¬ ∃ E F, fs_Clo g E F ∧ F r p = j :=
  pk_least (fun k => ∃ E F, fs_Clo g E F ∧ F r p = k) ⟨_, _, _, fs_top g, rfl⟩
noncomputable def fs_lF (g : fd_Gr) (r p : Nat) : Nat := Classical.choose (fs_lFx g r p)
theorem fs_lF_a (g : fd_Gr) (r p : Nat) : ∃ E F, fs_Clo g E F ∧ F r p = fs_lF g r p := (Classical.choose_spec (fs_lFx g r p)).1
theorem fs_lF_le {g : fd_Gr} {E : Nat → Nat → Nat → Prop} {F : Nat → Nat → Nat} (h : fs_Clo g E F) (r p : Nat) : fs_lF g r p ≤ F r p := by
  rcases Nat.lt_or_ge (F r p) (fs_lF g r p) with z | z
  · exact absurd ⟨E, F, h, rfl⟩ ((Classical.choose_spec (fs_lFx g r p)).2 _ z)
  · exact z
theorem fs_lE_le {g : fd_Gr} {E : Nat → Nat → Nat → Prop} {F : Nat → Nat → Nat} (h : fs_Clo g E F) {r p q : Nat} (z : fs_lE g r p q) : E r p q := z E F h
theorem fs_least (g : fd_Gr) : fs_Clo g (fs_lE g) (fs_lF g) := by
  refine ⟨fun r p => ?_, fun r p q h => ?_, fun a s ha hs => ⟨fun q h => ?_, ?_⟩⟩
  · obtain ⟨E, F, c, e⟩ := fs_lF_a g r p; rw [← e]; exact c.1 r p
  · obtain ⟨E, F, c, e⟩ := fs_lF_a g r p; rw [← e]; exact c.2.1 r p q (h E F c)
  · intro E F c
    exact (c.2.2 a s ha hs).1 q (fs_go_m (fun r p q z => z E F c) _ _ _ _ _ (fun _ z => z) q h)
  · obtain ⟨E, F, c, e⟩ := fs_lF_a g (fd_R g a) s
    rw [← e]
    exact fs_gB_m (fun r p q z => z E F c) (fun r p => fs_lF_le c r p) (Nat.le_refl _) _ _ _ _ _ (fun _ z => z) (c.2.2 a s ha hs).2
theorem fs_lE_m {g : fd_Gr} {r p q : Nat} (hp : p ≤ fd_m g) (h : fs_lE g r p q) : q ≤ fd_m g := by
  have := h _ _ (fs_top g)
  rcases this with z | z <;> omega
theorem fs_lF_m {g : fd_Gr} {r p : Nat} (hp : p ≤ fd_m g) : fs_lF g r p ≤ fd_m g := by
  have := fs_lF_le (fs_top g) r p
  unfold fs_tF at this
  rw [if_pos hp] at this
  exact this
theorem fs_lSt_m {g : fd_Gr} (w p q : Nat) (hp : p ≤ fd_m g) (z : fs_St g (fs_lE g) w p q) : q ≤ fd_m g := by
  rcases z with ⟨_, h, _, rfl⟩ | ⟨_, h⟩
  · omega
  · exact fs_lE_m hp h
end
section
/-! states of an alternative: 2 * item, 1 more if the item came already -/
def fs_A (g : fd_Gr) (E : Nat → Nat → Nat → Prop) (a k s : Nat) : Nat → Prop := fs_go g E a k 0 false (fs_one s)
def fs_nx (sg j : Nat) : Nat := if sg = 2 then j else if sg = 3 then 2 * (j / 2) + 1 else 2 * (j / 2) + 2
def fs_P (g : fd_Gr) (E : Nat → Nat → Nat → Prop) (a j s p : Nat) : Prop :=
  if j % 2 = 0 then (if j / 2 < fd_L g a ∧ fd_S g a (j / 2) = 2 then fs_Sr g E (fd_W g a (j / 2)) (fs_A g E a (j / 2) s) p else fs_A g E a (j / 2) s p)
  else fs_Sr g E (fd_W g a (j / 2)) (fs_On g E (fd_W g a (j / 2)) (fs_A g E a (j / 2) s)) p
section
variable {g : fd_Gr} {E : Nat → Nat → Nat → Prop} {F : Nat → Nat → Nat} {a : Nat}
theorem fs_go_s : ∀ (d k : Nat) (S : Nat → Prop), fs_go g E a (d + 1) k false S = fs_iS g E a (k + d) false (fs_go g E a d k false S)
  | 0, _, _ => rfl
  | d + 1, k, S => by
    have := fs_go_s d (k + 1) (fs_iS g E a k false S)
    rw [show k + 1 + d = k + (d + 1) from by omega] at this
    exact this
theorem fs_A_s (k s : Nat) : fs_A g E a (k + 1) s = fs_iS g E a k false (fs_A g E a k s) := by
  have := fs_go_s (g := g) (E := E) (a := a) k 0 (fs_one s)
  rw [Nat.zero_add] at this
  exact this
theorem fs_gB_at {u : Nat} : ∀ (d k : Nat) (S : Nat → Prop), fs_gB g E F a d k false S u ↔ ∀ j, j < d → fs_iB g E F a (k + j) false (fs_go g E a j k false S) u
  | 0, _, _ => ⟨fun _ _ h => absurd h (Nat.not_lt_zero _), fun _ => trivial⟩
  | d + 1, k, S => by
    have ih := fs_gB_at (u := u) d (k + 1) (fs_iS g E a k false S)
    constructor
    · intro h j hj
      cases j with
      | zero => exact h.1
      | succ j =>
        have := ih.mp h.2 j (by omega)
        rw [show k + 1 + j = k + (j + 1) from by omega] at this
        exact this
    · intro h
      refine ⟨h 0 (by omega), ih.mpr (fun j hj => ?_)⟩
      have := h (j + 1) (by omega)
      rw [show k + (j + 1) = k + 1 + j from by omega] at this
      exact this
theorem fs_gB_A {u d s : Nat} : fs_gB g E F a d 0 false (fs_one s) u ↔ ∀ k, k < d → fs_iB g E F a k false (fs_A g E a k s) u := by
  rw [fs_gB_at]
  constructor
  · intro h k hk; have := h k hk; rw [Nat.zero_add] at this; exact this
  · intro h k hk; rw [Nat.zero_add]; exact h k hk
theorem fs_P_e (k s p : Nat) (h : ¬ (k < fd_L g a ∧ fd_S g a k = 2)) : fs_P g E a (2 * k) s p ↔ fs_A g E a k s p := by
  unfold fs_P
  rw [if_pos (by omega), show 2 * k / 2 = k from by omega, if_neg h]
theorem fs_P_a (k s p : Nat) (h1 : k < fd_L g a) (h2 : fd_S g a k = 2) : fs_P g E a (2 * k) s p ↔ fs_Sr g E (fd_W g a k) (fs_A g E a k s) p := by
  unfold fs_P
  rw [if_pos (by omega), show 2 * k / 2 = k from by omega, if_pos ⟨h1, h2⟩]
theorem fs_P_o (k s p : Nat) : fs_P g E a (2 * k + 1) s p ↔ fs_Sr g E (fd_W g a k) (fs_On g E (fd_W g a k) (fs_A g E a k s)) p := by
  unfold fs_P
  rw [if_neg (by omega), show (2 * k + 1) / 2 = k from by omega]
theorem fs_P_A {k s p : Nat} (h : fs_A g E a k s p) : fs_P g E a (2 * k) s p := by
  by_cases z : k < fd_L g a ∧ fd_S g a k = 2
  · exact (fs_P_a k s p z.1 z.2).mpr (fs_Sr_b h)
  · exact (fs_P_e k s p z).mpr h
theorem fs_P_0 (s : Nat) : fs_P g E a 0 s s := fs_P_A (k := 0) (p := s) (rfl : s = s)
theorem fs_P_skip {j s p : Nat} (hk : j / 2 < fd_L g a) (hs : fd_S g a (j / 2) = 1 ∨ fd_S g a (j / 2) = 2 ∨ (j % 2 = 1 ∧ fd_S g a (j / 2) = 3)) (ho : j % 2 = 1 → fd_S g a (j / 2) = 3) (h : fs_P g E a j s p) : fs_P g E a (2 * (j / 2) + 2) s p := by
  generalize e : j / 2 = k at *
  apply fs_P_A (k := k + 1)
  rw [fs_A_s]
  rcases Nat.mod_two_eq_zero_or_one j with z | z
  · have ej : j = 2 * k := by omega
    subst ej
    rcases hs with s1 | s2 | s3
    · rw [fs_iS1 s1]; exact Or.inl ((fs_P_e k s p (by omega)).mp h)
    · rw [fs_iS2 s2]; exact (fs_P_a k s p hk s2).mp h
    · omega
  · have ej : j = 2 * k + 1 := by omega
    subst ej
    have s3 := ho z
    rw [fs_iS3f (by omega)]
    exact (fs_P_o k s p).mp h
theorem fs_P_step {j s p q : Nat} (hk : j / 2 < fd_L g a) (h4 : fd_S g a (j / 2) < 4) (ho : j % 2 = 1 → fd_S g a (j / 2) = 3) (h : fs_P g E a j s p) (z : fs_St g E (fd_W g a (j / 2)) p q) : fs_P g E a (fs_nx (fd_S g a (j / 2)) j) s q := by
  generalize e : j / 2 = k at *
  unfold fs_nx
  rw [e]
  rcases Nat.mod_two_eq_zero_or_one j with y | y
  · have ej : j = 2 * k := by omega
    subst ej
    rcases (by omega : fd_S g a k < 2 ∨ fd_S g a k = 2 ∨ fd_S g a k = 3) with s1 | s2 | s3
    · rw [if_neg (by omega), if_neg (by omega)]
      apply fs_P_A (k := k + 1)
      rw [fs_A_s]
      have hO : fs_On g E (fd_W g a k) (fs_A g E a k s) q := ⟨p, (fs_P_e k s p (by omega)).mp h, z⟩
      rcases (by omega : fd_S g a k = 0 ∨ fd_S g a k = 1) with t | t
      · rw [fs_iS0 t]; exact hO
      · rw [fs_iS1 t]; exact Or.inr hO
    · rw [if_pos s2]
      exact (fs_P_a k s q hk s2).mpr (fs_Sr_s ((fs_P_a k s p hk s2).mp h) z)
    · rw [if_neg (by omega), if_pos s3]
      exact (fs_P_o k s q).mpr (fs_Sr_b ⟨p, (fs_P_e k s p (by omega)).mp h, z⟩)
  · have ej : j = 2 * k + 1 := by omega
    subst ej
    have s3 := ho y
    rw [if_neg (by omega), if_pos s3]
    exact (fs_P_o k s q).mpr (fs_Sr_s ((fs_P_o k s p).mp h) z)
theorem fs_P_end {s p : Nat} (c : fs_Clo g E F) (ha : a < fd_n g) (hs : s ≤ fd_m g) (h : fs_P g E a (2 * fd_L g a) s p) : E (fd_R g a) s p :=
  (c.2.2 a s ha hs).1 p ((fs_P_e _ s p (by omega)).mp h)
theorem fs_A_le {s : Nat} (c : fs_Clo g E F) (ha : a < fd_n g) (hs : s ≤ fd_m g) : ∀ k, k ≤ fd_L g a → ∀ p, fs_A g E a k s p → p ≤ F (fd_R g a) s
  | 0, _, p, h => by rw [show p = s from h]; exact c.1 _ _
  | k + 1, hk, p, h => by
    rw [fs_A_s] at h
    exact fs_iS_le c.2.1 (fs_gB_A.mp (c.2.2 a s ha hs).2 k (by omega)) (fs_A_le c ha hs k (by omega)) h
theorem fs_P_le {j s p : Nat} (c : fs_Clo g E F) (ha : a < fd_n g) (hs : s ≤ fd_m g) (hk : j / 2 ≤ fd_L g a) (ho : j % 2 = 1 → j / 2 < fd_L g a ∧ fd_S g a (j / 2) = 3) (h : fs_P g E a j s p) : p ≤ F (fd_R g a) s := by
  generalize e : j / 2 = k at *
  have iA := fs_A_le c ha hs k hk
  rcases Nat.mod_two_eq_zero_or_one j with y | y
  · have ej : j = 2 * k := by omega
    subst ej
    by_cases z : k < fd_L g a ∧ fd_S g a k = 2
    · have h' := (fs_P_a k s p z.1 z.2).mp h
      rw [← fs_iS2 (c := false) z.2] at h'
      exact fs_iS_le c.2.1 (fs_gB_A.mp (c.2.2 a s ha hs).2 k z.1) iA h'
    · exact iA p ((fs_P_e k s p z).mp h)
  · have ej : j = 2 * k + 1 := by omega
    subst ej
    obtain ⟨z1, z2⟩ := ho y
    have h' := (fs_P_o k s p).mp h
    rw [← fs_iS3f (by omega)] at h'
    exact fs_iS_le c.2.1 (fs_gB_A.mp (c.2.2 a s ha hs).2 k z1) iA h'
theorem fs_P_ct {j s p : Nat} (c : fs_Clo g E F) (ha : a < fd_n g) (hs : s ≤ fd_m g) (hk : j / 2 < fd_L g a) (h4 : fd_S g a (j / 2) < 4) (ho : j % 2 = 1 → fd_S g a (j / 2) = 3) (h : fs_P g E a j s p) : fs_Ct g F (fd_W g a (j / 2)) p (F (fd_R g a) s) := by
  generalize e : j / 2 = k at *
  have hB := fs_gB_A.mp (c.2.2 a s ha hs).2 k hk
  rcases Nat.mod_two_eq_zero_or_one j with y | y
  · have ej : j = 2 * k := by omega
    subst ej
    rcases (by omega : fd_S g a k < 2 ∨ fd_S g a k = 2 ∨ 3 ≤ fd_S g a k) with t | t | t
    · rw [fs_iB1 t] at hB; exact hB p ((fs_P_e k s p (by omega)).mp h)
    · rw [fs_iB2 t] at hB; exact hB p ((fs_P_a k s p hk t).mp h)
    · rw [fs_iB3 t] at hB
      exact hB.1.elim (fun z => absurd z (by decide)) (fun z => z p ((fs_P_e k s p (by omega)).mp h))
  · have ej : j = 2 * k + 1 := by omega
    subst ej
    have s3 := ho y
    rw [fs_iB3 (by omega), fs_iS3f (by omega)] at hB
    exact hB.2 p ((fs_P_o k s p).mp h)
/-- a family of places that is kept by all steps holds what the alternative leads to -/
theorem fs_fam {B : Nat → Nat → Prop} {s : Nat} (h4 : ∀ k, k < fd_L g a → fd_S g a k < 4) (h0 : B 0 s)
    (hsk : ∀ j p, j / 2 < fd_L g a → (fd_S g a (j / 2) = 1 ∨ fd_S g a (j / 2) = 2 ∨ (j % 2 = 1 ∧ fd_S g a (j / 2) = 3)) → B j p → B (2 * (j / 2) + 2) p)
    (hst : ∀ j p q, j / 2 < fd_L g a → (j % 2 = 1 → fd_S g a (j / 2) = 3) → B j p → fs_St g E (fd_W g a (j / 2)) p q → B (fs_nx (fd_S g a (j / 2)) j) q) :
    (∀ k, k ≤ fd_L g a → ∀ p, fs_A g E a k s p → B (2 * k) p) ∧ (∀ k, k < fd_L g a → fd_S g a k = 2 → ∀ p, fs_Sr g E (fd_W g a k) (fs_A g E a k s) p → B (2 * k) p) ∧
    (∀ k, k < fd_L g a → fd_S g a k = 3 → ∀ p, fs_Sr g E (fd_W g a k) (fs_On g E (fd_W g a k) (fs_A g E a k s)) p → B (2 * k + 1) p) := by
  have st : ∀ k p q, k < fd_L g a → B (2 * k) p → fs_St g E (fd_W g a k) p q → B (fs_nx (fd_S g a k) (2 * k)) q := by
    intro k p q hk hb z
    have := hst (2 * k) p q
    rw [show 2 * k / 2 = k from by omega] at this
    exact this hk (fun z => by omega) hb z
  have so : ∀ k p q, k < fd_L g a → fd_S g a k = 3 → B (2 * k + 1) p → fs_St g E (fd_W g a k) p q → B (2 * k + 1) q := by
    intro k p q hk h3 hb z
    have := hst (2 * k + 1) p q
    rw [show (2 * k + 1) / 2 = k from by omega] at this
    have := this hk (fun _ => h3) hb z
    rw [show fs_nx (fd_S g a k) (2 * k + 1) = 2 * k + 1 from by unfold fs_nx; rw [if_neg (by omega), if_pos h3]; omega] at this
    exact this
  have n2 : ∀ k, fd_S g a k = 2 → fs_nx (fd_S g a k) (2 * k) = 2 * k := fun k h => by unfold fs_nx; rw [if_pos h]
  have n3 : ∀ k, fd_S g a k = 3 → fs_nx (fd_S g a k) (2 * k) = 2 * k + 1 := fun k h => by unfold fs_nx; rw [if_neg (by omega), if_pos h]; omega
  have n1 : ∀ k, fd_S g a k < 2 → fs_nx (fd_S g a k) (2 * k) = 2 * k + 2 := fun k h => by unfold fs_nx; rw [if_neg (by omega), if_neg (by omega)]; omega
  have sk : ∀ k p, k < fd_L g a → (fd_S g a k = 1 ∨ fd_S g a k = 2) → B (2 * k) p → B (2 * k + 2) p := by
    intro k p hk hs hb
    have := hsk (2 * k) p
    rw [show 2 * k / 2 = k from by omega] at this
    exact this hk (hs.elim Or.inl (fun z => Or.inr (Or.inl z))) hb
  have sko : ∀ k p, k < fd_L g a → fd_S g a k = 3 → B (2 * k + 1) p → B (2 * k + 2) p := by
    intro k p hk hs hb
    have := hsk (2 * k + 1) p
    rw [show (2 * k + 1) / 2 = k from by omega] at this
    exact this hk (Or.inr (Or.inr ⟨by omega, hs⟩)) hb
  have c2 : ∀ k, k < fd_L g a → fd_S g a k = 2 → (∀ p, fs_A g E a k s p → B (2 * k) p) → ∀ p, fs_Sr g E (fd_W g a k) (fs_A g E a k s) p → B (2 * k) p := by
    intro k hk h2 hA p h
    refine h _ hA (fun p q hb z => ?_)
    have := st k p q hk hb z
    rw [n2 k h2] at this
    exact this
  have c3 : ∀ k, k < fd_L g a → fd_S g a k = 3 → (∀ p, fs_A g E a k s p → B (2 * k) p) → ∀ p, fs_Sr g E (fd_W g a k) (fs_On g E (fd_W g a k) (fs_A g E a k s)) p → B (2 * k + 1) p := by
    intro k hk h3 hA p h
    refine h _ (fun q z => ?_) (fun p q hb z => so k p q hk h3 hb z)
    obtain ⟨x, hx, y⟩ := z
    have := st k x q hk (hA x hx) y
    rw [n3 k h3] at this
    exact this
  have cA : ∀ k, k ≤ fd_L g a → ∀ p, fs_A g E a k s p → B (2 * k) p := by
    intro k
    induction k with
    | zero => intro _ p h; rw [show p = s from h]; exact h0
    | succ k ih =>
      intro hk p h
      have ihk := ih (by omega)
      rw [fs_A_s] at h
      have h4k := h4 k (by omega)
      have on : fd_S g a k < 2 → ∀ q, fs_On g E (fd_W g a k) (fs_A g E a k s) q → B (2 * k + 2) q := by
        intro hs q z
        obtain ⟨x, hx, y⟩ := z
        have := st k x q (by omega) (ihk x hx) y
        rw [n1 k hs] at this
        exact this
      show B (2 * k + 2) p
      rcases (by omega : fd_S g a k = 0 ∨ fd_S g a k = 1 ∨ fd_S g a k = 2 ∨ fd_S g a k = 3) with t | t | t | t
      · rw [fs_iS0 t] at h; exact on (by omega) p h
      · rw [fs_iS1 t] at h; exact h.elim (fun z => sk k p (by omega) (Or.inl t) (ihk p z)) (on (by omega) p)
      · rw [fs_iS2 t] at h; exact sk k p (by omega) (Or.inr t) (c2 k (by omega) t ihk p h)
      · rw [fs_iS3f (by omega)] at h; exact sko k p (by omega) t (c3 k (by omega) t ihk p h)
  exact ⟨cA, fun k hk h2 => c2 k hk h2 (cA k (by omega)), fun k hk h3 => c3 k hk h3 (cA k (by omega))⟩
theorem fs_famB {B : Nat → Nat → Prop} {s u : Nat} (h4 : ∀ k, k < fd_L g a → fd_S g a k < 4) (h0 : B 0 s)
    (hsk : ∀ j p, j / 2 < fd_L g a → (fd_S g a (j / 2) = 1 ∨ fd_S g a (j / 2) = 2 ∨ (j % 2 = 1 ∧ fd_S g a (j / 2) = 3)) → B j p → B (2 * (j / 2) + 2) p)
    (hst : ∀ j p q, j / 2 < fd_L g a → (j % 2 = 1 → fd_S g a (j / 2) = 3) → B j p → fs_St g E (fd_W g a (j / 2)) p q → B (fs_nx (fd_S g a (j / 2)) j) q)
    (hct : ∀ j p, j / 2 < fd_L g a → (j % 2 = 1 → fd_S g a (j / 2) = 3) → B j p → fs_Ct g F (fd_W g a (j / 2)) p u) :
    fs_gB g E F a (fd_L g a) 0 false (fs_one s) u := by
  obtain ⟨cA, c2, c3⟩ := fs_fam h4 h0 hsk hst
  rw [fs_gB_A]
  intro k hk
  have h4k := h4 k hk
  have ce : ∀ p, B (2 * k) p → fs_Ct g F (fd_W g a k) p u := by
    intro p hb
    have := hct (2 * k) p
    rw [show 2 * k / 2 = k from by omega] at this
    exact this hk (fun z => by omega) hb
  have co : fd_S g a k = 3 → ∀ p, B (2 * k + 1) p → fs_Ct g F (fd_W g a k) p u := by
    intro h3 p hb
    have := hct (2 * k + 1) p
    rw [show (2 * k + 1) / 2 = k from by omega] at this
    exact this hk (fun _ => h3) hb
  rcases (by omega : fd_S g a k < 2 ∨ fd_S g a k = 2 ∨ fd_S g a k = 3) with t | t | t
  · rw [fs_iB1 t]; exact fun p z => ce p (cA k (by omega) p z)
  · rw [fs_iB2 t]; exact fun p z => ce p (c2 k hk t p z)
  · rw [fs_iB3 (by omega), fs_iS3f (by omega)]
    exact ⟨Or.inr (fun p z => ce p (cA k (by omega) p z)), fun p z => co t p (c3 k hk t p z)⟩
end
end
section
/-! least sets by rounds -/
def fr_C (Φ : (Nat → Prop) → Nat → Prop) (T : Nat → Prop) : Prop := ∀ r, Φ T r → T r
def fr_L (Φ : (Nat → Prop) → Nat → Prop) (I : Nat → Prop) (r : Nat) : Prop := ∀ T, fr_C Φ T → (∀ r, I r → T r) → T r
def fr_M (Φ : (Nat → Prop) → Nat → Prop) : Prop := ∀ S T : Nat → Prop, (∀ r, S r → T r) → ∀ r, Φ S r → Φ T r
/-- a round: from S0 to S -/
def fr_R (Φ : (Nat → Prop) → Nat → Prop) (S0 S : Nat → Prop) : Prop :=
  (∀ r, S0 r → S r) ∧ (∀ T, fr_C Φ T → (∀ r, S0 r → T r) → ∀ r, S r → T r) ∧ ∀ r, Φ S0 r → S r
theorem fr_L_C {Φ : (Nat → Prop) → Nat → Prop} {I : Nat → Prop} (hm : fr_M Φ) : fr_C Φ (fr_L Φ I) :=
  fun r h T c i => c r (hm _ _ (fun _ z => z T c i) r h)
theorem fr_L_I {Φ : (Nat → Prop) → Nat → Prop} {I : Nat → Prop} {r : Nat} (h : I r) : fr_L Φ I r := fun _ _ i => i r h
theorem fr_step {Φ : (Nat → Prop) → Nat → Prop} {S0 S : Nat → Prop} {N z : Nat} (hm : fr_M Φ) (hN : ∀ r, S r → r < N) (h : fr_R Φ S0 S) (c : fr_C Φ S0 ∨ z ≤ fb_cn S0 N) : fr_C Φ S ∨ z + 1 ≤ fb_cn S N := by
  rcases c with c | c
  · left
    have e := h.2.1 S0 c (fun _ z => z)
    exact fun r x => h.1 r (c r (hm S S0 e r x))
  · refine fb_grow (fun k _ => h.1 k) (fun e => ?_) c
    exact fun r x => h.2.2 r (hm S S0 (fun k y => e k (hN k y) y) r x)
theorem fr_end {Φ : (Nat → Prop) → Nat → Prop} {S : Nat → Prop} {N z : Nat} (hz : N < z) (c : fr_C Φ S ∨ z ≤ fb_cn S N) : fr_C Φ S := by
  rcases c with c | c
  · exact c
  · have := fb_cn_le S N; omega
/-! what need not come; first rules and tokens -/
def fn_sk (g : fd_Gr) (N : Nat → Prop) (a k : Nat) : Prop := fd_S g a k = 1 ∨ fd_S g a k = 2 ∨ (7 < fd_W g a k ∧ N (fd_W g a k - 8))
def fn_all (g : fd_Gr) (N : Nat → Prop) (a i j : Nat) : Prop := ∀ k, i ≤ k → k < j → fn_sk g N a k
def fn_Φ (g : fd_Gr) (N : Nat → Prop) (r : Nat) : Prop := ∃ a, a < fd_n g ∧ fd_R g a = r ∧ fn_all g N a 0 (fd_L g a)
def fn_N (g : fd_Gr) : Nat → Prop := fr_L (fn_Φ g) (fun _ => False)
theorem fn_sk_m {g : fd_Gr} {N N' : Nat → Prop} (h : ∀ r, N r → N' r) {a k : Nat} (z : fn_sk g N a k) : fn_sk g N' a k :=
  z.elim Or.inl (fun y => y.elim (fun x => Or.inr (Or.inl x)) (fun x => Or.inr (Or.inr ⟨x.1, h _ x.2⟩)))
theorem fn_Φ_m (g : fd_Gr) : fr_M (fn_Φ g) := fun _ _ h _ ⟨a, ha, hr, z⟩ => ⟨a, ha, hr, fun k h1 h2 => fn_sk_m h (z k h1 h2)⟩
theorem fn_N_C (g : fd_Gr) : fr_C (fn_Φ g) (fn_N g) := fr_L_C (fn_Φ_m g)
theorem fn_all_0 {g : fd_Gr} {N : Nat → Prop} {a i : Nat} : fn_all g N a i i := fun k h1 h2 => by omega
theorem fn_all_s {g : fd_Gr} {N : Nat → Prop} {a i j : Nat} (h : fn_all g N a i j) (z : fn_sk g N a j) : fn_all g N a i (j + 1) := by
  intro k h1 h2
  rcases Nat.lt_or_ge k j with y | y
  · exact h k h1 y
  · rw [show k = j from by omega]; exact z
theorem fn_all_l {g : fd_Gr} {N : Nat → Prop} {a i j : Nat} (h : fn_all g N a (i + 1) j) (z : fn_sk g N a i) : fn_all g N a i j := by
  intro k h1 h2
  rcases Nat.eq_or_lt_of_le h1 with y | y
  · rw [← y]; exact z
  · exact h k y h2
def fn_D (g : fd_Gr) (r x : Nat) : Prop := ∃ a k, a < fd_n g ∧ k < fd_L g a ∧ fd_R g a = r ∧ fn_all g (fn_N g) a 0 k ∧ 7 < fd_W g a k ∧ fd_W g a k - 8 = x
def fn_T (g : fd_Gr) (r t : Nat) : Prop := ∃ a k, a < fd_n g ∧ k < fd_L g a ∧ fd_R g a = r ∧ fn_all g (fn_N g) a 0 k ∧ fd_W g a k < 8 ∧ fd_W g a k = t
def fn_ΦB (g : fd_Gr) (i : Nat) (S : Nat → Prop) (r : Nat) : Prop := ∃ x, fn_D g r x ∧ (x = i ∨ S x)
def fn_ΦF (g : fd_Gr) (t : Nat) (S : Nat → Prop) (r : Nat) : Prop := fn_T g r t ∨ ∃ x, fn_D g r x ∧ S x
def fn_B (g : fd_Gr) (r i : Nat) : Prop := fr_L (fn_ΦB g i) (fun _ => False) r
def fn_F (g : fd_Gr) (r t : Nat) : Prop := fr_L (fn_ΦF g t) (fun _ => False) r
def fn_bad (g : fd_Gr) : Prop := (∃ r, r < 6 ∧ fn_B g r r) ∨ ∃ a k, a < fd_n g ∧ k < fd_L g a ∧ 1 < fd_S g a k ∧ 7 < fd_W g a k ∧ fn_N g (fd_W g a k - 8)
section
variable {g : fd_Gr}
theorem fn_ΦB_m (i : Nat) : fr_M (fn_ΦB g i) := fun _ _ h _ ⟨x, d, z⟩ => ⟨x, d, z.elim Or.inl (fun y => Or.inr (h x y))⟩
theorem fn_ΦF_m (i : Nat) : fr_M (fn_ΦF g i) := fun _ _ h _ z => z.elim Or.inl (fun ⟨x, d, y⟩ => Or.inr ⟨x, d, h x y⟩)
theorem fn_B_d {r x : Nat} (d : fn_D g r x) : fn_B g r x := fr_L_C (fn_ΦB_m x) r ⟨x, d, Or.inl rfl⟩
theorem fn_B_s {r x y : Nat} (d : fn_D g r x) (h : fn_B g x y) : fn_B g r y := fr_L_C (fn_ΦB_m y) r ⟨x, d, Or.inr h⟩
theorem fn_B_t {r x y : Nat} (h : fn_B g r x) (k : fn_B g x y) : fn_B g r y := by
  refine h (fun r => fn_B g r y) (fun r z => ?_) (fun _ z => z.elim)
  obtain ⟨c, d, z⟩ := z
  rcases z with z | z
  · subst z; exact fn_B_s d k
  · exact fn_B_s d z
theorem fn_F_t {r t : Nat} (h : fn_T g r t) : fn_F g r t := fr_L_C (fn_ΦF_m t) r (Or.inl h)
theorem fn_F_s {r x t : Nat} (d : fn_D g r x) (h : fn_F g x t) : fn_F g r t := fr_L_C (fn_ΦF_m t) r (Or.inr ⟨x, d, h⟩)
theorem fn_F_b {r x t : Nat} (h : fn_B g r x) (k : fn_F g x t) : fn_F g r t := by
  refine h (fun r => fn_F g r t) (fun r z => ?_) (fun _ z => z.elim)
  obtain ⟨c, d, z⟩ := z
  rcases z with z | z
  · subst z; exact fn_F_s d k
  · exact fn_F_s d z
theorem fn_F_iff {r t : Nat} : fn_F g r t ↔ fn_T g r t ∨ ∃ x, fn_B g r x ∧ fn_T g x t := by
  constructor
  · intro h
    refine h (fun r => fn_T g r t ∨ ∃ x, fn_B g r x ∧ fn_T g x t) (fun r z => ?_) (fun _ z => z.elim)
    rcases z with z | ⟨x, d, z⟩
    · exact Or.inl z
    · rcases z with z | ⟨y, b, z⟩
      · exact Or.inr ⟨x, fn_B_d d, z⟩
      · exact Or.inr ⟨y, fn_B_s d b, z⟩
  · intro h
    rcases h with h | ⟨x, b, z⟩
    · exact fn_F_t h
    · exact fn_F_b b (fn_F_t z)
/-- a transitive relation that holds the direct ones holds all -/
theorem fn_B_in {R : Nat → Nat → Prop} (hd : ∀ r x, fn_D g r x → R r x) (ht : ∀ r x y, fn_D g r x → R r x → R x y → R r y) {r i : Nat} (h : fn_B g r i) : R r i := by
  refine h (fun r => R r i) (fun r z => ?_) (fun _ z => z.elim)
  obtain ⟨x, d, z⟩ := z
  rcases z with z | z
  · subst z; exact hd _ _ d
  · exact ht _ _ _ d (hd _ _ d) z
section
variable {wh sg le ru tx : Nat → Int32}
theorem fn_D6 (h : fd_G g wh sg le ru tx) {r x : Nat} (d : fn_D g r x) : r < 6 ∧ x < 6 := by
  obtain ⟨a, k, ha, hk, hr, _, h7, hx⟩ := d
  have := fd_W14 h ha hk
  have := fd_R6 h ha
  omega
theorem fn_B6 (h : fd_G g wh sg le ru tx) {r x : Nat} (d : fn_B g r x) : r < 6 ∧ x < 6 := by
  refine d (fun r => r < 6 ∧ x < 6) (fun r z => ?_) (fun _ z => z.elim)
  obtain ⟨y, d, z⟩ := z
  have := fn_D6 h d
  rcases z with z | z <;> omega
theorem fn_T8 (h : fd_G g wh sg le ru tx) {r t : Nat} (d : fn_T g r t) : r < 6 ∧ t < 8 := by
  obtain ⟨a, k, ha, hk, hr, _, h7, hx⟩ := d
  have := fd_R6 h ha
  omega
theorem fn_F8 (h : fd_G g wh sg le ru tx) {r t : Nat} (d : fn_F g r t) : r < 6 ∧ t < 8 := by
  rw [fn_F_iff] at d
  rcases d with d | ⟨x, b, d⟩
  · exact fn_T8 h d
  · exact ⟨(fn_B6 h b).1, (fn_T8 h d).2⟩
theorem fn_N6 (h : fd_G g wh sg le ru tx) {r : Nat} (d : fn_N g r) : r < 6 := by
  refine d (fun r => r < 6) (fun r z => ?_) (fun _ z => z.elim)
  obtain ⟨a, ha, hr, _⟩ := z
  rw [← hr]; exact fd_R6 h ha
end
end
/-! what is behind rules -/
def fw_ΦR (g : fd_Gr) (S : Nat → Prop) (r : Nat) : Prop := ∃ a k, a < fd_n g ∧ k < fd_L g a ∧ S (fd_R g a) ∧ 7 < fd_W g a k ∧ fd_W g a k - 8 = r
def fw_R (g : fd_Gr) (st : Nat) : Nat → Prop := fr_L (fw_ΦR g) (fun r => r = st)
def fw_I (g : fd_Gr) (a k t : Nat) : Prop := (fd_W g a k < 8 ∧ fd_W g a k = t) ∨ (7 < fd_W g a k ∧ fn_F g (fd_W g a k - 8) t)
def fw_rs (g : fd_Gr) (a k t : Nat) : Prop := ∃ j, k ≤ j ∧ j < fd_L g a ∧ fn_all g (fn_N g) a k j ∧ fw_I g a j t
def fw_ad (g : fd_Gr) (a k t : Nat) (P : Prop) : Prop := (1 < fd_S g a k ∧ fn_F g (fd_W g a k - 8) t) ∨ fw_rs g a (k + 1) t ∨ (fn_all g (fn_N g) a (k + 1) (fd_L g a) ∧ P)
def fw_Φ (g : fd_Gr) (st t : Nat) (S : Nat → Prop) (r : Nat) : Prop := ∃ a k, a < fd_n g ∧ k < fd_L g a ∧ fw_R g st (fd_R g a) ∧ 7 < fd_W g a k ∧ fd_W g a k - 8 = r ∧ fw_ad g a k t (S (fd_R g a))
def fw_O (g : fd_Gr) (st r t : Nat) : Prop := fr_L (fw_Φ g st t) (fun r => t = 8 ∧ r = st) r
section
variable {g : fd_Gr}
theorem fw_ΦR_m (g : fd_Gr) : fr_M (fw_ΦR g) := fun _ _ h _ ⟨a, k, ha, hk, s, z⟩ => ⟨a, k, ha, hk, h _ s, z⟩
theorem fw_ad_m {a k t : Nat} {P Q : Prop} (h : P → Q) (z : fw_ad g a k t P) : fw_ad g a k t Q :=
  z.elim Or.inl (fun y => y.elim (fun x => Or.inr (Or.inl x)) (fun x => Or.inr (Or.inr ⟨x.1, h x.2⟩)))
theorem fw_Φ_m (st t : Nat) : fr_M (fw_Φ g st t) := fun _ _ h _ ⟨a, k, ha, hk, s, h7, hr, z⟩ => ⟨a, k, ha, hk, s, h7, hr, fw_ad_m (h _) z⟩
theorem fw_rs_s {a k t : Nat} (hk : k < fd_L g a) : fw_rs g a k t ↔ fw_I g a k t ∨ (fn_sk g (fn_N g) a k ∧ fw_rs g a (k + 1) t) := by
  constructor
  · intro h
    obtain ⟨j, h1, h2, h3, h4⟩ := h
    rcases Nat.eq_or_lt_of_le h1 with y | y
    · subst y; exact Or.inl h4
    · exact Or.inr ⟨h3 k (Nat.le_refl _) y, j, y, h2, fun i i1 i2 => h3 i (by omega) i2, h4⟩
  · intro h
    rcases h with h | ⟨s, j, h1, h2, h3, h4⟩
    · exact ⟨k, Nat.le_refl _, hk, fn_all_0, h⟩
    · exact ⟨j, by omega, h2, fn_all_l h3 s, h4⟩
theorem fw_rs_0 {a k t : Nat} (hk : fd_L g a ≤ k) : ¬ fw_rs g a k t := fun ⟨j, h1, h2, _⟩ => by omega
theorem fn_all_c {a k : Nat} (hk : k < fd_L g a) : fn_all g (fn_N g) a k (fd_L g a) ↔ fn_sk g (fn_N g) a k ∧ fn_all g (fn_N g) a (k + 1) (fd_L g a) :=
  ⟨fun h => ⟨h k (Nat.le_refl _) hk, fun i i1 i2 => h i (by omega) i2⟩, fun h => fn_all_l h.2 h.1⟩
variable {wh sg le ru tx : Nat → Int32}
theorem fw_R6 (h : fd_G g wh sg le ru tx) {st r : Nat} (hs : st < 6) (d : fw_R g st r) : r < 6 := by
  refine d (fun r => r < 6) (fun r z => ?_) (fun r z => by rw [show r = st from z]; exact hs)
  obtain ⟨a, k, ha, hk, _, h7, hr⟩ := z
  have := fd_W14 h ha hk
  omega
theorem fw_I8 (h : fd_G g wh sg le ru tx) {a k t : Nat} (d : fw_I g a k t) : t < 8 := by
  rcases d with d | d
  · omega
  · exact (fn_F8 h d.2).2
theorem fw_rs8 (h : fd_G g wh sg le ru tx) {a k t : Nat} (d : fw_rs g a k t) : t < 8 := by
  obtain ⟨j, _, _, _, d⟩ := d
  exact fw_I8 h d
theorem fw_O9 (h : fd_G g wh sg le ru tx) {st r t : Nat} (hs : st < 6) (d : fw_O g st r t) : r < 6 ∧ t < 9 := by
  refine d (fun r => r < 6 ∧ t < 9) (fun r z => ?_) (fun r z => by rw [show r = st from z.2, z.1]; omega)
  obtain ⟨a, k, ha, hk, _, h7, hr, z⟩ := z
  have := fd_W14 h ha hk
  refine ⟨by omega, ?_⟩
  rcases z with z | z | z
  · have := (fn_F8 h z.2).2; omega
  · have := fw_rs8 h z; omega
  · exact z.2.2
end
end
section
/-! derivations: numbers up to a cap -/
def fc_cg (M x y : Nat) : Prop := x = y ∨ (M ≤ x ∧ M ≤ y)
theorem fc_rf {M x : Nat} : fc_cg M x x := Or.inl rfl
theorem fc_sy {M x y : Nat} (h : fc_cg M x y) : fc_cg M y x := by unfold fc_cg at *; omega
theorem fc_tr {M x y z : Nat} (h : fc_cg M x y) (k : fc_cg M y z) : fc_cg M x z := by unfold fc_cg at *; omega
theorem fc_ad {M x y x' y' : Nat} (h : fc_cg M x y) (k : fc_cg M x' y') : fc_cg M (x + x') (y + y') := by unfold fc_cg at *; omega
theorem fc_ml {M x y x' y' : Nat} (h : fc_cg M x y) (k : fc_cg M x' y') : fc_cg M (x * x') (y * y') := by
  have pos : ∀ {a b : Nat}, M ≤ a → 0 < b → M ≤ a * b := fun {a b} h1 h2 => Nat.le_trans h1 (Nat.le_mul_of_pos_right a h2)
  have pos' : ∀ {a b : Nat}, M ≤ a → 0 < b → M ≤ b * a := fun {a b} h1 h2 => Nat.le_trans h1 (Nat.le_mul_of_pos_left a h2)
  rcases h with rfl | ⟨h1, h2⟩
  · rcases k with rfl | ⟨k1, k2⟩
    · exact fc_rf
    · rcases Nat.eq_zero_or_pos x with z | z
      · subst z; rw [Nat.zero_mul, Nat.zero_mul]; exact fc_rf
      · exact Or.inr ⟨pos' k1 z, pos' k2 z⟩
  · rcases k with rfl | ⟨k1, k2⟩
    · rcases Nat.eq_zero_or_pos x' with z | z
      · subst z; rw [Nat.mul_zero, Nat.mul_zero]; exact fc_rf
      · exact Or.inr ⟨pos h1 z, pos h2 z⟩
    · rcases Nat.eq_zero_or_pos M with z | z
      · subst z; exact Or.inr ⟨Nat.zero_le _, Nat.zero_le _⟩
      · exact Or.inr ⟨pos h1 (by omega), pos h2 (by omega)⟩
theorem fc_z {M x y : Nat} (hM : 0 < M) (h : fc_cg M x y) : x = 0 ↔ y = 0 := by unfold fc_cg at *; omega
theorem fc_w {M M' x y : Nat} (hM : M ≤ M') (h : fc_cg M' x y) : fc_cg M x y := by unfold fc_cg at *; omega
theorem fc_all {x y : Nat} (h : ∀ M, fc_cg M x y) : x = y := by
  rcases h (x + y + 1) with h | h <;> omega
def fc_sat (M v : Nat) : Nat := if v ≤ M then v else M
theorem fc_sat_cg (M v : Nat) : fc_cg M (fc_sat M v) v := by unfold fc_sat fc_cg; split <;> omega
theorem fc_sat_le (M v : Nat) : fc_sat M v ≤ M := by unfold fc_sat; split <;> omega
theorem fc_sat_e {M v v' : Nat} (h : fc_cg M v v') : fc_sat M v = fc_sat M v' := by unfold fc_sat fc_cg at *; split <;> split <;> omega
theorem fc_le_e {M x v : Nat} (hx : x ≤ M) (h : fc_cg M x v) : x = fc_sat M v := by unfold fc_sat fc_cg at *; split <;> omega
def fc_sum (f : Nat → Nat) : Nat → Nat
  | 0 => 0
  | k + 1 => fc_sum f k + f k
theorem fc_sum_s (f : Nat → Nat) (k : Nat) : fc_sum f (k + 1) = fc_sum f k + f k := rfl
theorem fc_sum_cg {M : Nat} {f h : Nat → Nat} : ∀ n, (∀ k, k < n → fc_cg M (f k) (h k)) → fc_cg M (fc_sum f n) (fc_sum h n)
  | 0, _ => fc_rf
  | n + 1, z => fc_ad (fc_sum_cg n (fun k hk => z k (by omega))) (z n (by omega))
theorem fc_sum_e {f h : Nat → Nat} (n : Nat) (z : ∀ k, k < n → f k = h k) : fc_sum f n = fc_sum h n :=
  fc_all fun M => fc_sum_cg n (fun k hk => Or.inl (z k hk))
theorem fc_sum_z {f : Nat → Nat} (n : Nat) (z : ∀ k, k < n → f k = 0) : fc_sum f n = 0 := by
  induction n with
  | zero => rfl
  | succ n ih => rw [fc_sum_s, ih (fun k hk => z k (by omega)), z n (by omega)]
theorem fc_sum_nz {f : Nat → Nat} {n : Nat} (h : fc_sum f n ≠ 0) : ∃ k, k < n ∧ f k ≠ 0 := by
  apply Classical.byContradiction
  intro hn
  apply h
  apply fc_sum_z
  intro k hk
  apply Classical.byContradiction
  exact fun z => hn ⟨k, hk, z⟩
theorem fc_sum_ad (f h : Nat → Nat) (n : Nat) : fc_sum (fun k => f k + h k) n = fc_sum f n + fc_sum h n := by
  induction n with
  | zero => rfl
  | succ n ih => rw [fc_sum_s, fc_sum_s, fc_sum_s, ih]; omega
theorem fc_sum_at {f : Nat → Nat} {n i : Nat} (hi : i < n) (z : ∀ k, k < n → k ≠ i → f k = 0) : fc_sum f n = f i := by
  induction n with
  | zero => omega
  | succ n ih =>
    rw [fc_sum_s]
    by_cases e : i = n
    · subst e; rw [fc_sum_z i (fun k hk => z k (by omega) (by omega)), Nat.zero_add]
    · rw [ih (by omega) (fun k hk hn => z k (by omega) hn), z n (by omega) (by omega), Nat.add_zero]
/-- one time an item -/
def fc_on (b : Nat → Nat → Nat) (v : Nat → Nat) (q : Nat) : Nat := fc_sum (fun p => v p * b p q) (q + 1)
/-- again and again -/
def fc_rt (b : Nat → Nat → Nat) (c : Nat → Nat) : Nat → Nat → Nat
  | 0 => c
  | n + 1 => fun j => if j = n then c n + fc_sum (fun p => fc_rt b c n p * b p n) n else fc_rt b c n j
def fc_rep (b : Nat → Nat → Nat) (c : Nat → Nat) (q : Nat) : Nat := fc_rt b c (q + 1) q
theorem fc_rt_s (b : Nat → Nat → Nat) (c : Nat → Nat) (n j : Nat) : fc_rt b c (n + 1) j = if j = n then c n + fc_sum (fun p => fc_rt b c n p * b p n) n else fc_rt b c n j := rfl
theorem fc_rt_lo {b : Nat → Nat → Nat} {c : Nat → Nat} : ∀ {n j : Nat}, j < n → fc_rt b c n j = fc_rep b c j
  | 0, _, h => by omega
  | n + 1, j, h => by
    by_cases e : j = n
    · subst e; rfl
    · rw [fc_rt_s, if_neg e, fc_rt_lo (by omega)]
theorem fc_rt_hi {b : Nat → Nat → Nat} {c : Nat → Nat} : ∀ {n j : Nat}, n ≤ j → fc_rt b c n j = c j
  | 0, _, _ => rfl
  | n + 1, j, h => by rw [fc_rt_s, if_neg (by omega), fc_rt_hi (by omega)]
theorem fc_rep_e (b : Nat → Nat → Nat) (c : Nat → Nat) (q : Nat) : fc_rep b c q = c q + fc_sum (fun p => fc_rep b c p * b p q) q := by
  unfold fc_rep
  rw [fc_rt_s, if_pos rfl]
  congr 1
  apply fc_sum_e
  intro k hk
  rw [fc_rt_lo hk]; rfl
theorem fc_rep_u {M : Nat} {b : Nat → Nat → Nat} {c R : Nat → Nat} {N : Nat} (h : ∀ q, q ≤ N → fc_cg M (R q) (c q + fc_sum (fun p => R p * b p q) q)) : ∀ q, q ≤ N → fc_cg M (R q) (fc_rep b c q) := by
  intro q
  induction q using Nat.strongRecOn with
  | ind q ih =>
    intro hq
    rw [fc_rep_e]
    refine fc_tr (h q hq) (fc_ad fc_rf (fc_sum_cg q (fun k hk => fc_ml (ih k hk (by omega)) fc_rf)))
/-! items, alternatives, rules over a table -/
def fc_b (g : fd_Gr) (D : Nat → Nat → Nat → Nat) (w p q : Nat) : Nat :=
  if w < 8 then (if p < fd_m g ∧ q = p + 1 ∧ fd_T g p = w then 1 else 0) else D (w - 8) p q
def fc_it (g : fd_Gr) (D : Nat → Nat → Nat → Nat) (a k : Nat) (v : Nat → Nat) (q : Nat) : Nat :=
  if fd_S g a k = 0 then fc_on (fc_b g D (fd_W g a k)) v q
  else if fd_S g a k = 1 then v q + fc_on (fc_b g D (fd_W g a k)) v q
  else if fd_S g a k = 2 then fc_rep (fc_b g D (fd_W g a k)) v q
  else fc_rep (fc_b g D (fd_W g a k)) (fc_on (fc_b g D (fd_W g a k)) v) q
def fc_al (g : fd_Gr) (D : Nat → Nat → Nat → Nat) (a i : Nat) : Nat → Nat → Nat
  | 0 => fun q => if q = i then 1 else 0
  | k + 1 => fc_it g D a k (fc_al g D a i k)
def fc_to (g : fd_Gr) (D : Nat → Nat → Nat → Nat) (r i q : Nat) : Nat := fc_sum (fun a => if fd_R g a = r then fc_al g D a i (fd_L g a) q else 0) (fd_n g)
section
variable {g : fd_Gr} {D D' : Nat → Nat → Nat → Nat} {a k i : Nat}
theorem fc_it0 {v : Nat → Nat} {q : Nat} (h : fd_S g a k = 0) : fc_it g D a k v q = fc_on (fc_b g D (fd_W g a k)) v q := by unfold fc_it; rw [if_pos h]
theorem fc_it1 {v : Nat → Nat} {q : Nat} (h : fd_S g a k = 1) : fc_it g D a k v q = v q + fc_on (fc_b g D (fd_W g a k)) v q := by unfold fc_it; rw [if_neg (by omega), if_pos h]
theorem fc_it2 {v : Nat → Nat} {q : Nat} (h : fd_S g a k = 2) : fc_it g D a k v q = fc_rep (fc_b g D (fd_W g a k)) v q := by unfold fc_it; rw [if_neg (by omega), if_neg (by omega), if_pos h]
theorem fc_it3 {v : Nat → Nat} {q : Nat} (h : 3 ≤ fd_S g a k) : fc_it g D a k v q = fc_rep (fc_b g D (fd_W g a k)) (fc_on (fc_b g D (fd_W g a k)) v) q := by unfold fc_it; rw [if_neg (by omega), if_neg (by omega), if_neg (by omega)]
theorem fc_on_cg {M : Nat} (hM : 0 < M) {b b' : Nat → Nat → Nat} {v v' : Nat → Nat} {q : Nat} (hv : ∀ p, p ≤ q → fc_cg M (v p) (v' p)) (hb : ∀ p, p ≤ q → v p ≠ 0 → fc_cg M (b p q) (b' p q)) : fc_cg M (fc_on b v q) (fc_on b' v' q) := by
  refine fc_sum_cg _ (fun p hp => ?_)
  by_cases z : v p = 0
  · have z' := (fc_z hM (hv p (by omega))).mp z
    rw [z, z', Nat.zero_mul, Nat.zero_mul]; exact fc_rf
  · exact fc_ml (hv p (by omega)) (hb p (by omega) z)
theorem fc_rep_cg {M : Nat} (hM : 0 < M) {b b' : Nat → Nat → Nat} {v v' : Nat → Nat} {N : Nat} (hv : ∀ p, p ≤ N → fc_cg M (v p) (v' p)) (hb : ∀ p q, p < q → q ≤ N → fc_rep b v p ≠ 0 → fc_cg M (b p q) (b' p q)) : ∀ q, q ≤ N → fc_cg M (fc_rep b v q) (fc_rep b' v' q) := by
  intro q
  induction q using Nat.strongRecOn with
  | ind q ih =>
    intro hq
    rw [fc_rep_e, fc_rep_e b']
    refine fc_ad (hv q hq) (fc_sum_cg q (fun p hp => ?_))
    have e := ih p hp (by omega)
    by_cases z : fc_rep b v p = 0
    · have z' := (fc_z hM e).mp z
      rw [z, z', Nat.zero_mul, Nat.zero_mul]; exact fc_rf
    · exact fc_ml e (hb p q hp hq z)
theorem fc_on_lo {b : Nat → Nat → Nat} {v : Nat → Nat} {q : Nat} (h : ∀ p, p < i → v p = 0) (hq : q < i) : fc_on b v q = 0 :=
  fc_sum_z _ (fun p hp => by rw [h p (by omega), Nat.zero_mul])
theorem fc_on_i {b : Nat → Nat → Nat} {v : Nat → Nat} (h : ∀ p, p < i → v p = 0) : fc_on b v i = v i * b i i :=
  fc_sum_at (by omega) (fun p hp hn => by rw [h p (by omega), Nat.zero_mul])
theorem fc_rep_lo {b : Nat → Nat → Nat} {v : Nat → Nat} (h : ∀ p, p < i → v p = 0) : ∀ q, q < i → fc_rep b v q = 0 := by
  intro q
  induction q using Nat.strongRecOn with
  | ind q ih =>
    intro hq
    rw [fc_rep_e, h q hq, fc_sum_z q (fun p hp => by rw [ih p hp (by omega), Nat.zero_mul])]
theorem fc_rep_i {b : Nat → Nat → Nat} {v : Nat → Nat} (h : ∀ p, p < i → v p = 0) : fc_rep b v i = v i := by
  rw [fc_rep_e, fc_sum_z i (fun p hp => by rw [fc_rep_lo h p hp, Nat.zero_mul]), Nat.add_zero]
theorem fc_al_lo : ∀ k q, q < i → fc_al g D a i k q = 0
  | 0, q, h => by show (if q = i then 1 else 0) = 0; rw [if_neg (by omega)]
  | k + 1, q, h => by
    have ih := fun p hp => fc_al_lo k p hp
    show fc_it g D a k (fc_al g D a i k) q = 0
    rcases (by omega : fd_S g a k = 0 ∨ fd_S g a k = 1 ∨ fd_S g a k = 2 ∨ 3 ≤ fd_S g a k) with s | s | s | s
    · rw [fc_it0 s, fc_on_lo ih h]
    · rw [fc_it1 s, fc_on_lo ih h, ih q h]
    · rw [fc_it2 s, fc_rep_lo ih q h]
    · rw [fc_it3 s, fc_rep_lo (fun p hp => fc_on_lo ih hp) q h]
theorem fc_b_ii {w : Nat} (h : fc_b g D w i i ≠ 0) : 7 < w ∧ D (w - 8) i i ≠ 0 := by
  unfold fc_b at h
  by_cases z : w < 8
  · rw [if_pos z, if_neg (by omega)] at h; exact absurd rfl h
  · rw [if_neg z] at h; exact ⟨by omega, h⟩
/-- a row that stays at its start has gone over items that need not come -/
theorem fc_al_i (ha : a < fd_n g) (hZ : ∀ w, fn_D g (fd_R g a) w → D w i i ≠ 0 → fn_N g w) : ∀ k, k ≤ fd_L g a → fc_al g D a i k i ≠ 0 → fn_all g (fn_N g) a 0 k
  | 0, _, _ => fn_all_0
  | k + 1, hk, h => by
    have lo := fun p hp => fc_al_lo (g := g) (D := D) (a := a) (i := i) k p hp
    have ih := fc_al_i ha hZ k (by omega)
    have h' : fc_it g D a k (fc_al g D a i k) i ≠ 0 := h
    have on : fc_on (fc_b g D (fd_W g a k)) (fc_al g D a i k) i ≠ 0 → fn_all g (fn_N g) a 0 (k + 1) := by
      intro z
      rw [fc_on_i lo] at z
      have z1 : fc_al g D a i k i ≠ 0 := fun y => z (by rw [y, Nat.zero_mul])
      have z2 : fc_b g D (fd_W g a k) i i ≠ 0 := fun y => z (by rw [y, Nat.mul_zero])
      have z3 := fc_b_ii z2
      exact fn_all_s (ih z1) (Or.inr (Or.inr ⟨z3.1, hZ _ ⟨a, k, ha, by omega, rfl, ih z1, z3.1, rfl⟩ z3.2⟩))
    rcases (by omega : fd_S g a k = 0 ∨ fd_S g a k = 1 ∨ fd_S g a k = 2 ∨ 3 ≤ fd_S g a k) with s | s | s | s
    · rw [fc_it0 s] at h'; exact on h'
    · rw [fc_it1 s] at h'
      by_cases z : fc_al g D a i k i = 0
      · rw [z, Nat.zero_add] at h'; exact on h'
      · exact fn_all_s (ih z) (Or.inl s)
    · rw [fc_it2 s, fc_rep_i lo] at h'
      exact fn_all_s (ih h') (Or.inr (Or.inl s))
    · rw [fc_it3 s, fc_rep_i (fun p hp => fc_on_lo lo hp)] at h'
      exact on h'
/-- tables that agree where they are asked give the same rows -/
theorem fc_al_cg {M : Nat} (hM : 0 < M) (ha : a < fd_n g) (hZ : ∀ w, fn_D g (fd_R g a) w → D w i i ≠ 0 → fn_N g w)
    (hD : ∀ k, k < fd_L g a → 7 < fd_W g a k → ∀ p q, i ≤ p → p ≤ q → q ≤ fd_m g → (p = i → fn_D g (fd_R g a) (fd_W g a k - 8)) → fc_cg M (D (fd_W g a k - 8) p q) (D' (fd_W g a k - 8) p q)) :
    ∀ k, k ≤ fd_L g a → ∀ q, q ≤ fd_m g → fc_cg M (fc_al g D a i k q) (fc_al g D' a i k q)
  | 0, _, q, _ => fc_rf
  | k + 1, hk, q, hq => by
    have ih := fc_al_cg hM ha hZ hD k (by omega)
    have lo := fun p hp => fc_al_lo (g := g) (D := D) (a := a) (i := i) k p hp
    show fc_cg M (fc_it g D a k (fc_al g D a i k) q) (fc_it g D' a k (fc_al g D' a i k) q)
    have hb : ∀ p q, p ≤ q → q ≤ fd_m g → i ≤ p → (p = i → fc_al g D a i k i ≠ 0) → fc_cg M (fc_b g D (fd_W g a k) p q) (fc_b g D' (fd_W g a k) p q) := by
      intro p q hpq hq hip hz
      unfold fc_b
      by_cases z : fd_W g a k < 8
      · rw [if_pos z, if_pos z]; exact fc_rf
      · rw [if_neg z, if_neg z]
        refine hD k (by omega) (by omega) p q hip hpq hq (fun e => ?_)
        exact ⟨a, k, ha, by omega, rfl, fc_al_i ha hZ k (by omega) (hz e), by omega, rfl⟩
    have on : ∀ q, q ≤ fd_m g → fc_cg M (fc_on (fc_b g D (fd_W g a k)) (fc_al g D a i k) q) (fc_on (fc_b g D' (fd_W g a k)) (fc_al g D' a i k) q) := by
      intro q hq
      refine fc_on_cg hM (fun p hp => ih p (by omega)) (fun p hp hz => ?_)
      have hip : i ≤ p := by
        rcases Nat.lt_or_ge p i with y | y
        · exact absurd (lo p y) hz
        · exact y
      exact hb p q hp hq hip (fun e => by rw [e] at hz; exact hz)
    rcases (by omega : fd_S g a k = 0 ∨ fd_S g a k = 1 ∨ fd_S g a k = 2 ∨ 3 ≤ fd_S g a k) with s | s | s | s
    · rw [fc_it0 s, fc_it0 s]; exact on q hq
    · rw [fc_it1 s, fc_it1 s]; exact fc_ad (ih q hq) (on q hq)
    · rw [fc_it2 s, fc_it2 s]
      refine fc_rep_cg hM ih (fun p q h1 h2 hz => ?_) q hq
      have hip : i ≤ p := by
        rcases Nat.lt_or_ge p i with y | y
        · exact absurd (fc_rep_lo lo p y) hz
        · exact y
      exact hb p q (by omega) h2 hip (fun e => by rw [e, fc_rep_i lo] at hz; exact hz)
    · rw [fc_it3 s, fc_it3 s]
      have lo' : ∀ p, p < i → fc_on (fc_b g D (fd_W g a k)) (fc_al g D a i k) p = 0 := fun p hp => fc_on_lo lo hp
      refine fc_rep_cg hM on (fun p q h1 h2 hz => ?_) q hq
      have hip : i ≤ p := by
        rcases Nat.lt_or_ge p i with y | y
        · exact absurd (fc_rep_lo lo' p y) hz
        · exact y
      refine hb p q (by omega) h2 hip (fun e => ?_)
      rw [e, fc_rep_i lo', fc_on_i lo] at hz
      exact fun y => hz (by rw [y, Nat.zero_mul])
theorem fc_to_cg {M r : Nat} (hM : 0 < M) (hZ : ∀ w, fn_D g r w → D w i i ≠ 0 → fn_N g w)
    (hD : ∀ a k, a < fd_n g → fd_R g a = r → k < fd_L g a → 7 < fd_W g a k → ∀ p q, i ≤ p → p ≤ q → q ≤ fd_m g → (p = i → fn_D g r (fd_W g a k - 8)) → fc_cg M (D (fd_W g a k - 8) p q) (D' (fd_W g a k - 8) p q)) {q : Nat} (hq : q ≤ fd_m g) :
    fc_cg M (fc_to g D r i q) (fc_to g D' r i q) := by
  refine fc_sum_cg _ (fun a ha => ?_)
  by_cases e : fd_R g a = r
  · rw [if_pos e, if_pos e]
    exact fc_al_cg hM ha (by rw [e]; exact hZ) (fun k hk h7 p q h1 h2 h3 h4 => hD a k ha e hk h7 p q h1 h2 h3 (fun y => by rw [← e]; exact h4 y)) _ (Nat.le_refl _) q hq
  · rw [if_neg e, if_neg e]; exact fc_rf
theorem fc_to_i {r : Nat} (hZ : ∀ w, fn_D g r w → D w i i ≠ 0 → fn_N g w) (h : fc_to g D r i i ≠ 0) : fn_N g r := by
  obtain ⟨a, ha, z⟩ := fc_sum_nz h
  by_cases e : fd_R g a = r
  · rw [if_pos e] at z
    exact fn_N_C g r ⟨a, ha, e, fc_al_i ha (by rw [e]; exact hZ) _ (Nat.le_refl _) z⟩
  · rw [if_neg e] at z; exact absurd rfl z
end
/-! ranks: without left recursion each rule stands above those with which it begins -/
noncomputable def fc_rk (g : fd_Gr) (r : Nat) : Nat := fb_cn (fun x => fn_B g r x) 6
theorem fc_rk_lt {g : fd_Gr} {wh sg le ru tx : Nat → Int32} (h : fd_G g wh sg le ru tx) (hb : ¬ fn_bad g) {r x : Nat} (d : fn_D g r x) : fc_rk g x < fc_rk g r := by
  have h6 := fn_D6 h d
  refine fb_cn_lt (a := x) (fun z => hb (Or.inl ⟨x, h6.2, z⟩)) (fn_B_d d) (fun k _ z => fn_B_s d z) h6.2
theorem fc_rk_B {g : fd_Gr} {wh sg le ru tx : Nat → Int32} (h : fd_G g wh sg le ru tx) (hb : ¬ fn_bad g) {r x : Nat} (d : fn_B g r x) : fc_rk g x < fc_rk g r := by
  have h6 := fn_B6 h d
  refine fb_cn_lt (a := x) (fun z => hb (Or.inl ⟨x, h6.2, z⟩)) d (fun k _ z => fn_B_t d z) h6.2
theorem fc_rk_6 {g : fd_Gr} (hb : ¬ fn_bad g) {r : Nat} (hr : r < 6) : fc_rk g r < 6 := by
  have := fb_cn_lt (P := fun x => fn_B g r x) (Q := fun _ => True) (a := r) (fun z => hb (Or.inl ⟨r, hr, z⟩)) trivial (N := 6) (fun _ _ _ => trivial) hr
  have := fb_cn_le (fun _ => True) 6
  unfold fc_rk
  omega
end
section
/-! counting alternatives, small index rows, what outside and within say -/
def fd_c (g : fd_Gr) (r : Nat) : Nat → Nat
  | 0 => 0
  | a + 1 => fd_c g r a + (if fd_R g a = r then 1 else 0)
theorem fd_c_s (g : fd_Gr) (r a : Nat) : fd_c g r (a + 1) = fd_c g r a + (if fd_R g a = r then 1 else 0) := rfl
theorem fd_c_t {g : fd_Gr} {r a : Nat} (h : fd_R g a = r) : fd_c g r (a + 1) = fd_c g r a + 1 := by rw [fd_c_s, if_pos h]
theorem fd_c_f {g : fd_Gr} {r a : Nat} (h : ¬ fd_R g a = r) : fd_c g r (a + 1) = fd_c g r a := by rw [fd_c_s, if_neg h, Nat.add_zero]
theorem fd_c_le (g : fd_Gr) (r : Nat) : ∀ a, fd_c g r a ≤ a
  | 0 => Nat.le_refl _
  | a + 1 => by have := fd_c_le g r a; rw [fd_c_s]; split <;> omega
theorem fd_c_m (g : fd_Gr) (r : Nat) {a b : Nat} (h : a ≤ b) : fd_c g r a ≤ fd_c g r b := by
  induction h with
  | refl => exact Nat.le_refl _
  | step h ih => rw [fd_c_s]; omega
theorem fx_5 (a k : Nat) : (5 : Int32) * nI a + nI k = nI (5 * a + k) := by rw [show (5 : Int32) = nI 5 from rfl, pk_mul, nI_add]
theorem fx_5' (a : Nat) : (5 : Int32) * nI a = nI (5 * a) := by rw [show (5 : Int32) = nI 5 from rfl, pk_mul]
theorem fx_25 (a k : Nat) : (25 : Int32) * nI a + nI k = nI (25 * a + k) := by rw [show (25 : Int32) = nI 25 from rfl, pk_mul, nI_add]
theorem fx_m8 {w : Nat} (h : 8 ≤ w) : nI w - 8 = nI (w - 8) := by rw [show (8 : Int32) = nI 8 from rfl, pk_sub h]
theorem fx_out {A B : Prop} {v low high : Int32} (f : low ≤ v → v ≤ high → A) (h : ¬ (low ≤ v ∧ v ≤ high) → B) : wpX_outside (fun r => (r = 0 → A) ∧ (¬ r = 0 → B)) v low high := by
  refine br_c (fun h1 => br_c (fun h2 => ?_) (fun h2 => ?_)) (fun h1 => br_c (fun h2 => ?_) (fun h2 => ?_))
  · exact ⟨rfl, br_t rfl (f h1 h2)⟩
  · exact ⟨rfl, br_f (by decide) (h fun z => h2 z.2)⟩
  · exact ⟨rfl, br_f (by decide) (h fun z => h1 z.1)⟩
  · exact ⟨rfl, br_f (by decide) (h fun z => h1 z.1)⟩
theorem fy_wi {A B : Prop} {v low high : Int32} (f : low ≤ v → v ≤ high → A) (h : ¬ (low ≤ v ∧ v ≤ high) → B) : wpY_within (fun r => (r = 0 → B) ∧ (¬ r = 0 → A)) v low high := by
  refine br_c (fun h1 => ?_) (fun h1 => br_c (fun h2 => ?_) (fun h2 => ?_))
  · exact br_t rfl (h fun z => Int32.not_lt.mpr z.1 h1)
  · exact br_t rfl (h fun z => Int32.not_lt.mpr z.2 h2)
  · exact br_f (by decide) (f (Int32.not_lt.mp h1) (Int32.not_lt.mp h2))
theorem fx_of {x : Int32} {n : Nat} (hn : n < 2 ^ 31) (h0 : 0 ≤ x) (h5 : x ≤ nI n) : ∃ j : Nat, j ≤ n ∧ x = nI j :=
  nI_of2 (nI_toInt hn) (Int32.not_lt.mpr h0) h5
/-! what the calls keep -/
def fx_SO (g : fd_Gr) (e b : Int32) (be fi : Nat → Int32) : Prop :=
  (∀ r, r < 6 → (bt e r = true ↔ fn_N g r)) ∧ (∀ r, r < 6 → fb_rep (be r) (fn_B g r)) ∧ (∀ r, r < 6 → fb_rep (fi r) (fn_F g r)) ∧ ((b = 0 ∧ ¬ fn_bad g) ∨ (b = 1 ∧ fn_bad g))
def fx_S (g : fd_Gr) (st e b : Int32) (be fi : Nat → Int32) : Prop := st = 0 ∨ (st = 1 ∧ fx_SO g e b be fi)
def fy_LO (g : fd_Gr) (em be st en fa : Nat → Int32) : Prop :=
  (∀ r, r < 6 → (em r = 0 ∧ ¬ fn_N g r) ∨ (em r = 1 ∧ fn_N g r)) ∧ (∀ r, r < 6 → fb_rep (be r) (fn_B g r)) ∧ (∀ r, r < 6 → fb_rep (st r) (fn_F g r)) ∧
  (∀ r p, r < 6 → p ≤ fd_m g → fb_rep (en (25 * r + p)) (fs_lE g r p) ∧ fa (25 * r + p) = nI (fs_lF g r p))
def fy_L (g : fd_Gr) (kn : Int32) (em be st en fa : Nat → Int32) : Prop := kn = 0 ∨ (kn = 1 ∧ fy_LO g em be st en fa)
end
section
section
variable {g : fd_Gr}
variable {f_studied f_empties f_bad f_kept f_busyCount f_fartherCount f_best f_counted f_depth f_place f_nodes f_errors f_much : Int32} {a_what a_sign a_length a_ruleOf a_text a_begins a_firsts a_been a_ends a_far a_begun a_todo a_busy a_farther a_number a_now a_then a_order a_openAlternative a_openItem a_openCame a_openNode a_nodeRule a_nodeAlternative a_nodeFrom a_nodeTo a_nodeParent a_nodeParts a_errorKind a_errorPlace a_errorItem : Nat → Int32}
theorem fx_ru {a : Nat} (G : fd_G g a_what a_sign a_length a_ruleOf a_text) (ha : a < fd_n g) : a_ruleOf (nI a).toNatClampNeg = nI (fd_R g a) := by
  have := fd_n12 G
  rw [nI_clamp (by omega)]; exact fd_ru G ha
theorem fx_le {a : Nat} (G : fd_G g a_what a_sign a_length a_ruleOf a_text) (ha : a < fd_n g) : a_length (nI a).toNatClampNeg = nI (fd_L g a) := by
  have := fd_n12 G
  rw [nI_clamp (by omega)]; exact fd_le G ha
theorem fx_wh {a k : Nat} (G : fd_G g a_what a_sign a_length a_ruleOf a_text) (ha : a < fd_n g) (hk : k < fd_L g a) : a_what (nI (5 * a + k)).toNatClampNeg = nI (fd_W g a k) := by
  have := fd_n12 G; have := fd_L5 G ha
  rw [nI_clamp (by omega)]; exact fd_wh G ha hk
theorem fx_sg {a k : Nat} (G : fd_G g a_what a_sign a_length a_ruleOf a_text) (ha : a < fd_n g) (hk : k < fd_L g a) : a_sign (nI (5 * a + k)).toNatClampNeg = nI (fd_S g a k) := by
  have := fd_n12 G; have := fd_L5 G ha
  rw [nI_clamp (by omega)]; exact fd_sg G ha hk
theorem fx_tx {p : Nat} (G : fd_G g a_what a_sign a_length a_ruleOf a_text) (hp : p < fd_m g) : a_text (nI p).toNatClampNeg = nI (fd_T g p) := by
  have := fd_m24 G
  rw [nI_clamp (by omega)]; exact fd_tx G hp
theorem fx_in {a k : Nat} (G : fd_G g a_what a_sign a_length a_ruleOf a_text) (ha : a < fd_n g) (hk : k < fd_L g a) : vp_in (nI (5 * a + k)) 65 := by
  have := fd_n12 G; have := fd_L5 G ha
  exact vp_in_nI (by omega) (by omega)
theorem fx_many4 {post : Int32 → Prop} {r : Nat} (G : fd_G g a_what a_sign a_length a_ruleOf a_text) (hr : r < 6) (K : post (nI (fd_c g r (fd_n g)))) :
    ∀ d a n, a + d = fd_n g → d < n → wX_many_4 post (nI r) (nI (fd_n g)) (nI (fd_m g)) f_studied f_empties f_bad f_kept f_busyCount f_fartherCount f_best f_counted f_depth f_place f_nodes f_errors f_much a_what a_sign a_length a_ruleOf a_text a_begins a_firsts a_been a_ends a_far a_begun a_todo a_busy a_farther a_number a_now a_then a_order a_openAlternative a_openItem a_openCame a_openNode a_nodeRule a_nodeAlternative a_nodeFrom a_nodeTo a_nodeParent a_nodeParts a_errorKind a_errorPlace a_errorItem n (nI (fd_c g r a)) (nI a) := by
  have := fd_n12 G
  intro d
  induction d with
  | zero =>
    intro a n ha hn
    obtain ⟨n, rfl⟩ : ∃ k, n = k + 1 := ⟨n - 1, by omega⟩
    refine pk_le (fd_n g) a (fun _ => ?_) (fun h => absurd h (by omega))
    rw [show a = fd_n g from by omega]; exact K
  | succ d ih =>
    intro a n ha hn
    obtain ⟨n, rfl⟩ : ∃ k, n = k + 1 := ⟨n - 1, by omega⟩
    refine pk_le (fd_n g) a (fun h => absurd h (by omega)) (fun h => ⟨vp_in_nI (by omega) (by omega), ?_⟩)
    have h6 := fd_R6 G h
    refine pk_eq (fd_R g a) r (fun e => ?_) (fun e => ?_) (hx := fx_ru G h)
    · refine nm_r (nI_1 _) (nm_r (nI_1 _) ?_)
      rw [← fd_c_t e]
      exact ih (a + 1) n (by omega) (by omega)
    · refine nm_r (nI_1 _) ?_
      rw [← fd_c_f e]
      exact ih (a + 1) n (by omega) (by omega)
theorem fx_many {post : Int32 → Prop} {r : Nat} (G : fd_G g a_what a_sign a_length a_ruleOf a_text) (hr : r < 6) (K : post (nI (fd_c g r (fd_n g)))) : wpX_many post (nI (fd_n g), nI (fd_m g), f_studied, f_empties, f_bad, f_kept, f_busyCount, f_fartherCount, f_best, f_counted, f_depth, f_place, f_nodes, f_errors, f_much, a_what, a_sign, a_length, a_ruleOf, a_text, a_begins, a_firsts, a_been, a_ends, a_far, a_begun, a_todo, a_busy, a_farther, a_number, a_now, a_then, a_order, a_openAlternative, a_openItem, a_openCame, a_openNode, a_nodeRule, a_nodeAlternative, a_nodeFrom, a_nodeTo, a_nodeParent, a_nodeParts, a_errorKind, a_errorPlace, a_errorItem) (nI r) :=
  ⟨_, fx_many4 G hr K (fd_n g) 0 (fd_n g + 1) (by omega) (by omega)⟩
/-- the place of an alternative -/
def fd_at (g : fd_Gr) (r k a : Nat) : Prop := a < fd_n g ∧ fd_R g a = r ∧ fd_c g r a = k
theorem fx_find5 {post : Int32 → Prop} {r : Nat} {v : Int32} (G : fd_G g a_what a_sign a_length a_ruleOf a_text) (hr : r < 6) (K1 : ∀ a, (∃ k, k < 12 ∧ v = nI k ∧ fd_at g r k a) → post (nI a)) (K0 : (¬ ∃ k a, k < 12 ∧ v = nI k ∧ fd_at g r k a) → post (-1)) :
    ∀ d a n x, a + d = fd_n g → d < n → (x < 0 ∧ (∀ k, k < 12 → v = nI k → ∀ b, ¬ fd_at g r k b) ∨ ∃ j, j < 2 ^ 31 ∧ x = nI j ∧ fd_c g r a + j < 2 ^ 31 ∧ v = nI (fd_c g r a + j)) → wX_find_5 post (nI r) (nI (fd_n g)) (nI (fd_m g)) f_studied f_empties f_bad f_kept f_busyCount f_fartherCount f_best f_counted f_depth f_place f_nodes f_errors f_much a_what a_sign a_length a_ruleOf a_text a_begins a_firsts a_been a_ends a_far a_begun a_todo a_busy a_farther a_number a_now a_then a_order a_openAlternative a_openItem a_openCame a_openNode a_nodeRule a_nodeAlternative a_nodeFrom a_nodeTo a_nodeParent a_nodeParts a_errorKind a_errorPlace a_errorItem n x (nI a) := by
  have := fd_n12 G
  intro d
  induction d with
  | zero =>
    intro a n x ha hn hx
    obtain ⟨n, rfl⟩ : ∃ k, n = k + 1 := ⟨n - 1, by omega⟩
    refine pk_le (fd_n g) a (fun _ => ?_) (fun h => absurd h (by omega))
    apply K0
    intro ⟨k, b, hk, e, hb⟩
    rcases hx with ⟨_, hx⟩ | ⟨j, hj, _, hcj, e'⟩
    · exact hx k hk e b hb
    · have e2 : k = fd_c g r a + j := (nI_eq (by omega) hcj).mp (e.symm.trans e')
      have hm := fd_c_m g r (show b + 1 ≤ a from by have := hb.1; omega)
      rw [fd_c_t hb.2.1] at hm
      have := hb.2.2
      omega
  | succ d ih =>
    intro a n x ha hn hx
    obtain ⟨n, rfl⟩ : ∃ k, n = k + 1 := ⟨n - 1, by omega⟩
    refine pk_le (fd_n g) a (fun h => absurd h (by omega)) (fun h => ?_)
    have h6 := fd_R6 G h
    rcases hx with ⟨h0, hx⟩ | ⟨j, hj, rfl, hcj, e'⟩
    · exact br_t h0 (K0 fun ⟨k, b, hk, e, hb⟩ => hx k hk e b hb)
    · refine br_f (nI_pos hj) ⟨vp_in_nI (by omega) (by omega), ?_⟩
      refine pk_eq (fd_R g a) r (fun e => ?_) (fun e => ?_) (hx := fx_ru G h)
      · refine pk_eq j 0 (fun e0 => ?_) (fun e0 => ?_)
        · apply K1
          have := fd_c_le g r a
          exact ⟨fd_c g r a, by omega, by rw [e', e0, Nat.add_zero], h, e, rfl⟩
        · refine nm_r (e' := nI (j - 1)) ?_ (nm_r (nI_1 _) ?_)
          · obtain ⟨i, rfl⟩ : ∃ i, j = i + 1 := ⟨j - 1, by omega⟩
            exact pk_m1 i
          · refine ih (a + 1) n _ (by omega) (by omega) (Or.inr ⟨j - 1, by omega, rfl, ?_, ?_⟩)
            · rw [fd_c_t e]; omega
            · rw [fd_c_t e, show fd_c g r a + 1 + (j - 1) = fd_c g r a + j from by omega]; exact e'
      · refine nm_r (nI_1 _) ?_
        refine ih (a + 1) n _ (by omega) (by omega) (Or.inr ⟨j, hj, rfl, ?_, ?_⟩)
        · rw [fd_c_f e]; exact hcj
        · rw [fd_c_f e]; exact e'
theorem fx_find {post : Int32 → Prop} {r : Nat} {v : Int32} (G : fd_G g a_what a_sign a_length a_ruleOf a_text) (hr : r < 6) (K1 : ∀ a, (∃ k, k < 12 ∧ v = nI k ∧ fd_at g r k a) → post (nI a)) (K0 : (¬ ∃ k a, k < 12 ∧ v = nI k ∧ fd_at g r k a) → post (-1)) :
    wpX_find post (nI (fd_n g), nI (fd_m g), f_studied, f_empties, f_bad, f_kept, f_busyCount, f_fartherCount, f_best, f_counted, f_depth, f_place, f_nodes, f_errors, f_much, a_what, a_sign, a_length, a_ruleOf, a_text, a_begins, a_firsts, a_been, a_ends, a_far, a_begun, a_todo, a_busy, a_farther, a_number, a_now, a_then, a_order, a_openAlternative, a_openItem, a_openCame, a_openNode, a_nodeRule, a_nodeAlternative, a_nodeFrom, a_nodeTo, a_nodeParent, a_nodeParts, a_errorKind, a_errorPlace, a_errorItem) (nI r) v := by
  refine ⟨fd_n g + 1, fx_find5 G hr K1 K0 (fd_n g) 0 (fd_n g + 1) v (by omega) (by omega) ?_⟩
  by_cases h : v < 0
  · refine Or.inl ⟨h, fun k hk e => ?_⟩
    rw [e] at h
    exact absurd h (nI_pos (by omega))
  · obtain ⟨j, hj, e⟩ := nI_of h
    exact Or.inr ⟨j, hj, e, by show 0 + j < 2 ^ 31; omega, by show v = nI (0 + j); rw [Nat.zero_add]; exact e⟩
theorem fx_next {post : Int32 → Prop} {a j s : Nat} (ha : a < 12) (hj : j < 12) (hs : s < 4) (K : post (nI (12 * a + fs_nx s j))) : wpX_next post (nI (12 * a + j)) (nI s) := by
  have e1 : ∀ a, a < 12 → ∀ j, j < 12 → nI (12 * a + j) ||| 1 = nI (12 * a + (2 * (j / 2) + 1)) := by decide +kernel
  have e2 : ∀ a, a < 12 → ∀ j, j < 12 → (nI (12 * a + j) &&& (-2)) + 2 = nI (12 * a + (2 * (j / 2) + 2)) := by decide +kernel
  refine pk_eq s 2 (fun h => ?_) (fun h => pk_eq s 3 (fun h3 => ?_) (fun h3 => ?_))
  · unfold fs_nx at K; rw [if_pos h] at K; exact K
  · unfold fs_nx at K; rw [if_neg h, if_pos h3] at K; rw [e1 a ha j hj]; exact K
  · unfold fs_nx at K; rw [if_neg h, if_neg h3] at K; rw [e2 a ha j hj]; exact K
/-- an item that need not come, by the mask of empty rules -/
theorem fx_skips {post : Int32 → Prop} {a k : Nat} {N : Nat → Prop} (G : fd_G g a_what a_sign a_length a_ruleOf a_text) (ha : a < fd_n g) (hk : k < fd_L g a) (hN : ∀ r, r < 6 → (bt f_empties r = true ↔ N r)) (K1 : fn_sk g N a k → post 1) (K0 : ¬ fn_sk g N a k → post 0) : wpX_skips post (nI (fd_n g), nI (fd_m g), f_studied, f_empties, f_bad, f_kept, f_busyCount, f_fartherCount, f_best, f_counted, f_depth, f_place, f_nodes, f_errors, f_much, a_what, a_sign, a_length, a_ruleOf, a_text, a_begins, a_firsts, a_been, a_ends, a_far, a_begun, a_todo, a_busy, a_farther, a_number, a_now, a_then, a_order, a_openAlternative, a_openItem, a_openCame, a_openNode, a_nodeRule, a_nodeAlternative, a_nodeFrom, a_nodeTo, a_nodeParent, a_nodeParts, a_errorKind, a_errorPlace, a_errorItem) (nI (5 * a + k)) := by
  have hi := fx_in G ha hk
  have hs := fd_S4 G ha hk
  have hw := fd_W14 G ha hk
  refine ⟨hi, pk_eq (fd_S g a k) 1 (fun e => K1 (Or.inl e)) (fun e1 => ⟨hi, ?_⟩) (hx := fx_sg G ha hk)⟩
  refine pk_eq (fd_S g a k) 2 (fun e => K1 (Or.inr (Or.inl e))) (fun e2 => ⟨hi, ?_⟩) (hx := fx_sg G ha hk)
  refine pk_le (fd_W g a k) 7 (fun e => ?_) (fun e3 => ⟨hi, ?_⟩) (hx := fx_wh G ha hk)
  · apply K0
    intro z
    rcases z with z | z | z <;> omega
  · rw [fx_wh G ha hk, fx_m8 (by omega)]
    refine fb_br (by omega) (fun hb => ?_) (fun hb => ?_)
    · apply K0
      intro z
      rcases z with z | z | z
      · omega
      · omega
      · have := (hN _ (by omega)).mpr z.2
        rw [hb] at this; exact absurd this (by decide)
    · exact K1 (Or.inr (Or.inr ⟨e3, (hN _ (by omega)).mp hb⟩))
theorem fx_skipsAll2 {post : Int32 → Prop} {a : Nat} {N : Nat → Prop} (G : fd_G g a_what a_sign a_length a_ruleOf a_text) (ha : a < fd_n g) (hN : ∀ r, r < 6 → (bt f_empties r = true ↔ N r)) (K1 : fn_all g N a 0 (fd_L g a) → post 1) (K0 : ¬ fn_all g N a 0 (fd_L g a) → post 0) :
    ∀ d k n, k + d = fd_L g a → d < n → fn_all g N a 0 k → wX_skipsAll_2 post (nI a) (nI (fd_n g)) (nI (fd_m g)) f_studied f_empties f_bad f_kept f_busyCount f_fartherCount f_best f_counted f_depth f_place f_nodes f_errors f_much a_what a_sign a_length a_ruleOf a_text a_begins a_firsts a_been a_ends a_far a_begun a_todo a_busy a_farther a_number a_now a_then a_order a_openAlternative a_openItem a_openCame a_openNode a_nodeRule a_nodeAlternative a_nodeFrom a_nodeTo a_nodeParent a_nodeParts a_errorKind a_errorPlace a_errorItem n (nI k) := by
  have := fd_n12 G
  have h5 := fd_L5 G ha
  intro d
  induction d with
  | zero =>
    intro k n hk hn h
    obtain ⟨n, rfl⟩ : ∃ k, n = k + 1 := ⟨n - 1, by omega⟩
    refine ⟨vp_in_nI (by omega) (by omega), pk_le (fd_L g a) k (fun _ => K1 ?_) (fun h => absurd h (by omega)) (hx := fx_le G ha)⟩
    rw [show fd_L g a = k from by omega]; exact h
  | succ d ih =>
    intro k n hk hn h
    obtain ⟨n, rfl⟩ : ∃ k, n = k + 1 := ⟨n - 1, by omega⟩
    refine ⟨vp_in_nI (by omega) (by omega), pk_le (fd_L g a) k (fun h => absurd h (by omega)) (fun hl => ?_) (hx := fx_le G ha)⟩
    rw [fx_5]
    refine fx_skips G ha hl hN (fun z => ?_) (fun z => ?_)
    · refine br_f (by decide) (nm_r (nI_1 _) ?_)
      exact ih (k + 1) n (by omega) (by omega) (fn_all_s h z)
    · exact br_t rfl (K0 fun y => z (y k (Nat.zero_le _) hl))
theorem fx_skipsAll {post : Int32 → Prop} {a : Nat} {N : Nat → Prop} (G : fd_G g a_what a_sign a_length a_ruleOf a_text) (ha : a < fd_n g) (hN : ∀ r, r < 6 → (bt f_empties r = true ↔ N r)) (K1 : fn_all g N a 0 (fd_L g a) → post 1) (K0 : ¬ fn_all g N a 0 (fd_L g a) → post 0) :
    wpX_skipsAll post (nI (fd_n g), nI (fd_m g), f_studied, f_empties, f_bad, f_kept, f_busyCount, f_fartherCount, f_best, f_counted, f_depth, f_place, f_nodes, f_errors, f_much, a_what, a_sign, a_length, a_ruleOf, a_text, a_begins, a_firsts, a_been, a_ends, a_far, a_begun, a_todo, a_busy, a_farther, a_number, a_now, a_then, a_order, a_openAlternative, a_openItem, a_openCame, a_openNode, a_nodeRule, a_nodeAlternative, a_nodeFrom, a_nodeTo, a_nodeParent, a_nodeParts, a_errorKind, a_errorPlace, a_errorItem) (nI a) 0 :=
  ⟨fd_L g a + 1, fx_skipsAll2 G ha hN K1 K0 (fd_L g a) 0 (fd_L g a + 1) (by omega) (by omega) fn_all_0⟩
end
end
section
/-! the work list of rules begun at places: pure part -/
theorem fq_pig : ∀ (N c : Nat) (f : Nat → Nat), (∀ i, i < c → f i < N) → (∀ i j, i < j → j < c → f i ≠ f j) → c ≤ N
  | 0, c, f, h, _ => by
    rcases Nat.eq_zero_or_pos c with z | z
    · omega
    · have := h 0 z; omega
  | N + 1, c, f, h, d => by
    rcases Nat.eq_zero_or_pos c with z | z
    · omega
    rcases Classical.em (∃ i, i < c ∧ f i = N) with ⟨i, hi, e⟩ | hn
    · have := fq_pig N (c - 1) (fun j => if j = i then f (c - 1) else f j) (fun j hj => by
        by_cases y : j = i
        · rw [if_pos y]
          have h1 := h (c - 1) (by omega)
          have h2 := d i (c - 1) (by omega) (by omega)
          omega
        · rw [if_neg y]
          have h1 := h j (by omega)
          have h2 : f j ≠ N := by
            rcases Nat.lt_or_gt_of_ne y with z | z
            · have := d j i z hi; omega
            · have := d i j z (by omega); omega
          omega) (fun j k hjk hk => by
        by_cases y : j = i
        · have y2 : ¬ k = i := by omega
          rw [if_pos y, if_neg y2]
          exact (d k (c - 1) (by omega) (by omega)).symm
        · rw [if_neg y]
          by_cases y2 : k = i
          · rw [if_pos y2]; exact d j (c - 1) (by omega) (by omega)
          · rw [if_neg y2]; exact d j k hjk (by omega))
      omega
    · have := fq_pig N c f (fun j hj => by
        have h1 := h j hj
        have h2 : f j ≠ N := fun e => hn ⟨j, hj, e⟩
        omega) d
      omega
theorem fq_sum1 {f f' : Nat → Nat} {d k0 : Nat} : ∀ n, k0 < n → f' k0 + d ≤ f k0 → (∀ k, k ≠ k0 → f' k = f k) → fc_sum f' n + d ≤ fc_sum f n
  | 0, h, _, _ => by omega
  | n + 1, h, h1, h2 => by
    rw [fc_sum_s, fc_sum_s]
    by_cases e : k0 = n
    · subst e
      rw [fc_sum_e k0 (fun k hk => h2 k (by omega))]
      omega
    · have := fq_sum1 n (by omega) h1 h2
      rw [h2 n (by omega)]
      omega
def fq_v (fa : Nat → Int32) (k : Nat) : Nat := (fa k).toNatClampNeg
def fq_p (ft : Nat → Int32) (fc k : Nat) : Prop := ∃ i, i < fc ∧ ft i = nI k
/-- where a state has been -/
def fq_1 (g : fd_Gr) (be bg fa : Nat → Int32) : Prop := ∀ s a j p, s < 25 → a < 12 → j < 12 → bt (be (144 * s + (12 * a + j))) p = true →
  s ≤ p ∧ p ≤ fd_m g ∧ a < fd_n g ∧ j / 2 ≤ fd_L g a ∧ (j % 2 = 1 → j / 2 < fd_L g a ∧ fd_S g a (j / 2) = 3) ∧ ¬ bg (25 * fd_R g a + s) = 0 ∧ fs_P g (fs_lE g) a j s p ∧ p ≤ fq_v fa (25 * fd_R g a + s)
/-- ends -/
def fq_2 (g : fd_Gr) (en bg fa : Nat → Int32) : Prop := ∀ r s e, r < 6 → s < 25 → bt (en (25 * r + s)) e = true →
  ¬ bg (25 * r + s) = 0 ∧ s ≤ e ∧ e ≤ fd_m g ∧ fs_lE g r s e ∧ e ≤ fq_v fa (25 * r + s)
/-- how far -/
def fq_3 (g : fd_Gr) (bg fa : Nat → Int32) : Prop := ∀ r s, r < 6 → s < 25 → ¬ bg (25 * r + s) = 0 →
  s ≤ fd_m g ∧ s ≤ fq_v fa (25 * r + s) ∧ fq_v fa (25 * r + s) ≤ fs_lF g r s ∧ fa (25 * r + s) = nI (fq_v fa (25 * r + s))
def fq_4 (bg fa : Nat → Int32) : Prop := ∀ k, k < 150 → bg k = 0 → fq_v fa k = 0
/-- the first states -/
def fq_I (g : fd_Gr) (be bg : Nat → Int32) (Z : Nat → Prop) : Prop := ∀ r s, r < 6 → s < 25 → ¬ bg (25 * r + s) = 0 → ¬ Z (25 * r + s) → ∀ a, a < fd_n g → fd_R g a = r → bt (be (144 * s + (12 * a + 0))) s = true
/-- the busy ones -/
def fq_U (be td bu : Nat → Int32) (bc : Nat) : Prop :=
  (∀ i, i < bc → ∃ k, k < 3600 ∧ bu i = nI k ∧ ¬ td k = 0) ∧ (∀ i j, i < j → j < bc → bu i ≠ bu j) ∧ (∀ k, k < 3600 → ¬ td k = 0 → ∃ i, i < bc ∧ bu i = nI k) ∧
  (∀ k p, k < 3600 → bt (td k) p = true → bt (be k) p = true)
/-- those that got farther -/
def fq_F (bg ft : Nat → Int32) (fc : Nat) : Prop := (∀ i, i < fc → ∃ k, k < 150 ∧ ft i = nI k ∧ ¬ bg k = 0) ∧ (∀ i j, i < j → j < fc → ft i ≠ ft j)
/-- what a state does at a place has been done -/
def fq_D (g : fd_Gr) (be en fa bg ft : Nat → Int32) (fc : Nat) (Z : Nat → Prop) (s a j p : Nat) : Prop :=
  (j / 2 = fd_L g a → bt (en (25 * fd_R g a + s)) p = true) ∧
  (j / 2 < fd_L g a → ((fd_S g a (j / 2) = 1 ∨ fd_S g a (j / 2) = 2 ∨ j % 2 = 1) → bt (be (144 * s + (12 * a + (2 * (j / 2) + 2)))) p = true) ∧
    (fd_W g a (j / 2) < 8 → p < fd_m g → fd_T g p = fd_W g a (j / 2) → bt (be (144 * s + (12 * a + fs_nx (fd_S g a (j / 2)) j))) (p + 1) = true) ∧
    (8 ≤ fd_W g a (j / 2) → ¬ bg (25 * (fd_W g a (j / 2) - 8) + p) = 0 ∧ (∀ e, bt (en (25 * (fd_W g a (j / 2) - 8) + p)) e = true → bt (be (144 * s + (12 * a + fs_nx (fd_S g a (j / 2)) j))) e = true) ∧
      (fq_v fa (25 * (fd_W g a (j / 2) - 8) + p) ≤ fq_v fa (25 * fd_R g a + s) ∨ fq_p ft fc (25 * (fd_W g a (j / 2) - 8) + p) ∨ Z (25 * (fd_W g a (j / 2) - 8) + p))))
def fq_C (g : fd_Gr) (be en fa bg td ft : Nat → Int32) (fc : Nat) (X : Nat → Nat → Prop) (Z : Nat → Prop) : Prop := ∀ s a j p, s < 25 → a < 12 → j < 12 → bt (be (144 * s + (12 * a + j))) p = true →
  bt (td (144 * s + (12 * a + j))) p = true ∨ X (144 * s + (12 * a + j)) p ∨ fq_D g be en fa bg ft fc Z s a j p
def fq_Q (g : fd_Gr) (be en fa bg td bu : Nat → Int32) (bc : Nat) (ft : Nat → Int32) (fc : Nat) (X : Nat → Nat → Prop) (Z Zi : Nat → Prop) : Prop :=
  fq_1 g be bg fa ∧ fq_2 g en bg fa ∧ fq_3 g bg fa ∧ fq_4 bg fa ∧ fq_I g be bg Zi ∧ fq_U be td bu bc ∧ fq_F bg ft fc ∧ fq_C g be en fa bg td ft fc X Z
def fq_μ (be fa : Nat → Int32) (bc fc : Nat) : Nat := 2 * fc_sum (fun k => nf_M (be k)) 3600 + fc_sum (fun k => 25 - fq_v fa k) 150 + bc + fc
/-- what only grows -/
def fq_L (be en fa bg td : Nat → Int32) (bc fc : Nat) (be' en' fa' bg' td' : Nat → Int32) (bc' fc' : Nat) : Prop :=
  (∀ k p, k < 3600 → bt (be k) p = true → bt (be' k) p = true) ∧ (∀ k p, k < 150 → bt (en k) p = true → bt (en' k) p = true) ∧ (∀ k, k < 150 → fq_v fa k ≤ fq_v fa' k) ∧ (∀ k, k < 150 → ¬ bg k = 0 → ¬ bg' k = 0) ∧
  (∀ k p, k < 3600 → bt (td k) p = true → bt (td' k) p = true) ∧ (∀ k p, k < 3600 → bt (be' k) p = true → bt (be k) p = true ∨ bt (td' k) p = true) ∧ fq_μ be' fa' bc' fc' ≤ fq_μ be fa bc fc
theorem fq_L_r {be en fa bg td : Nat → Int32} {bc fc : Nat} : fq_L be en fa bg td bc fc be en fa bg td bc fc :=
  ⟨fun _ _ _ z => z, fun _ _ _ z => z, fun _ _ => Nat.le_refl _, fun _ _ z => z, fun _ _ _ z => z, fun _ _ _ z => Or.inl z, Nat.le_refl _⟩
theorem fq_L_t {be en fa bg td be' en' fa' bg' td' be2 en2 fa2 bg2 td2 : Nat → Int32} {bc fc bc' fc' bc2 fc2 : Nat} (h : fq_L be en fa bg td bc fc be' en' fa' bg' td' bc' fc') (k : fq_L be' en' fa' bg' td' bc' fc' be2 en2 fa2 bg2 td2 bc2 fc2) : fq_L be en fa bg td bc fc be2 en2 fa2 bg2 td2 bc2 fc2 :=
  ⟨fun i p hi z => k.1 i p hi (h.1 i p hi z), fun i p hi z => k.2.1 i p hi (h.2.1 i p hi z), fun i hi => Nat.le_trans (h.2.2.1 i hi) (k.2.2.1 i hi), fun i hi z => k.2.2.2.1 i hi (h.2.2.2.1 i hi z),
    fun i p hi z => k.2.2.2.2.1 i p hi (h.2.2.2.2.1 i p hi z), fun i p hi z => (k.2.2.2.2.2.1 i p hi z).elim (fun y => (h.2.2.2.2.2.1 i p hi y).elim Or.inl (fun x => Or.inr (k.2.2.2.2.1 i p hi x))) Or.inr, Nat.le_trans k.2.2.2.2.2.2 h.2.2.2.2.2.2⟩
/-- what reach does -/
def fq_RE (fa ft : Nat → Int32) (fc k0 v : Nat) (fa' ft' : Nat → Int32) (fc' : Nat) : Prop :=
  (fa' = fa ∧ ft' = ft ∧ fc' = fc ∧ v ≤ fq_v fa k0) ∨
  (fa' = upd fa k0 (nI v) ∧ fq_v fa k0 < v ∧ v < 25 ∧ ((ft' = ft ∧ fc' = fc ∧ fq_p ft fc k0) ∨ (ft' = upd ft fc (nI k0) ∧ fc' = fc + 1 ∧ ¬ fq_p ft fc k0)))
section
variable {g : fd_Gr} {be en fa bg td bu ft fa' ft' : Nat → Int32} {bc fc fc' k0 v : Nat} {X : Nat → Nat → Prop} {Z Zi : Nat → Prop}
theorem fq_v_s (h : v < 2 ^ 31) : fq_v (upd fa k0 (nI v)) k0 = v := by unfold fq_v; rw [pk_us, nI_clamp h]
theorem fq_v_n {k : Nat} (h : k ≠ k0) : fq_v (upd fa k0 (nI v)) k = fq_v fa k := by unfold fq_v; rw [pk_un h]
theorem fq_RE_v (h : fq_RE fa ft fc k0 v fa' ft' fc') : (∀ k, fq_v fa k ≤ fq_v fa' k) ∧ v ≤ fq_v fa' k0 ∧ (∀ k, k ≠ k0 → fa' k = fa k) ∧ (∀ k, fq_v fa' k ≠ fq_v fa k → fq_p ft' fc' k) ∧ (∀ k, fq_p ft fc k → fq_p ft' fc' k) := by
  rcases h with ⟨rfl, rfl, rfl, h⟩ | ⟨rfl, h1, h2, h3⟩
  · exact ⟨fun _ => Nat.le_refl _, h, fun _ _ => rfl, fun _ z => absurd rfl z, fun _ z => z⟩
  · have hp : (∀ k, fq_p ft fc k → fq_p ft' fc' k) ∧ fq_p ft' fc' k0 := by
      rcases h3 with ⟨rfl, rfl, h3⟩ | ⟨rfl, rfl, h3⟩
      · exact ⟨fun _ z => z, h3⟩
      · refine ⟨fun k ⟨i, hi, e⟩ => ⟨i, by omega, by rw [pk_un (by omega)]; exact e⟩, fc, by omega, pk_us⟩
    refine ⟨fun k => ?_, ?_, fun k hk => pk_un hk, fun k hk => ?_, hp.1⟩
    · by_cases e : k = k0
      · subst e; rw [fq_v_s (by omega)]; omega
      · rw [fq_v_n e]; exact Nat.le_refl _
    · rw [fq_v_s (by omega)]; exact Nat.le_refl _
    · by_cases e : k = k0
      · subst e; exact hp.2
      · rw [fq_v_n e] at hk; exact absurd rfl hk
theorem fq_RE_F (h : fq_RE fa ft fc k0 v fa' ft' fc') (hk : k0 < 150) (hb : ¬ bg k0 = 0) (F : fq_F bg ft fc) : fq_F bg ft' fc' := by
  rcases h with ⟨rfl, rfl, rfl, h⟩ | ⟨rfl, h1, h2, h3⟩
  · exact F
  · rcases h3 with ⟨rfl, rfl, h3⟩ | ⟨rfl, rfl, h3⟩
    · exact F
    · refine ⟨fun i hi => ?_, fun i j hij hj => ?_⟩
      · by_cases e : i = fc
        · subst e; exact ⟨k0, hk, pk_us, hb⟩
        · rw [pk_un e]; exact F.1 i (by omega)
      · rw [pk_un (show i ≠ fc from by omega)]
        by_cases e : j = fc
        · subst e; rw [pk_us]; exact fun z => h3 ⟨i, hij, z⟩
        · rw [pk_un e]; exact F.2 i j hij (by omega)
theorem fq_F_150 (F : fq_F bg ft fc) : fc ≤ 150 := by
  have hx : ∀ i, i < fc → (ft i).toNatClampNeg < 150 := by
    intro i hi
    obtain ⟨k, hk, e, _⟩ := F.1 i hi
    rw [e, nI_clamp (by omega)]; exact hk
  refine fq_pig 150 fc (fun i => (ft i).toNatClampNeg) hx (fun i j hij hj e => ?_)
  obtain ⟨k, hk, e1, _⟩ := F.1 i (by omega)
  obtain ⟨k', hk', e2, _⟩ := F.1 j hj
  apply F.2 i j hij hj
  have e' : (ft i).toNatClampNeg = (ft j).toNatClampNeg := e
  rw [e1, e2, nI_clamp (by omega), nI_clamp (by omega)] at e'
  rw [e1, e2, e']
theorem fq_U_3600 (U : fq_U be td bu bc) : bc ≤ 3600 := by
  have hx : ∀ i, i < bc → (bu i).toNatClampNeg < 3600 := by
    intro i hi
    obtain ⟨k, hk, e, _⟩ := U.1 i hi
    rw [e, nI_clamp (by omega)]; exact hk
  refine fq_pig 3600 bc (fun i => (bu i).toNatClampNeg) hx (fun i j hij hj e => ?_)
  obtain ⟨k, hk, e1, _⟩ := U.1 i (by omega)
  obtain ⟨k', hk', e2, _⟩ := U.1 j hj
  apply U.2.1 i j hij hj
  have e' : (bu i).toNatClampNeg = (bu j).toNatClampNeg := e
  rw [e1, e2, nI_clamp (by omega), nI_clamp (by omega)] at e'
  rw [e1, e2, e']
theorem fq_RE_μ (h : fq_RE fa ft fc k0 v fa' ft' fc') (hk : k0 < 150) (bc : Nat) : fq_μ be fa' bc fc' ≤ fq_μ be fa bc fc := by
  rcases h with ⟨rfl, rfl, rfl, h⟩ | ⟨rfl, h1, h2, h3⟩
  · exact Nat.le_refl _
  · have := fq_sum1 (f := fun k => 25 - fq_v fa k) (f' := fun k => 25 - fq_v (upd fa k0 (nI v)) k) (d := 1) (k0 := k0) 150 hk
      (by show 25 - fq_v (upd fa k0 (nI v)) k0 + 1 ≤ 25 - fq_v fa k0; rw [fq_v_s (by omega)]; omega) (fun k hn => by show 25 - fq_v (upd fa k0 (nI v)) k = 25 - fq_v fa k; rw [fq_v_n hn])
    unfold fq_μ
    rcases h3 with ⟨rfl, rfl, h3⟩ | ⟨rfl, rfl, h3⟩ <;> omega
/-- done stays done -/
theorem fq_D_up {be' en' bg' : Nat → Int32} {s a j p : Nat} (hs : s < 25) (ha : a < 12) (hj : j < 12) (h5 : fd_L g a ≤ 5) (hR : fd_R g a < 6) (h14 : j / 2 < fd_L g a → fd_W g a (j / 2) < 14) (hp : p < 25)
    (hb : ∀ k p, k < 3600 → bt (be k) p = true → bt (be' k) p = true) (he : ∀ k p, k < 150 → bt (en k) p = true → bt (en' k) p = true) (hf : ∀ k, k < 150 → fq_v fa k ≤ fq_v fa' k) (hg : ∀ k, k < 150 → ¬ bg k = 0 → ¬ bg' k = 0)
    (hc : ∀ k, k < 150 → ¬ bg k = 0 → fq_v fa' k ≠ fq_v fa k → fq_p ft' fc' k) (hq : ∀ k, fq_p ft fc k → fq_p ft' fc' k)
    (hen : 8 ≤ fd_W g a (j / 2) → j / 2 < fd_L g a → ∀ e, bt (en' (25 * (fd_W g a (j / 2) - 8) + p)) e = true → bt (en (25 * (fd_W g a (j / 2) - 8) + p)) e = true ∨ bt (be' (144 * s + (12 * a + fs_nx (fd_S g a (j / 2)) j))) e = true)
    (h : fq_D g be en fa bg ft fc Z s a j p) : fq_D g be' en' fa' bg' ft' fc' Z s a j p := by
  have hnx : j / 2 < fd_L g a → fs_nx (fd_S g a (j / 2)) j < 12 := by
    intro z; unfold fs_nx; split
    · exact hj
    · split <;> omega
  refine ⟨fun z => he _ _ (by omega) (h.1 z), fun z => ?_⟩
  have z14 := h14 z
  obtain ⟨h1, h2, h3⟩ := h.2 z
  have hn := hnx z
  refine ⟨fun y => hb _ _ (by omega) (h1 y), fun y1 y2 y3 => hb _ _ (by omega) (h2 y1 y2 y3), fun y => ?_⟩
  obtain ⟨h4, h5', h6⟩ := h3 y
  refine ⟨hg _ (by omega) h4, fun e ee => (hen y z e ee).elim (fun x => hb _ _ (by omega) (h5' e x)) id, ?_⟩
  by_cases e : fq_v fa' (25 * (fd_W g a (j / 2) - 8) + p) = fq_v fa (25 * (fd_W g a (j / 2) - 8) + p)
  · have mono := hf (25 * fd_R g a + s) (by omega)
    rcases h6 with h6 | h6 | h6
    · left; rw [e]; omega
    · exact Or.inr (Or.inl (hq _ h6))
    · exact Or.inr (Or.inr h6)
  · exact Or.inr (Or.inl (hc _ (by omega) h4 e))
end
end
section
/-! each act on the work list keeps it -/
theorem fq_bit {f : Nat → Int32} {k p i q : Nat} (hp : p < 32) : bt (upd f k (f k ||| ((1 : Int32) <<< (nI p &&& 31))) i) q = true ↔ bt (f i) q = true ∨ (i = k ∧ q = p) := by
  by_cases e : i = k
  · subst e
    rw [pk_us, b_or, Bool.or_eq_true]
    constructor
    · rintro (h | h)
      · exact Or.inl h
      · rw [fb_one hp (fb_lt h), decide_eq_true_eq] at h; exact Or.inr ⟨rfl, h⟩
    · rintro (h | ⟨_, h⟩)
      · exact Or.inl h
      · right; rw [h, fb_one hp hp, decide_eq_true_eq]
  · rw [pk_un e]
    exact ⟨Or.inl, fun h => h.elim id (fun z => absurd z.1 e)⟩
theorem fq_code {s a j s' a' j' : Nat} (ha : a < 12) (hj : j < 12) (ha' : a' < 12) (hj' : j' < 12) (e : 144 * s' + (12 * a' + j') = 144 * s + (12 * a + j)) : s' = s ∧ a' = a ∧ j' = j := by omega
theorem fq_ne {x : Int32} {p : Nat} (h : bt x p = true) : ¬ x = 0 := fun e => by rw [e, b_0] at h; exact absurd h (by decide)
theorem fq_M_lt {x : Int32} {p : Nat} (hp : p < 32) (h : bt x p = false) : nf_M (x ||| ((1 : Int32) <<< (nI p &&& 31))) + 1 ≤ nf_M x := by
  refine nf_gr x _ ?_ (fq_ne (p := p) (by rw [fb_one hp hp, decide_eq_true_eq]))
  rw [fb_z]
  intro i hi
  rw [b_and, fb_one hp hi]
  by_cases e : i = p
  · subst e; rw [h]; rfl
  · rw [decide_eq_false e, Bool.and_false]
section
variable {g : fd_Gr} {wh sg le ru tx : Nat → Int32} {be en fa bg td bu ft fa' ft' : Nat → Int32} {bc fc fc' : Nat} {X : Nat → Nat → Prop} {Z Zi : Nat → Prop}
theorem fq_reach {r s v : Nat} (G : fd_G g wh sg le ru tx) (Q : fq_Q g be en fa bg td bu bc ft fc X Z Zi) (hr : r < 6) (hs : s < 25) (hb : ¬ bg (25 * r + s) = 0) (hv : v ≤ fs_lF g r s)
    (h : fq_RE fa ft fc (25 * r + s) v fa' ft' fc') : fq_Q g be en fa' bg td bu bc ft' fc' X Z Zi ∧ fq_L be en fa bg td bc fc be en fa' bg td bc fc' := by
  obtain ⟨q1, q2, q3, q4, qI, qU, qF, qC⟩ := Q
  obtain ⟨v1, v2, v3, v4, v5⟩ := fq_RE_v h
  have m24 := fd_m24 G
  have n12 := fd_n12 G
  refine ⟨⟨?_, ?_, ?_, ?_, qI, qU, fq_RE_F h (by omega) hb qF, ?_⟩, ?_⟩
  · intro s a j p h1 h2 h3 h4
    obtain ⟨z1, z2, z3, z4, z5, z6, z7, z8⟩ := q1 s a j p h1 h2 h3 h4
    exact ⟨z1, z2, z3, z4, z5, z6, z7, Nat.le_trans z8 (v1 _)⟩
  · intro r s e h1 h2 h3
    obtain ⟨z1, z2, z3, z4, z5⟩ := q2 r s e h1 h2 h3
    exact ⟨z1, z2, z3, z4, Nat.le_trans z5 (v1 _)⟩
  · intro r' s' h1 h2 h3
    obtain ⟨z1, z2, z3, z4⟩ := q3 r' s' h1 h2 h3
    by_cases e : 25 * r' + s' = 25 * r + s
    · have e1 : r' = r := by omega
      have e2 : s' = s := by omega
      subst e1 e2
      refine ⟨z1, Nat.le_trans z2 (v1 _), ?_, ?_⟩
      · rcases h with ⟨rfl, _, _, _⟩ | ⟨rfl, _, _, _⟩
        · exact z3
        · rw [fq_v_s (by omega)]; exact hv
      · rcases h with ⟨rfl, _, _, _⟩ | ⟨rfl, _, _, _⟩
        · exact z4
        · rw [fq_v_s (by omega), pk_us]
    · have e2 : fq_v fa' (25 * r' + s') = fq_v fa (25 * r' + s') := by unfold fq_v; rw [v3 _ e]
      rw [e2, v3 _ e]
      exact ⟨z1, z2, z3, z4⟩
  · intro k hk h0
    have : k ≠ 25 * r + s := fun e => hb (by rw [← e]; exact h0)
    unfold fq_v
    rw [v3 k this]
    exact q4 k hk h0
  · intro s' a j p h1 h2 h3 h4
    obtain ⟨z1, z2, z3, z4, z5, z6, z7, z8⟩ := q1 s' a j p h1 h2 h3 h4
    rcases qC s' a j p h1 h2 h3 h4 with y | y | y
    · exact Or.inl y
    · exact Or.inr (Or.inl y)
    · exact Or.inr (Or.inr (fq_D_up h1 h2 h3 (fd_L5 G z3) (fd_R6 G z3) (fun z => fd_W14 G z3 z) (by omega) (fun _ _ _ z => z) (fun _ _ _ z => z) (fun k _ => v1 k) (fun _ _ z => z) (fun k _ _ => v4 k) v5 (fun _ _ e z => Or.inl z) y))
  · exact ⟨fun _ _ _ z => z, fun _ _ _ z => z, fun k _ => v1 k, fun _ _ z => z, fun _ _ _ z => z, fun _ _ _ z => Or.inl z, fq_RE_μ h (by omega) bc⟩
theorem fq_come {s a j p bc' : Nat} {bu' : Nat → Int32} (G : fd_G g wh sg le ru tx) (Q : fq_Q g be en fa bg td bu bc ft fc X Z Zi) (hs : s < 25) (ha : a < fd_n g) (hj : j < 12) (hjl : j / 2 ≤ fd_L g a) (ho : j % 2 = 1 → j / 2 < fd_L g a ∧ fd_S g a (j / 2) = 3)
    (hsp : s ≤ p) (hpm : p ≤ fd_m g) (hb : ¬ bg (25 * fd_R g a + s) = 0) (hP : fs_P g (fs_lE g) a j s p) (hn : bt (be (144 * s + (12 * a + j))) p = false)
    (hbu : (td (144 * s + (12 * a + j)) = 0 ∧ bu' = upd bu bc (nI (144 * s + (12 * a + j))) ∧ bc' = bc + 1) ∨ (¬ td (144 * s + (12 * a + j)) = 0 ∧ bu' = bu ∧ bc' = bc))
    (h : fq_RE fa ft fc (25 * fd_R g a + s) p fa' ft' fc') :
    fq_Q g (upd be (144 * s + (12 * a + j)) (be (144 * s + (12 * a + j)) ||| ((1 : Int32) <<< (nI p &&& 31)))) en fa' bg (upd td (144 * s + (12 * a + j)) (td (144 * s + (12 * a + j)) ||| ((1 : Int32) <<< (nI p &&& 31)))) bu' bc' ft' fc' X Z Zi ∧
    fq_L be en fa bg td bc fc (upd be (144 * s + (12 * a + j)) (be (144 * s + (12 * a + j)) ||| ((1 : Int32) <<< (nI p &&& 31)))) en fa' bg (upd td (144 * s + (12 * a + j)) (td (144 * s + (12 * a + j)) ||| ((1 : Int32) <<< (nI p &&& 31)))) bc' fc' ∧
    bt (upd be (144 * s + (12 * a + j)) (be (144 * s + (12 * a + j)) ||| ((1 : Int32) <<< (nI p &&& 31))) (144 * s + (12 * a + j))) p = true := by
  have m24 := fd_m24 G
  have n12 := fd_n12 G
  have r6 := fd_R6 G ha
  have hp32 : p < 32 := by omega
  have lF : p ≤ fs_lF g (fd_R g a) s := fs_P_le (fs_least g) ha (by omega) hjl ho hP
  obtain ⟨Q', _⟩ := fq_reach G Q r6 hs hb lF h
  obtain ⟨q1, q2, q3, q4, qI, qU, qF, qC⟩ := Q'
  obtain ⟨v1, v2, v3, v4, v5⟩ := fq_RE_v h
  have hμ := fq_RE_μ (be := be) h (by omega) bc
  have kb : 144 * s + (12 * a + j) < 3600 := by omega
  generalize ek : 144 * s + (12 * a + j) = k at *
  have bb : ∀ i q, bt (upd be k (be k ||| ((1 : Int32) <<< (nI p &&& 31))) i) q = true ↔ bt (be i) q = true ∨ (i = k ∧ q = p) := fun i q => fq_bit hp32
  have tb : ∀ i q, bt (upd td k (td k ||| ((1 : Int32) <<< (nI p &&& 31))) i) q = true ↔ bt (td i) q = true ∨ (i = k ∧ q = p) := fun i q => fq_bit hp32
  have tn : ∀ i, ¬ td i = 0 → ¬ upd td k (td k ||| ((1 : Int32) <<< (nI p &&& 31))) i = 0 := by
    intro i hi
    obtain ⟨q, _, hq⟩ := fb_nz hi
    exact fq_ne ((tb i q).mpr (Or.inl hq))
  have tk : ¬ upd td k (td k ||| ((1 : Int32) <<< (nI p &&& 31))) k = 0 := fq_ne ((tb k p).mpr (Or.inr ⟨rfl, rfl⟩))
  refine ⟨⟨?_, q2, q3, q4, ?_, ?_, qF, ?_⟩, ?_, (bb k p).mpr (Or.inr ⟨rfl, rfl⟩)⟩
  · intro s' a' j' p' h1 h2 h3 h4
    rcases (bb _ _).mp h4 with h5 | ⟨h5, h6⟩
    · exact q1 s' a' j' p' h1 h2 h3 h5
    · subst h6
      obtain ⟨rfl, rfl, rfl⟩ := fq_code (by omega) hj h2 h3 (h5.trans ek.symm)
      exact ⟨hsp, hpm, ha, hjl, ho, hb, hP, v2⟩
  · intro r s' h1 h2 h3 h4 a' h5 h6
    exact (bb _ _).mpr (Or.inl (qI r s' h1 h2 h3 h4 a' h5 h6))
  · rcases hbu with ⟨t0, rfl, rfl⟩ | ⟨t0, rfl, rfl⟩
    · refine ⟨fun i hi => ?_, fun i i' hi hi' => ?_, fun i hi ht => ?_, fun i q hi ht => ?_⟩
      · by_cases e : i = bc
        · subst e; exact ⟨k, kb, pk_us, tk⟩
        · rw [pk_un e]
          obtain ⟨k', e1, e2, e3⟩ := qU.1 i (by omega)
          exact ⟨k', e1, e2, tn k' e3⟩
      · rw [pk_un (show i ≠ bc from by omega)]
        by_cases e : i' = bc
        · subst e
          rw [pk_us]
          intro z
          obtain ⟨k', e1, e2, e3⟩ := qU.1 i (by omega)
          have : k' = k := (nI_eq (by omega) (by omega)).mp (e2.symm.trans z)
          rw [this] at e3
          exact e3 t0
        · rw [pk_un e]; exact qU.2.1 i i' hi (by omega)
      · by_cases e : i = k
        · subst e; exact ⟨bc, by omega, pk_us⟩
        · rw [pk_un e] at ht
          obtain ⟨x, e1, e2⟩ := qU.2.2.1 i hi ht
          exact ⟨x, by omega, by rw [pk_un (by omega)]; exact e2⟩
      · rcases (tb i q).mp ht with z | z
        · exact (bb i q).mpr (Or.inl (qU.2.2.2 i q hi z))
        · exact (bb i q).mpr (Or.inr z)
    · refine ⟨fun i hi => ?_, qU.2.1, fun i hi ht => ?_, fun i q hi ht => ?_⟩
      · obtain ⟨k', e1, e2, e3⟩ := qU.1 i hi
        exact ⟨k', e1, e2, tn k' e3⟩
      · by_cases e : i = k
        · rw [e]; exact qU.2.2.1 k kb t0
        · rw [pk_un e] at ht; exact qU.2.2.1 i hi ht
      · rcases (tb i q).mp ht with z | z
        · exact (bb i q).mpr (Or.inl (qU.2.2.2 i q hi z))
        · exact (bb i q).mpr (Or.inr z)
  · intro s' a' j' p' h1 h2 h3 h4
    rcases (bb _ _).mp h4 with h4 | h4
    · obtain ⟨z1, z2, z3, z4, z5, z6, z7, z8⟩ := q1 s' a' j' p' h1 h2 h3 h4
      rcases qC s' a' j' p' h1 h2 h3 h4 with y | y | y
      · exact Or.inl ((tb _ _).mpr (Or.inl y))
      · exact Or.inr (Or.inl y)
      · exact Or.inr (Or.inr (fq_D_up h1 h2 h3 (fd_L5 G z3) (fd_R6 G z3) (fun z => fd_W14 G z3 z) (by omega) (fun i q _ z => (bb i q).mpr (Or.inl z)) (fun _ _ _ z => z) (fun k _ => Nat.le_refl _) (fun _ _ z => z) (fun k _ _ z => absurd rfl z) (fun _ z => z) (fun _ _ e z => Or.inl z) y))
    · exact Or.inl ((tb _ _).mpr (Or.inr h4))
  · refine ⟨fun i q _ z => (bb i q).mpr (Or.inl z), fun _ _ _ z => z, fun i _ => v1 i, fun _ _ z => z, fun i q _ z => (tb i q).mpr (Or.inl z), fun i q _ z => ((bb i q).mp z).elim Or.inl (fun y => Or.inr ((tb i q).mpr (Or.inr y))), ?_⟩
    have := fq_sum1 (f := fun i => nf_M (be i)) (f' := fun i => nf_M (upd be k (be k ||| ((1 : Int32) <<< (nI p &&& 31))) i)) (d := 1) (k0 := k) 3600 kb
      (by show nf_M (upd be k (be k ||| ((1 : Int32) <<< (nI p &&& 31))) k) + 1 ≤ nf_M (be k); rw [pk_us]; exact fq_M_lt hp32 hn)
      (fun i hn => by show nf_M (upd be k (be k ||| ((1 : Int32) <<< (nI p &&& 31))) i) = nf_M (be i); rw [pk_un hn])
    unfold fq_μ at hμ ⊢
    rcases hbu with ⟨t0, rfl, rfl⟩ | ⟨t0, rfl, rfl⟩ <;> omega
/-- a rule begins -/
theorem fq_begin {r s : Nat} (G : fd_G g wh sg le ru tx) (Q : fq_Q g be en fa bg td bu bc ft fc X Z (fun _ => False)) (hr : r < 6) (hs : s ≤ fd_m g) (hb : bg (25 * r + s) = 0) :
    fq_Q g be en (upd fa (25 * r + s) (nI s)) (upd bg (25 * r + s) 1) td bu bc ft fc X Z (fun k => k = 25 * r + s) ∧
    fq_L be en fa bg td bc fc be en (upd fa (25 * r + s) (nI s)) (upd bg (25 * r + s) 1) td bc fc := by
  obtain ⟨q1, q2, q3, q4, qI, qU, qF, qC⟩ := Q
  have m24 := fd_m24 G
  have n12 := fd_n12 G
  have v0 := q4 _ (by omega) hb
  generalize ek : 25 * r + s = k at *
  have kn : ∀ i, ¬ bg i = 0 → i ≠ k := fun i z e => z (by rw [e]; exact hb)
  have gu : ∀ i, ¬ bg i = 0 → ¬ upd bg k 1 i = 0 := fun i z => by rw [pk_un (kn i z)]; exact z
  have vm : ∀ i, fq_v fa i ≤ fq_v (upd fa k (nI s)) i := by
    intro i
    by_cases e : i = k
    · subst e; rw [v0]; exact Nat.zero_le _
    · rw [fq_v_n e]; exact Nat.le_refl _
  refine ⟨⟨?_, ?_, ?_, ?_, ?_, qU, ?_, ?_⟩, fun _ _ _ z => z, fun _ _ _ z => z, fun i _ => vm i, fun i _ => gu i, fun _ _ _ z => z, fun _ _ _ z => Or.inl z, ?_⟩
  · intro s a j p h1 h2 h3 h4
    obtain ⟨z1, z2, z3, z4, z5, z6, z7, z8⟩ := q1 s a j p h1 h2 h3 h4
    exact ⟨z1, z2, z3, z4, z5, gu _ z6, z7, Nat.le_trans z8 (vm _)⟩
  · intro r s e h1 h2 h3
    obtain ⟨z1, z2, z3, z4, z5⟩ := q2 r s e h1 h2 h3
    exact ⟨gu _ z1, z2, z3, z4, Nat.le_trans z5 (vm _)⟩
  · intro r' s' h1 h2 h3
    by_cases e : 25 * r' + s' = k
    · have e1 : r' = r := by omega
      have e2 : s' = s := by omega
      subst e1 e2
      rw [e, fq_v_s (by omega), pk_us]
      exact ⟨hs, Nat.le_refl _, (fs_least g).1 _ _, rfl⟩
    · rw [pk_un e] at h3
      rw [fq_v_n e, pk_un e]
      exact q3 r' s' h1 h2 h3
  · intro i hi h0
    by_cases e : i = k
    · subst e; rw [pk_us] at h0; exact absurd h0 (by decide)
    · rw [pk_un e] at h0; rw [fq_v_n e]; exact q4 i hi h0
  · intro r' s' h1 h2 h3 h4 a h5 h6
    rw [pk_un h4] at h3
    exact qI r' s' h1 h2 h3 (fun z => z) a h5 h6
  · refine ⟨fun i hi => ?_, qF.2⟩
    obtain ⟨x, e1, e2, e3⟩ := qF.1 i hi
    exact ⟨x, e1, e2, gu x e3⟩
  · intro s' a j p h1 h2 h3 h4
    obtain ⟨z1, z2, z3, z4, z5, z6, z7, z8⟩ := q1 s' a j p h1 h2 h3 h4
    rcases qC s' a j p h1 h2 h3 h4 with y | y | y
    · exact Or.inl y
    · exact Or.inr (Or.inl y)
    · exact Or.inr (Or.inr (fq_D_up h1 h2 h3 (fd_L5 G z3) (fd_R6 G z3) (fun z => fd_W14 G z3 z) (by omega) (fun _ _ _ z => z) (fun _ _ _ z => z) (fun i _ => vm i) (fun i _ => gu i) (fun i _ hi z => absurd (fq_v_n (kn i hi)) z) (fun _ z => z) (fun _ _ e z => Or.inl z) y))
  · have := fq_sum1 (f := fun i => 25 - fq_v fa i) (f' := fun i => 25 - fq_v (upd fa k (nI s)) i) (d := 0) (k0 := k) 150 (by omega)
      (by show 25 - fq_v (upd fa k (nI s)) k + 0 ≤ 25 - fq_v fa k; rw [v0]; omega)
      (fun i hn => by show 25 - fq_v (upd fa k (nI s)) i = 25 - fq_v fa i; rw [fq_v_n hn])
    unfold fq_μ
    omega
end
end
section
section
variable {g : fd_Gr} {wh sg le ru tx : Nat → Int32} {be en fa bg td bu ft : Nat → Int32} {bc fc : Nat} {X : Nat → Nat → Prop} {Z Zi : Nat → Prop}
theorem fq_nx12 {a j : Nat} (h5 : fd_L g a ≤ 5) (hj : j < 12) (hk : j / 2 < fd_L g a) : fs_nx (fd_S g a (j / 2)) j < 12 := by
  unfold fs_nx; split
  · exact hj
  · split <;> omega
/-- weaker exceptions -/
theorem fq_wX {X' : Nat → Nat → Prop} (Q : fq_Q g be en fa bg td bu bc ft fc X Z Zi) (h : ∀ s a j p, s < 25 → a < 12 → j < 12 → bt (be (144 * s + (12 * a + j))) p = true → X (144 * s + (12 * a + j)) p → X' (144 * s + (12 * a + j)) p ∨ bt (td (144 * s + (12 * a + j))) p = true ∨ fq_D g be en fa bg ft fc Z s a j p) : fq_Q g be en fa bg td bu bc ft fc X' Z Zi := by
  obtain ⟨q1, q2, q3, q4, qI, qU, qF, qC⟩ := Q
  refine ⟨q1, q2, q3, q4, qI, qU, qF, fun s a j p h1 h2 h3 h4 => ?_⟩
  rcases qC s a j p h1 h2 h3 h4 with y | y | y
  · exact Or.inl y
  · rcases h s a j p h1 h2 h3 h4 y with z | z | z
    · exact Or.inr (Or.inl z)
    · exact Or.inl z
    · exact Or.inr (Or.inr z)
  · exact Or.inr (Or.inr y)
theorem fq_wI {Zi' : Nat → Prop} (Q : fq_Q g be en fa bg td bu bc ft fc X Z Zi) (h : fq_I g be bg Zi') : fq_Q g be en fa bg td bu bc ft fc X Z Zi' := by
  obtain ⟨q1, q2, q3, q4, qI, qU, qF, qC⟩ := Q
  exact ⟨q1, q2, q3, q4, h, qU, qF, qC⟩
/-- an end has been told to all that had asked -/
theorem fq_fin {be0 : Nat → Int32} {r s e : Nat} (G : fd_G g wh sg le ru tx) (Q : fq_Q g be en fa bg td bu bc ft fc X Z Zi) (hr : r < 6) (hs : s < 25) (hb : ¬ bg (25 * r + s) = 0) (hse : s ≤ e) (hem : e ≤ fd_m g) (hE : fs_lE g r s e) (hv : e ≤ fq_v fa (25 * r + s))
    (hn : ∀ k p, k < 3600 → bt (be k) p = true → bt (be0 k) p = true ∨ bt (td k) p = true)
    (hd : ∀ q a j, q ≤ s → a < fd_n g → j < 12 → j / 2 < fd_L g a → fd_W g a (j / 2) = r + 8 → bt (be0 (144 * q + (12 * a + j))) s = true → bt (be (144 * q + (12 * a + fs_nx (fd_S g a (j / 2)) (2 * (j / 2))))) e = true) :
    fq_Q g be (upd en (25 * r + s) (en (25 * r + s) ||| ((1 : Int32) <<< (nI e &&& 31)))) fa bg td bu bc ft fc X Z Zi ∧ bt (upd en (25 * r + s) (en (25 * r + s) ||| ((1 : Int32) <<< (nI e &&& 31))) (25 * r + s)) e = true := by
  obtain ⟨q1, q2, q3, q4, qI, qU, qF, qC⟩ := Q
  have m24 := fd_m24 G
  have n12 := fd_n12 G
  have eb : ∀ i q, bt (upd en (25 * r + s) (en (25 * r + s) ||| ((1 : Int32) <<< (nI e &&& 31))) i) q = true ↔ bt (en i) q = true ∨ (i = 25 * r + s ∧ q = e) := fun i q => fq_bit (by omega)
  refine ⟨⟨q1, ?_, q3, q4, qI, qU, qF, ?_⟩, (eb _ _).mpr (Or.inr ⟨rfl, rfl⟩)⟩
  · intro r' s' e' h1 h2 h3
    rcases (eb _ _).mp h3 with h3 | ⟨h3, rfl⟩
    · exact q2 r' s' e' h1 h2 h3
    · have e1 : r' = r := by omega
      have e2 : s' = s := by omega
      subst e1 e2
      exact ⟨hb, hse, hem, hE, hv⟩
  · intro s' a j p h1 h2 h3 h4
    obtain ⟨z1, z2, z3, z4, z5, z6, z7, z8⟩ := q1 s' a j p h1 h2 h3 h4
    rcases qC s' a j p h1 h2 h3 h4 with y | y | y
    · exact Or.inl y
    · exact Or.inr (Or.inl y)
    · have kb : 144 * s' + (12 * a + j) < 3600 := by omega
      rcases hn _ p kb h4 with h0 | h0
      · refine Or.inr (Or.inr (fq_D_up h1 h2 h3 (fd_L5 G z3) (fd_R6 G z3) (fun z => fd_W14 G z3 z) (by omega) (fun _ _ _ z => z) (fun i q _ z => (eb i q).mpr (Or.inl z)) (fun i _ => Nat.le_refl _) (fun _ _ z => z) (fun i _ _ z => absurd rfl z) (fun _ z => z) (fun w8 jl e' z => ?_) y))
        rcases (eb _ _).mp z with z | ⟨z, rfl⟩
        · exact Or.inl z
        · right
          have w14 := fd_W14 G z3 jl
          have e1 : p = s := by omega
          have e2 : fd_W g a (j / 2) = r + 8 := by omega
          subst e1
          have := hd s' a j z1 z3 h3 jl e2 h0
          have nx : fs_nx (fd_S g a (j / 2)) (2 * (j / 2)) = fs_nx (fd_S g a (j / 2)) j := by
            unfold fs_nx
            rw [show 2 * (j / 2) / 2 = j / 2 from by omega]
            split
            · next s2 =>
              rcases Nat.mod_two_eq_zero_or_one j with t | t
              · omega
              · have := (z5 t).2; omega
            · rfl
          rw [nx] at this
          exact this
      · exact Or.inl h0
/-- a rule that got farther has told it -/
theorem fq_tell {r s : Nat} (G : fd_G g wh sg le ru tx) (Q : fq_Q g be en fa bg td bu bc ft fc X (fun k => k = 25 * r + s) Zi) (hr : r < 6) (hs : s < 25)
    (hd : ∀ q a j, q ≤ s → a < fd_n g → j < 12 → j / 2 < fd_L g a → fd_W g a (j / 2) = r + 8 → bt (be (144 * q + (12 * a + j))) s = true → fq_v fa (25 * r + s) ≤ fq_v fa (25 * fd_R g a + q)) :
    fq_Q g be en fa bg td bu bc ft fc X (fun _ => False) Zi := by
  obtain ⟨q1, q2, q3, q4, qI, qU, qF, qC⟩ := Q
  have m24 := fd_m24 G
  refine ⟨q1, q2, q3, q4, qI, qU, qF, fun s' a j p h1 h2 h3 h4 => ?_⟩
  obtain ⟨z1, z2, z3, z4, z5, z6, z7, z8⟩ := q1 s' a j p h1 h2 h3 h4
  rcases qC s' a j p h1 h2 h3 h4 with y | y | y
  · exact Or.inl y
  · exact Or.inr (Or.inl y)
  · refine Or.inr (Or.inr ⟨y.1, fun jl => ?_⟩)
    obtain ⟨y1, y2, y3⟩ := y.2 jl
    refine ⟨y1, y2, fun w8 => ?_⟩
    obtain ⟨x1, x2, x3⟩ := y3 w8
    refine ⟨x1, x2, ?_⟩
    rcases x3 with x3 | x3 | x3
    · exact Or.inl x3
    · exact Or.inr (Or.inl x3)
    · have w14 := fd_W14 G z3 jl
      have e1 : p = s := by omega
      have e2 : fd_W g a (j / 2) = r + 8 := by omega
      subst e1
      rw [x3]
      exact Or.inl (hd s' a j z1 z3 h3 jl e2 h4)
/-- the last of the busy ones is taken -/
theorem fq_popU {k : Nat} (Q : fq_Q g be en fa bg td bu (bc + 1) ft fc (fun _ _ => False) Z Zi) (hk : k < 3600) (e : bu bc = nI k) :
    fq_Q g be en fa bg (upd td k 0) bu bc ft fc (fun i p => i = k ∧ bt (td k) p = true) Z Zi ∧ fq_μ be fa bc fc + 1 ≤ fq_μ be fa (bc + 1) fc := by
  obtain ⟨q1, q2, q3, q4, qI, qU, qF, qC⟩ := Q
  refine ⟨⟨q1, q2, q3, q4, qI, ⟨fun i hi => ?_, fun i j hij hj => qU.2.1 i j hij (by omega), fun i hi ht => ?_, fun i p hi ht => ?_⟩, qF, fun s a j p h1 h2 h3 h4 => ?_⟩, by unfold fq_μ; omega⟩
  · obtain ⟨x, e1, e2, e3⟩ := qU.1 i (by omega)
    refine ⟨x, e1, e2, ?_⟩
    have : x ≠ k := fun z => qU.2.1 i bc hi (by omega) (by rw [e2, e, z])
    rw [pk_un this]; exact e3
  · by_cases z : i = k
    · rw [z, pk_us] at ht; exact absurd rfl ht
    · rw [pk_un z] at ht
      obtain ⟨x, e1, e2⟩ := qU.2.2.1 i hi ht
      refine ⟨x, ?_, e2⟩
      have : x ≠ bc := fun y => z ((nI_eq (by omega) (by omega)).mp (by rw [← e2, ← e, y]))
      omega
  · by_cases z : i = k
    · rw [z, pk_us, b_0] at ht; exact absurd ht (by decide)
    · rw [pk_un z] at ht; exact qU.2.2.2 i p hi ht
  · rcases qC s a j p h1 h2 h3 h4 with y | y | y
    · by_cases z : 144 * s + (12 * a + j) = k
      · exact Or.inr (Or.inl ⟨z, by rw [← z]; exact y⟩)
      · left; rw [pk_un z]; exact y
    · exact y.elim
    · exact Or.inr (Or.inr y)
/-- the last of those that got farther is taken -/
theorem fq_popF {k : Nat} (G : fd_G g wh sg le ru tx) (Q : fq_Q g be en fa bg td bu bc ft (fc + 1) X (fun _ => False) Zi) (hk : k < 150) (e : ft fc = nI k) :
    fq_Q g be en fa bg td bu bc ft fc X (fun i => i = k) Zi ∧ fq_μ be fa bc fc + 1 ≤ fq_μ be fa bc (fc + 1) := by
  obtain ⟨q1, q2, q3, q4, qI, qU, qF, qC⟩ := Q
  refine ⟨⟨q1, q2, q3, q4, qI, qU, ⟨fun i hi => qF.1 i (by omega), fun i j hij hj => qF.2 i j hij (by omega)⟩, fun s a j p h1 h2 h3 h4 => ?_⟩, by unfold fq_μ; omega⟩
  rcases qC s a j p h1 h2 h3 h4 with y | y | y
  · exact Or.inl y
  · exact Or.inr (Or.inl y)
  · refine Or.inr (Or.inr ⟨y.1, fun jl => ?_⟩)
    obtain ⟨y1, y2, y3⟩ := y.2 jl
    refine ⟨y1, y2, fun w8 => ?_⟩
    obtain ⟨x1, x2, x3⟩ := y3 w8
    refine ⟨x1, x2, ?_⟩
    rcases x3 with x3 | ⟨i, hi, x3⟩ | x3
    · exact Or.inl x3
    · by_cases z : i = fc
      · right; right
        subst z
        obtain ⟨z1, z2, z3, z4, z5, z6, z7, z8⟩ := q1 s a j p h1 h2 h3 h4
        have w14 := fd_W14 G z3 jl
        have m24 := fd_m24 G
        exact (nI_eq (by omega) (by omega)).mp (x3.symm.trans e)
      · exact Or.inr (Or.inl ⟨i, by omega, x3⟩)
    · exact x3.elim
/-- nothing is left to do: the ends and the farthest places are the least ones -/
def fq_XE (g : fd_Gr) (en bg : Nat → Int32) (r p q : Nat) : Prop := if r < 6 ∧ p ≤ fd_m g ∧ ¬ bg (25 * r + p) = 0 then bt (en (25 * r + p)) q = true else q ≤ fd_m g ∨ q ≤ p
def fq_XF (g : fd_Gr) (fa bg : Nat → Int32) (r p : Nat) : Nat := if r < 6 ∧ p ≤ fd_m g ∧ ¬ bg (25 * r + p) = 0 then fq_v fa (25 * r + p) else if p ≤ fd_m g then fd_m g else p
theorem fq_clo (G : fd_G g wh sg le ru tx) (Q : fq_Q g be en fa bg td bu 0 ft 0 (fun _ _ => False) (fun _ => False) (fun _ => False)) : fs_Clo g (fq_XE g en bg) (fq_XF g fa bg) := by
  obtain ⟨q1, q2, q3, q4, qI, qU, qF, qC⟩ := Q
  have m24 := fd_m24 G
  have n12 := fd_n12 G
  have t0 : ∀ k, k < 3600 → td k = 0 := by
    intro k hk
    apply Classical.byContradiction
    intro z
    obtain ⟨i, hi, _⟩ := qU.2.2.1 k hk z
    omega
  have Dn : ∀ s a j p, s < 25 → a < 12 → j < 12 → bt (be (144 * s + (12 * a + j))) p = true → fq_D g be en fa bg ft 0 (fun _ => False) s a j p := by
    intro s a j p h1 h2 h3 h4
    rcases qC s a j p h1 h2 h3 h4 with y | y | y
    · rw [t0 _ (by omega), b_0] at y; exact absurd y (by decide)
    · exact y.elim
    · exact y
  have Eb : ∀ {r p : Nat}, r < 6 → p ≤ fd_m g → ¬ bg (25 * r + p) = 0 → ∀ q, fq_XE g en bg r p q ↔ bt (en (25 * r + p)) q = true := by
    intro r p h1 h2 h3 q; unfold fq_XE; rw [if_pos ⟨h1, h2, h3⟩]
  have Fb : ∀ {r p : Nat}, r < 6 → p ≤ fd_m g → ¬ bg (25 * r + p) = 0 → fq_XF g fa bg r p = fq_v fa (25 * r + p) := by
    intro r p h1 h2 h3; unfold fq_XF; rw [if_pos ⟨h1, h2, h3⟩]
  have Fle : ∀ r p, p ≤ fd_m g → fq_XF g fa bg r p ≤ fd_m g := by
    intro r p hp
    unfold fq_XF
    split
    · next h => exact Nat.le_trans (q3 r p h.1 (by omega) h.2.2).2.2.1 (fs_lF_m hp)
    · first | exact Nat.le_refl _ | (rw [if_pos hp]; exact Nat.le_refl _)
  have Ele : ∀ r p q, p ≤ fd_m g → fq_XE g en bg r p q → q ≤ fd_m g := by
    intro r p q hp h
    unfold fq_XE at h
    split at h
    · next hc => exact (q2 r p q hc.1 (by omega) h).2.2.1
    · rcases h with h | h <;> omega
  refine ⟨fun r p => ?_, fun r p q h => ?_, fun a s ha hs => ?_⟩
  · unfold fq_XF
    split
    · next h => exact (q3 r p h.1 (by omega) h.2.2).2.1
    · split <;> omega
  · unfold fq_XE at h
    unfold fq_XF
    split at h
    · next hc => rw [if_pos hc]; exact (q2 r p q hc.1 (by omega) h).2.2.2.2
    · next hc => rw [if_neg hc]; split <;> (rcases h with h | h <;> omega)
  · have r6 := fd_R6 G ha
    have l5 := fd_L5 G ha
    by_cases hb : bg (25 * fd_R g a + s) = 0
    · have hc : ¬ (fd_R g a < 6 ∧ s ≤ fd_m g ∧ ¬ bg (25 * fd_R g a + s) = 0) := fun z => z.2.2 hb
      have hI : ∀ w p q, p ≤ fd_m g → fs_St g (fq_XE g en bg) w p q → q ≤ fd_m g := by
        intro w p q hp z
        rcases z with ⟨_, h, _, rfl⟩ | ⟨_, h⟩
        · omega
        · exact Ele _ _ _ hp h
      refine ⟨fun q h => ?_, ?_⟩
      · unfold fq_XE
        rw [if_neg hc]
        exact Or.inl (fs_go_in (I := fun p => p ≤ fd_m g) hI _ _ _ _ (fun p z => by rw [show p = s from z]; exact hs) q h)
      · unfold fq_XF
        rw [if_neg hc, if_pos hs]
        exact fs_gB_in (I := fun p => p ≤ fd_m g) hI (fun w p hp => ⟨fun _ h _ => h, fun _ => Fle _ _ hp⟩) _ _ _ _ (fun p z => by rw [show p = s from z]; exact hs)
    · have hst : ∀ j p q, j / 2 < fd_L g a → (j % 2 = 1 → fd_S g a (j / 2) = 3) → (j < 12 ∧ bt (be (144 * s + (12 * a + j))) p = true) → fs_St g (fq_XE g en bg) (fd_W g a (j / 2)) p q → (fs_nx (fd_S g a (j / 2)) j < 12 ∧ bt (be (144 * s + (12 * a + fs_nx (fd_S g a (j / 2)) j))) q = true) := by
        intro j p q hj _ hB z
        obtain ⟨z1, z2, z3, z4, z5, z6, z7, z8⟩ := q1 s a j p (by omega) (by omega) hB.1 hB.2
        have d := (Dn s a j p (by omega) (by omega) hB.1 hB.2).2 hj
        refine ⟨fq_nx12 l5 hB.1 hj, ?_⟩
        rcases z with ⟨w8, hp, ht, rfl⟩ | ⟨w8, h⟩
        · exact d.2.1 w8 hp ht
        · have d3 := d.2.2 w8
          have w14 := fd_W14 G ha hj
          exact d3.2.1 q ((Eb (by omega) z2 d3.1 q).mp h)
      have hsk : ∀ j p, j / 2 < fd_L g a → (fd_S g a (j / 2) = 1 ∨ fd_S g a (j / 2) = 2 ∨ (j % 2 = 1 ∧ fd_S g a (j / 2) = 3)) → (j < 12 ∧ bt (be (144 * s + (12 * a + j))) p = true) → (2 * (j / 2) + 2 < 12 ∧ bt (be (144 * s + (12 * a + (2 * (j / 2) + 2)))) p = true) := by
        intro j p hj hs' hB
        have d := (Dn s a j p (by omega) (by omega) hB.1 hB.2).2 hj
        refine ⟨by omega, d.1 ?_⟩
        rcases hs' with t | t | t
        · exact Or.inl t
        · exact Or.inr (Or.inl t)
        · exact Or.inr (Or.inr t.1)
      have h0 : 0 < 12 ∧ bt (be (144 * s + (12 * a + 0))) s = true := ⟨by omega, qI _ s r6 (by omega) hb (fun z => z) a ha rfl⟩
      have h4 : ∀ k, k < fd_L g a → fd_S g a k < 4 := fun k hk => fd_S4 G ha hk
      have fam := fs_fam (E := fq_XE g en bg) (B := fun j p => j < 12 ∧ bt (be (144 * s + (12 * a + j))) p = true) h4 h0 hsk hst
      refine ⟨fun q h => ?_, ?_⟩
      · rw [Eb r6 hs hb]
        have hB := fam.1 (fd_L g a) (Nat.le_refl _) q h
        exact (Dn s a _ q (by omega) (by omega) hB.1 hB.2).1 (by omega)
      · rw [Fb r6 hs hb]
        refine fs_famB (E := fq_XE g en bg) (F := fq_XF g fa bg) (B := fun j p => j < 12 ∧ bt (be (144 * s + (12 * a + j))) p = true) h4 h0 hsk hst (fun j p hj ho hB => ?_)
        obtain ⟨z1, z2, z3, z4, z5, z6, z7, z8⟩ := q1 s a j p (by omega) (by omega) hB.1 hB.2
        have d := (Dn s a j p (by omega) (by omega) hB.1 hB.2).2 hj
        refine ⟨fun w8 hp ht => ?_, fun w8 => ?_⟩
        · have hB2 := d.2.1 w8 hp ht
          exact (q1 s a _ (p + 1) (by omega) (by omega) (fq_nx12 l5 hB.1 hj) hB2).2.2.2.2.2.2.2
        · have d3 := d.2.2 w8
          have w14 := fd_W14 G ha hj
          rw [Fb (by omega) z2 d3.1]
          rcases d3.2.2 with x | ⟨i, hi, _⟩ | x
          · exact x
          · omega
          · exact x.elim
theorem fq_full {r s : Nat} (G : fd_G g wh sg le ru tx) (Q : fq_Q g be en fa bg td bu 0 ft 0 (fun _ _ => False) (fun _ => False) (fun _ => False)) (hr : r < 6) (hs : s ≤ fd_m g) (hb : ¬ bg (25 * r + s) = 0) :
    fb_rep (en (25 * r + s)) (fs_lE g r s) ∧ fa (25 * r + s) = nI (fs_lF g r s) := by
  have c := fq_clo G Q
  obtain ⟨q1, q2, q3, q4, qI, qU, qF, qC⟩ := Q
  have m24 := fd_m24 G
  have z3 := q3 r s hr (by omega) hb
  refine ⟨fun q hq => ⟨fun h => (q2 r s q hr (by omega) h).2.2.2.1, fun h => ?_⟩, ?_⟩
  · have := fs_lE_le c h
    unfold fq_XE at this
    rw [if_pos ⟨hr, hs, hb⟩] at this
    exact this
  · have := fs_lF_le c r s
    unfold fq_XF at this
    rw [if_pos ⟨hr, hs, hb⟩] at this
    rw [z3.2.2.2, Nat.le_antisymm z3.2.2.1 this]
end
end
section
section
variable {g : fd_Gr}
variable {f_studied f_empties f_bad f_kept f_busyCount f_fartherCount f_best f_counted f_depth f_place f_nodes f_errors f_much : Int32} {a_what a_sign a_length a_ruleOf a_text a_begins a_firsts a_been a_ends a_far a_begun a_todo a_busy a_farther a_number a_now a_then a_order a_openAlternative a_openItem a_openCame a_openNode a_nodeRule a_nodeAlternative a_nodeFrom a_nodeTo a_nodeParent a_nodeParts a_errorKind a_errorPlace a_errorItem : Nat → Int32}
variable {be en fa bg td bu ft : Nat → Int32} {bc fc : Nat} {X : Nat → Nat → Prop} {Z Zi : Nat → Prop}
theorem fq_U_lt {k : Nat} (U : fq_U be td bu bc) (hk : k < 3600) (t0 : td k = 0) : bc < 3600 := by
  have hx : ∀ i, i < bc + 1 → (if i < bc then (bu i).toNatClampNeg else k) < 3600 := by
    intro i hi
    split
    · next h =>
      obtain ⟨k, hk, e, _⟩ := U.1 i h
      rw [e, nI_clamp (by omega)]; exact hk
    · exact hk
  refine fq_pig 3600 (bc + 1) (fun i => if i < bc then (bu i).toNatClampNeg else k) hx (fun i j hij hj e => ?_)
  have e' : (if i < bc then (bu i).toNatClampNeg else k) = (if j < bc then (bu j).toNatClampNeg else k) := e
  obtain ⟨k1, hk1, e1, n1⟩ := U.1 i (by omega)
  rw [if_pos (by omega), e1, nI_clamp (by omega)] at e'
  by_cases z : j < bc
  · obtain ⟨k2, hk2, e2, _⟩ := U.1 j z
    rw [if_pos z, e2, nI_clamp (by omega)] at e'
    exact U.2.1 i j hij z (by rw [e1, e2, e'])
  · rw [if_neg z] at e'
    rw [e'] at n1
    exact n1 t0
theorem fx_reach21 {post : SX → Prop} {k0 v : Nat} {fa0 : Nat → Int32} (hk : k0 < 150) (hfc : fc ≤ 150) (hv : fq_v fa0 k0 < v) (hv2 : v < 25) (K : ∀ (fc' : Nat) (fa' ft' : Nat → Int32), fq_RE fa0 ft fc k0 v fa' ft' fc' → post (nI (fd_n g), nI (fd_m g), f_studied, f_empties, f_bad, f_kept, f_busyCount, nI fc', f_best, f_counted, f_depth, f_place, f_nodes, f_errors, f_much, a_what, a_sign, a_length, a_ruleOf, a_text, a_begins, a_firsts, a_been, a_ends, fa', a_begun, a_todo, a_busy, ft', a_number, a_now, a_then, a_order, a_openAlternative, a_openItem, a_openCame, a_openNode, a_nodeRule, a_nodeAlternative, a_nodeFrom, a_nodeTo, a_nodeParent, a_nodeParts, a_errorKind, a_errorPlace, a_errorItem)) :
    ∀ d i n, i + d = fc → d < n → (∀ j, j < i → ft j ≠ nI k0) → wX_reach_21 post (nI k0) (nI (fd_n g)) (nI (fd_m g)) f_studied f_empties f_bad f_kept f_busyCount (nI fc) f_best f_counted f_depth f_place f_nodes f_errors f_much a_what a_sign a_length a_ruleOf a_text a_begins a_firsts a_been a_ends (upd fa0 k0 (nI v)) a_begun a_todo a_busy ft a_number a_now a_then a_order a_openAlternative a_openItem a_openCame a_openNode a_nodeRule a_nodeAlternative a_nodeFrom a_nodeTo a_nodeParent a_nodeParts a_errorKind a_errorPlace a_errorItem n (nI i) := by
  intro d
  induction d with
  | zero =>
    intro i n hi hn h
    obtain ⟨n, rfl⟩ : ∃ k, n = k + 1 := ⟨n - 1, by omega⟩
    refine pk_le fc i (fun _ => ?_) (fun h => absurd h (by omega))
    refine nm_r (nI_1 fc) ⟨vp_in_nI (by omega) (by omega), ?_⟩
    refine nm_r (e' := upd ft fc (nI k0)) ?_ ?_
    · rw [nI_clamp (by omega), fb_vs2 (by omega)]
    · refine K _ _ _ (Or.inr ⟨rfl, hv, hv2, Or.inr ⟨rfl, rfl, ?_⟩⟩)
      intro ⟨j, hj, e⟩
      exact h j (by omega) e
  | succ d ih =>
    intro i n hi hn h
    obtain ⟨n, rfl⟩ : ∃ k, n = k + 1 := ⟨n - 1, by omega⟩
    refine pk_le fc i (fun h => absurd h (by omega)) (fun hl => ⟨vp_in_nI (by omega) (by omega), ?_⟩)
    have e : ft (nI i).toNatClampNeg = ft i := by rw [nI_clamp (by omega)]
    rw [e]
    refine br_c (fun z => ?_) (fun z => ?_)
    · exact K _ _ _ (Or.inr ⟨rfl, hv, hv2, Or.inl ⟨rfl, rfl, i, hl, z⟩⟩)
    · refine nm_r (nI_1 _) ?_
      refine ih (i + 1) n (by omega) (by omega) (fun j hj => ?_)
      rcases Nat.lt_or_ge j i with y | y
      · exact h j y
      · rw [show j = i from by omega]; exact z
theorem fx_reach {post : SX → Prop} {k0 v : Nat} (hk : k0 < 150) (hv2 : v < 25) (hfc : fc ≤ 150) (h25 : fq_v fa k0 < 25) (hfa : fa k0 = nI (fq_v fa k0)) (K : ∀ (fc' : Nat) (fa' ft' : Nat → Int32), fq_RE fa ft fc k0 v fa' ft' fc' → post (nI (fd_n g), nI (fd_m g), f_studied, f_empties, f_bad, f_kept, f_busyCount, nI fc', f_best, f_counted, f_depth, f_place, f_nodes, f_errors, f_much, a_what, a_sign, a_length, a_ruleOf, a_text, a_begins, a_firsts, a_been, a_ends, fa', a_begun, a_todo, a_busy, ft', a_number, a_now, a_then, a_order, a_openAlternative, a_openItem, a_openCame, a_openNode, a_nodeRule, a_nodeAlternative, a_nodeFrom, a_nodeTo, a_nodeParent, a_nodeParts, a_errorKind, a_errorPlace, a_errorItem)) :
    wpX_reach post (nI (fd_n g), nI (fd_m g), f_studied, f_empties, f_bad, f_kept, f_busyCount, nI fc, f_best, f_counted, f_depth, f_place, f_nodes, f_errors, f_much, a_what, a_sign, a_length, a_ruleOf, a_text, a_begins, a_firsts, a_been, a_ends, fa, a_begun, a_todo, a_busy, ft, a_number, a_now, a_then, a_order, a_openAlternative, a_openItem, a_openCame, a_openNode, a_nodeRule, a_nodeAlternative, a_nodeFrom, a_nodeTo, a_nodeParent, a_nodeParts, a_errorKind, a_errorPlace, a_errorItem) (nI k0) (nI v) := by
  refine ⟨vp_in_nI hk (by omega), pk_lt (fq_v fa k0) v (fun h => ⟨vp_in_nI hk (by omega), ?_⟩) (fun h => ?_) (hx := by rw [nI_clamp (by omega)]; exact hfa)⟩
  · refine nm_r (e' := upd fa k0 (nI v)) ?_ ?_
    · rw [nI_clamp (by omega), fb_vb2 (by omega)]
    · exact ⟨fc + 1, fx_reach21 hk hfc h hv2 K fc 0 (fc + 1) (by omega) (by omega) (fun j hj => by omega)⟩
  · exact K _ _ _ (Or.inl ⟨rfl, rfl, rfl, h⟩)
theorem fx_come66 {post : SX → Prop} {s a j p k bc1 : Nat} {be1 bu1 : Nat → Int32} (G : fd_G g a_what a_sign a_length a_ruleOf a_text) (hs : s < 25) (ha : a < fd_n g) (hj : j < 12) (hk : k < 3600) (hp : p < 25) (hfc : fc ≤ 150) (h25 : fq_v fa (25 * fd_R g a + s) < 25) (hfa : fa (25 * fd_R g a + s) = nI (fq_v fa (25 * fd_R g a + s)))
    (K : ∀ (fc' : Nat) (fa' ft' : Nat → Int32), fq_RE fa ft fc (25 * fd_R g a + s) p fa' ft' fc' → post (nI (fd_n g), nI (fd_m g), f_studied, f_empties, f_bad, f_kept, nI bc1, nI fc', f_best, f_counted, f_depth, f_place, f_nodes, f_errors, f_much, a_what, a_sign, a_length, a_ruleOf, a_text, a_begins, a_firsts, be1, a_ends, fa', bg, upd td k (td k ||| ((1 : Int32) <<< (nI p &&& 31))), bu1, ft', a_number, a_now, a_then, a_order, a_openAlternative, a_openItem, a_openCame, a_openNode, a_nodeRule, a_nodeAlternative, a_nodeFrom, a_nodeTo, a_nodeParent, a_nodeParts, a_errorKind, a_errorPlace, a_errorItem)) :
    wX_come_66 post (nI s) (nI (12 * a + j)) (nI p) (nI k) (nI (fd_n g)) (nI (fd_m g)) f_studied f_empties f_bad f_kept (nI bc1) (nI fc) f_best f_counted f_depth f_place f_nodes f_errors f_much a_what a_sign a_length a_ruleOf a_text a_begins a_firsts be1 a_ends fa bg td bu1 ft a_number a_now a_then a_order a_openAlternative a_openItem a_openCame a_openNode a_nodeRule a_nodeAlternative a_nodeFrom a_nodeTo a_nodeParent a_nodeParts a_errorKind a_errorPlace a_errorItem := by
  have n12 := fd_n12 G
  have r6 := fd_R6 G ha
  have e12 : nI (12 * a + j) / 12 = nI a := by
    rw [show (12 : Int32) = nI 12 from rfl, pk_div (by omega) (by omega) (by omega), show (12 * a + j) / 12 = a from by omega]
  have ek : (25 : Int32) * a_ruleOf (nI a).toNatClampNeg + nI s = nI (25 * fd_R g a + s) := by rw [fx_ru G ha, fx_25]
  refine ⟨vp_in_nI hk (by omega), vp_in_nI hk (by omega), ?_⟩
  refine nm_r (e' := upd td k (td k ||| ((1 : Int32) <<< (nI p &&& 31)))) ?_ ?_
  · rw [nI_clamp (by omega)]
  · refine ⟨by decide, ?_⟩
    rw [e12]
    refine ⟨vp_in_nI (by omega) (by omega), ?_⟩
    rw [ek]
    exact fx_reach (by omega) hp hfc h25 hfa K
theorem fx_come {post : SX → Prop} {s a j p : Nat} (G : fd_G g a_what a_sign a_length a_ruleOf a_text) (Q : fq_Q g be en fa bg td bu bc ft fc X Z Zi) (hs : s < 25) (ha : a < fd_n g) (hj : j < 12) (hjl : j / 2 ≤ fd_L g a) (ho : j % 2 = 1 → j / 2 < fd_L g a ∧ fd_S g a (j / 2) = 3)
    (hsp : s ≤ p) (hpm : p ≤ fd_m g) (hb : ¬ bg (25 * fd_R g a + s) = 0) (hP : fs_P g (fs_lE g) a j s p)
    (K : ∀ (bc' fc' : Nat) (be' fa' td' bu' ft' : Nat → Int32), fq_Q g be' en fa' bg td' bu' bc' ft' fc' X Z Zi → fq_L be en fa bg td bc fc be' en fa' bg td' bc' fc' → bt (be' (144 * s + (12 * a + j))) p = true → post (nI (fd_n g), nI (fd_m g), f_studied, f_empties, f_bad, f_kept, nI bc', nI fc', f_best, f_counted, f_depth, f_place, f_nodes, f_errors, f_much, a_what, a_sign, a_length, a_ruleOf, a_text, a_begins, a_firsts, be', a_ends, fa', bg, td', bu', ft', a_number, a_now, a_then, a_order, a_openAlternative, a_openItem, a_openCame, a_openNode, a_nodeRule, a_nodeAlternative, a_nodeFrom, a_nodeTo, a_nodeParent, a_nodeParts, a_errorKind, a_errorPlace, a_errorItem)) :
    wpX_come post (nI (fd_n g), nI (fd_m g), f_studied, f_empties, f_bad, f_kept, nI bc, nI fc, f_best, f_counted, f_depth, f_place, f_nodes, f_errors, f_much, a_what, a_sign, a_length, a_ruleOf, a_text, a_begins, a_firsts, be, a_ends, fa, bg, td, bu, ft, a_number, a_now, a_then, a_order, a_openAlternative, a_openItem, a_openCame, a_openNode, a_nodeRule, a_nodeAlternative, a_nodeFrom, a_nodeTo, a_nodeParent, a_nodeParts, a_errorKind, a_errorPlace, a_errorItem) (nI s) (nI (12 * a + j)) (nI p) := by
  have n12 := fd_n12 G
  have m24 := fd_m24 G
  have r6 := fd_R6 G ha
  have kb : 144 * s + (12 * a + j) < 3600 := by omega
  obtain ⟨z1, z2, z3, z4⟩ := Q.2.2.1 _ s r6 hs hb
  have lm := fs_lF_m (g := g) (r := fd_R g a) z1
  have hfc := fq_F_150 Q.2.2.2.2.2.2.1
  refine nm_r (e' := nI (144 * s + (12 * a + j))) ?_ ?_
  · rw [show (144 : Int32) = nI 144 from rfl, pk_mul, nI_add]
  have ec : (nI (144 * s + (12 * a + j))).toNatClampNeg = 144 * s + (12 * a + j) := nI_clamp (by omega)
  rw [ec]
  have vi : vp_in (nI (144 * s + (12 * a + j))) 3600 := vp_in_nI kb (by omega)
  refine ⟨vi, fb_br (by omega) (fun hn => ⟨vi, vi, nm_e ⟨vi, br_c (fun t0 => ?_) (fun t0 => ?_)⟩⟩) (fun hy => K _ _ _ _ _ _ _ Q fq_L_r hy)⟩
  · have hbc := fq_U_lt Q.2.2.2.2.2.1 kb t0
    refine nm_r (nI_1 bc) ⟨vp_in_nI hbc (by omega), ?_⟩
    refine nm_r (e' := upd bu bc (nI (144 * s + (12 * a + j)))) ?_ ?_
    · rw [nI_clamp (by omega), fb_vs2 (by omega)]
    · refine fx_come66 (bc1 := bc + 1) (be1 := upd be (144 * s + (12 * a + j)) (be (144 * s + (12 * a + j)) ||| ((1 : Int32) <<< (nI p &&& 31)))) (bu1 := upd bu bc (nI (144 * s + (12 * a + j)))) G hs ha hj kb (by omega) hfc (by omega) z4 (fun fc' fa' ft' h => ?_)
      obtain ⟨Q', L', b'⟩ := fq_come G Q hs ha hj hjl ho hsp hpm hb hP hn (Or.inl ⟨t0, rfl, rfl⟩) h
      exact K _ _ _ _ _ _ _ Q' L' b'
  · refine fx_come66 (bc1 := bc) (be1 := upd be (144 * s + (12 * a + j)) (be (144 * s + (12 * a + j)) ||| ((1 : Int32) <<< (nI p &&& 31)))) (bu1 := bu) G hs ha hj kb (by omega) hfc (by omega) z4 (fun fc' fa' ft' h => ?_)
    obtain ⟨Q', L', b'⟩ := fq_come G Q hs ha hj hjl ho hsp hpm hb hP hn (Or.inr ⟨t0, rfl, rfl⟩) h
    exact K _ _ _ _ _ _ _ Q' L' b'
end
end
section
section
variable {g : fd_Gr}
variable {f_studied f_empties f_bad f_kept f_busyCount f_fartherCount f_best f_counted f_depth f_place f_nodes f_errors f_much : Int32} {a_what a_sign a_length a_ruleOf a_text a_begins a_firsts a_been a_ends a_far a_begun a_todo a_busy a_farther a_number a_now a_then a_order a_openAlternative a_openItem a_openCame a_openNode a_nodeRule a_nodeAlternative a_nodeFrom a_nodeTo a_nodeParent a_nodeParts a_errorKind a_errorPlace a_errorItem : Nat → Int32}
variable {be en fa bg td bu ft : Nat → Int32} {bc fc : Nat} {X : Nat → Nat → Prop} {Z Zi : Nat → Prop}
theorem fq_nxo {a j : Nat} (h5 : fd_L g a ≤ 5) (hj : j < 12) (hk : j / 2 < fd_L g a) (ho : j % 2 = 1 → fd_S g a (j / 2) = 3) :
    fs_nx (fd_S g a (j / 2)) j < 12 ∧ fs_nx (fd_S g a (j / 2)) j / 2 ≤ fd_L g a ∧ (fs_nx (fd_S g a (j / 2)) j % 2 = 1 → fs_nx (fd_S g a (j / 2)) j / 2 < fd_L g a ∧ fd_S g a (fs_nx (fd_S g a (j / 2)) j / 2) = 3) := by
  refine ⟨fq_nx12 h5 hj hk, ?_⟩
  unfold fs_nx
  split
  · next s2 => exact ⟨by omega, fun z => ⟨hk, ho z⟩⟩
  · split
    · next s3 =>
      rw [show (2 * (j / 2) + 1) / 2 = j / 2 from by omega]
      exact ⟨by omega, fun _ => ⟨hk, s3⟩⟩
    · exact ⟨by omega, fun z => by omega⟩
theorem fs_nx_e {s j : Nat} (ho : j % 2 = 1 → s = 3) : fs_nx s (2 * (j / 2)) = fs_nx s j := by
  unfold fs_nx
  rw [show 2 * (j / 2) / 2 = j / 2 from by omega]
  split
  · next s2 =>
    rcases Nat.mod_two_eq_zero_or_one j with t | t
    · omega
    · have := ho t; omega
  · rfl
/-! begin -/
theorem fx_begin35 {post : SX → Prop} {r s : Nat} {be0 fa0 td0 : Nat → Int32} {bc0 fc0 : Nat} (G : fd_G g a_what a_sign a_length a_ruleOf a_text) (hr : r < 6) (hs : s ≤ fd_m g)
    (K : ∀ (bc' fc' : Nat) (be' fa' td' bu' ft' : Nat → Int32), fq_Q g be' en fa' bg td' bu' bc' ft' fc' X Z (fun _ => False) → fq_L be0 en fa0 bg td0 bc0 fc0 be' en fa' bg td' bc' fc' → post (nI (fd_n g), nI (fd_m g), f_studied, f_empties, f_bad, f_kept, nI bc', nI fc', f_best, f_counted, f_depth, f_place, f_nodes, f_errors, f_much, a_what, a_sign, a_length, a_ruleOf, a_text, a_begins, a_firsts, be', a_ends, fa', bg, td', bu', ft', a_number, a_now, a_then, a_order, a_openAlternative, a_openItem, a_openCame, a_openNode, a_nodeRule, a_nodeAlternative, a_nodeFrom, a_nodeTo, a_nodeParent, a_nodeParts, a_errorKind, a_errorPlace, a_errorItem)) :
    ∀ d a n bc fc be fa td bu ft, a + d = fd_n g → d < n → fq_Q g be en fa bg td bu bc ft fc X Z (fun k => k = 25 * r + s) → fq_L be0 en fa0 bg td0 bc0 fc0 be en fa bg td bc fc → ¬ bg (25 * r + s) = 0 → (∀ b, b < a → fd_R g b = r → bt (be (144 * s + (12 * b + 0))) s = true) →
      wX_begin_35 post (nI r) (nI s) n (nI a) (nI (fd_n g)) (nI (fd_m g)) f_studied f_empties f_bad f_kept (nI bc) (nI fc) f_best f_counted f_depth f_place f_nodes f_errors f_much a_what a_sign a_length a_ruleOf a_text a_begins a_firsts be a_ends fa bg td bu ft a_number a_now a_then a_order a_openAlternative a_openItem a_openCame a_openNode a_nodeRule a_nodeAlternative a_nodeFrom a_nodeTo a_nodeParent a_nodeParts a_errorKind a_errorPlace a_errorItem := by
  have n12 := fd_n12 G
  have m24 := fd_m24 G
  intro d
  induction d with
  | zero =>
    intro a n bc fc be fa td bu ft ha hn Q L hb h
    obtain ⟨n, rfl⟩ : ∃ k, n = k + 1 := ⟨n - 1, by omega⟩
    refine pk_le (fd_n g) a (fun _ => ?_) (fun h => absurd h (by omega))
    refine K _ _ _ _ _ _ _ (fq_wI Q ?_) L
    intro r' s' h1 h2 h3 _ b hb1 hb2
    by_cases e : 25 * r' + s' = 25 * r + s
    · have e1 : r' = r := by omega
      have e2 : s' = s := by omega
      subst e1 e2
      exact h b (by omega) hb2
    · exact Q.2.2.2.2.1 r' s' h1 h2 h3 e b hb1 hb2
  | succ d ih =>
    intro a n bc fc be fa td bu ft ha hn Q L hb h
    obtain ⟨n, rfl⟩ : ∃ k, n = k + 1 := ⟨n - 1, by omega⟩
    refine pk_le (fd_n g) a (fun h => absurd h (by omega)) (fun hl => ⟨vp_in_nI (by omega) (by omega), ?_⟩)
    have r6 := fd_R6 G hl
    refine pk_eq (fd_R g a) r (fun e => ?_) (fun e => ?_) (hx := fx_ru G hl)
    · have e12 : (12 : Int32) * nI a = nI (12 * a + 0) := by rw [show (12 : Int32) = nI 12 from rfl, pk_mul, Nat.add_zero]
      rw [e12]
      refine fx_come (j := 0) G Q (by omega) hl (by omega) (by omega) (fun z => by omega) (Nat.le_refl _) hs (by rw [e]; exact hb) (fs_P_0 s) (fun bc' fc' be' fa' td' bu' ft' Q' L' b' => ?_)
      refine nm_r (nI_1 _) ?_
      refine ih (a + 1) n _ _ _ _ _ _ _ (by omega) (by omega) Q' (fq_L_t L L') hb (fun b hb1 hb2 => ?_)
      rcases Nat.lt_or_ge b a with y | y
      · exact L'.1 _ _ (by omega) (h b y hb2)
      · rw [show b = a from by omega]; exact b'
    · refine nm_r (nI_1 _) ?_
      refine ih (a + 1) n _ _ _ _ _ _ _ (by omega) (by omega) Q L hb (fun b hb1 hb2 => ?_)
      rcases Nat.lt_or_ge b a with y | y
      · exact h b y hb2
      · rw [show b = a from by omega] at hb2; exact absurd hb2 e
theorem fx_begin {post : SX → Prop} {r s : Nat} (G : fd_G g a_what a_sign a_length a_ruleOf a_text) (Q : fq_Q g be en fa bg td bu bc ft fc X Z (fun _ => False)) (hr : r < 6) (hs : s ≤ fd_m g)
    (K : ∀ (bc' fc' : Nat) (be' fa' bg' td' bu' ft' : Nat → Int32), fq_Q g be' en fa' bg' td' bu' bc' ft' fc' X Z (fun _ => False) → fq_L be en fa bg td bc fc be' en fa' bg' td' bc' fc' → ¬ bg' (25 * r + s) = 0 → post (nI (fd_n g), nI (fd_m g), f_studied, f_empties, f_bad, f_kept, nI bc', nI fc', f_best, f_counted, f_depth, f_place, f_nodes, f_errors, f_much, a_what, a_sign, a_length, a_ruleOf, a_text, a_begins, a_firsts, be', a_ends, fa', bg', td', bu', ft', a_number, a_now, a_then, a_order, a_openAlternative, a_openItem, a_openCame, a_openNode, a_nodeRule, a_nodeAlternative, a_nodeFrom, a_nodeTo, a_nodeParent, a_nodeParts, a_errorKind, a_errorPlace, a_errorItem)) :
    wpX_begin post (nI (fd_n g), nI (fd_m g), f_studied, f_empties, f_bad, f_kept, nI bc, nI fc, f_best, f_counted, f_depth, f_place, f_nodes, f_errors, f_much, a_what, a_sign, a_length, a_ruleOf, a_text, a_begins, a_firsts, be, a_ends, fa, bg, td, bu, ft, a_number, a_now, a_then, a_order, a_openAlternative, a_openItem, a_openCame, a_openNode, a_nodeRule, a_nodeAlternative, a_nodeFrom, a_nodeTo, a_nodeParent, a_nodeParts, a_errorKind, a_errorPlace, a_errorItem) (nI r) (nI s) := by
  have m24 := fd_m24 G
  refine nm_r (fx_25 r s) ?_
  have ec : (nI (25 * r + s)).toNatClampNeg = 25 * r + s := nI_clamp (by omega)
  rw [ec]
  have vi : vp_in (nI (25 * r + s)) 150 := vp_in_nI (by omega) (by omega)
  refine ⟨vi, br_c (fun hb => ?_) (fun hb => K _ _ _ _ _ _ _ _ Q fq_L_r hb)⟩
  obtain ⟨Q1, L1⟩ := fq_begin G Q hr hs hb
  refine ⟨vi, nm_r (e' := upd bg (25 * r + s) 1) rfl ⟨vi, nm_r (e' := upd fa (25 * r + s) (nI s)) ?_ ?_⟩⟩
  · rw [fb_vb2 (by omega)]
  · have h1 : ¬ upd bg (25 * r + s) 1 (25 * r + s) = 0 := by rw [pk_us]; decide
    exact ⟨fd_n g + 1, fx_begin35 G hr hs (fun bc' fc' be' fa' td' bu' ft' Q' L' => K _ _ _ _ _ _ _ _ Q' (fq_L_t L1 L') h1) (fd_n g) 0 (fd_n g + 1) _ _ _ _ _ _ _ (by omega) (by omega) Q1 fq_L_r h1 (fun b hb => by omega)⟩
/-! finish -/
theorem fx_fin116 {post : SX → Prop} {J39 : Int32 → Int32 → Int32 → Int32 → Int32 → Int32 → Int32 → Int32 → Int32 → Int32 → Int32 → Int32 → Int32 → Int32 → Int32 → Int32 → (Nat → Int32) → (Nat → Int32) → (Nat → Int32) → (Nat → Int32) → (Nat → Int32) → (Nat → Int32) → (Nat → Int32) → (Nat → Int32) → (Nat → Int32) → (Nat → Int32) → (Nat → Int32) → (Nat → Int32) → (Nat → Int32) → (Nat → Int32) → (Nat → Int32) → (Nat → Int32) → (Nat → Int32) → (Nat → Int32) → (Nat → Int32) → (Nat → Int32) → (Nat → Int32) → (Nat → Int32) → (Nat → Int32) → (Nat → Int32) → (Nat → Int32) → (Nat → Int32) → (Nat → Int32) → (Nat → Int32) → (Nat → Int32) → (Nat → Int32) → (Nat → Int32) → Prop} {r s e a k : Nat} {be0 fa0 td0 : Nat → Int32} {bc0 fc0 : Nat} (G : fd_G g a_what a_sign a_length a_ruleOf a_text) (hr : r < 6) (hs : s ≤ fd_m g) (hse : s ≤ e) (hem : e ≤ fd_m g) (hE : fs_lE g r s e) (ha : a < fd_n g) (hk : k < fd_L g a) (hw : fd_W g a k = r + 8)
    (K : ∀ (bc' fc' : Nat) (be' fa' td' bu' ft' : Nat → Int32), fq_Q g be' en fa' bg td' bu' bc' ft' fc' X Z Zi → fq_L be0 en fa0 bg td0 bc0 fc0 be' en fa' bg td' bc' fc' →
      (∀ q j, q ≤ s → j < 12 → j / 2 = k → bt (be0 (144 * q + (12 * a + j))) s = true → bt (be' (144 * q + (12 * a + fs_nx (fd_S g a k) (2 * k)))) e = true) → J39 (nI (5 * a + k + 1)) (nI (fd_n g)) (nI (fd_m g)) f_studied f_empties f_bad f_kept (nI bc') (nI fc') f_best f_counted f_depth f_place f_nodes f_errors f_much a_what a_sign a_length a_ruleOf a_text a_begins a_firsts be' a_ends fa' bg td' bu' ft' a_number a_now a_then a_order a_openAlternative a_openItem a_openCame a_openNode a_nodeRule a_nodeAlternative a_nodeFrom a_nodeTo a_nodeParent a_nodeParts a_errorKind a_errorPlace a_errorItem) :
    ∀ d q n bc fc be fa td bu ft, q + d = s + 1 → d < n → fq_Q g be en fa bg td bu bc ft fc X Z Zi → fq_L be0 en fa0 bg td0 bc0 fc0 be en fa bg td bc fc →
      (∀ q' j, q' < q → j < 12 → j / 2 = k → bt (be0 (144 * q' + (12 * a + j))) s = true → bt (be (144 * q' + (12 * a + fs_nx (fd_S g a k) (2 * k)))) e = true) →
      wX_finish_116 post J39 (nI r) (nI s) (nI e) (nI (5 * a + k)) (nI (12 * a + 2 * k)) (nI (12 * a + fs_nx (fd_S g a k) (2 * k))) n (nI q) (nI (fd_n g)) (nI (fd_m g)) f_studied f_empties f_bad f_kept (nI bc) (nI fc) f_best f_counted f_depth f_place f_nodes f_errors f_much a_what a_sign a_length a_ruleOf a_text a_begins a_firsts be a_ends fa bg td bu ft a_number a_now a_then a_order a_openAlternative a_openItem a_openCame a_openNode a_nodeRule a_nodeAlternative a_nodeFrom a_nodeTo a_nodeParent a_nodeParts a_errorKind a_errorPlace a_errorItem := by
  have n12 := fd_n12 G
  have m24 := fd_m24 G
  have l5 := fd_L5 G ha
  have s4 := fd_S4 G ha hk
  intro d
  induction d with
  | zero =>
    intro q n bc fc be fa td bu ft hq hn Q L h
    obtain ⟨n, rfl⟩ : ∃ k, n = k + 1 := ⟨n - 1, by omega⟩
    refine pk_lt s q (fun _ => ?_) (fun h => absurd h (by omega))
    exact nm_r (nI_1 _) (K _ _ _ _ _ _ _ Q L (fun q' j h1 => h q' j (by omega)))
  | succ d ih =>
    intro q n bc fc be fa td bu ft hq hn Q L h
    obtain ⟨n, rfl⟩ : ∃ k, n = k + 1 := ⟨n - 1, by omega⟩
    refine pk_lt s q (fun h => absurd h (by omega)) (fun hl => ?_)
    have e1 : (144 : Int32) * nI q + nI (12 * a + 2 * k) = nI (144 * q + (12 * a + 2 * k)) := by rw [show (144 : Int32) = nI 144 from rfl, pk_mul, nI_add]
    rw [e1, nI_1]
    refine ⟨vp_in_nI (by omega) (by omega), vp_in_nI (by omega) (by omega), ?_⟩
    rw [nI_clamp (by omega), nI_clamp (by omega)]
    refine fb_br (by omega) (fun hb => ?_) (fun hb => ?_)
    · refine br_t rfl (nm_r (nI_1 _) ?_)
      rw [b_or, Bool.or_eq_false_iff] at hb
      refine ih (q + 1) n _ _ _ _ _ _ _ (by omega) (by omega) Q L (fun q' j h1 h2 h3 h4 => ?_)
      rcases Nat.lt_or_ge q' q with y | y
      · exact h q' j y h2 h3 h4
      · have eq : q' = q := by omega
        subst eq
        have h4' := L.1 _ _ (by omega) h4
        rcases (by omega : j = 2 * k ∨ j = 2 * k + 1) with t | t
        · rw [t, hb.1] at h4'; exact absurd h4' (by decide)
        · rw [t, show 144 * q' + (12 * a + (2 * k + 1)) = 144 * q' + (12 * a + 2 * k) + 1 from by omega, hb.2] at h4'; exact absurd h4' (by decide)
    · refine br_f (by decide) ?_
      rw [b_or, Bool.or_eq_true] at hb
      have hx : ∃ j, j < 12 ∧ j / 2 = k ∧ bt (be (144 * q + (12 * a + j))) s = true := by
        rcases hb with t | t
        · exact ⟨2 * k, by omega, by omega, t⟩
        · exact ⟨2 * k + 1, by omega, by omega, by rw [show 144 * q + (12 * a + (2 * k + 1)) = 144 * q + (12 * a + 2 * k) + 1 from by omega]; exact t⟩
      obtain ⟨j, hj, hjk, hB⟩ := hx
      obtain ⟨z1, z2, z3, z4, z5, z6, z7, z8⟩ := Q.1 q a j s (by omega) (by omega) hj hB
      have o3 : j % 2 = 1 → fd_S g a (j / 2) = 3 := fun t => (z5 t).2
      have nxe := fs_nx_e o3
      rw [hjk] at nxe
      obtain ⟨x1, x2, x3⟩ := fq_nxo l5 hj (by rw [hjk]; exact hk) o3
      have P := fs_P_step (by rw [hjk]; exact hk) (by rw [hjk]; exact s4) o3 z7 (q := e) (Or.inr ⟨by rw [hjk]; omega, by rw [hjk, hw, show r + 8 - 8 = r from by omega]; exact hE⟩)
      rw [hjk] at x1 x2 x3 P
      rw [← nxe] at x1 x2 x3 P
      refine fx_come G Q (by omega) ha x1 x2 x3 (by omega) hem z6 P (fun bc' fc' be' fa' td' bu' ft' Q' L' b' => ?_)
      refine nm_r (nI_1 _) ?_
      refine ih (q + 1) n _ _ _ _ _ _ _ (by omega) (by omega) Q' (fq_L_t L L') (fun q' j h1 h2 h3 h4 => ?_)
      rcases Nat.lt_or_ge q' q with y | y
      · exact L'.1 _ _ (by omega) (h q' j y h2 h3 h4)
      · rw [show q' = q from by omega]; exact b'
theorem fx_fin39 {post : SX → Prop} {r s e : Nat} {be0 fa0 td0 : Nat → Int32} {bc0 fc0 : Nat} (G : fd_G g a_what a_sign a_length a_ruleOf a_text) (hr : r < 6) (hs : s ≤ fd_m g) (hse : s ≤ e) (hem : e ≤ fd_m g) (hE : fs_lE g r s e)
    (K : ∀ (bc' fc' : Nat) (be' fa' td' bu' ft' : Nat → Int32), fq_Q g be' en fa' bg td' bu' bc' ft' fc' X Z Zi → fq_L be0 en fa0 bg td0 bc0 fc0 be' en fa' bg td' bc' fc' →
      (∀ q a j, q ≤ s → a < fd_n g → j < 12 → j / 2 < fd_L g a → fd_W g a (j / 2) = r + 8 → bt (be0 (144 * q + (12 * a + j))) s = true → bt (be' (144 * q + (12 * a + fs_nx (fd_S g a (j / 2)) (2 * (j / 2))))) e = true) → post (nI (fd_n g), nI (fd_m g), f_studied, f_empties, f_bad, f_kept, nI bc', nI fc', f_best, f_counted, f_depth, f_place, f_nodes, f_errors, f_much, a_what, a_sign, a_length, a_ruleOf, a_text, a_begins, a_firsts, be', a_ends, fa', bg, td', bu', ft', a_number, a_now, a_then, a_order, a_openAlternative, a_openItem, a_openCame, a_openNode, a_nodeRule, a_nodeAlternative, a_nodeFrom, a_nodeTo, a_nodeParent, a_nodeParts, a_errorKind, a_errorPlace, a_errorItem)) :
    ∀ d c n bc fc be fa td bu ft, c + d = 5 * fd_n g → d < n → fq_Q g be en fa bg td bu bc ft fc X Z Zi → fq_L be0 en fa0 bg td0 bc0 fc0 be en fa bg td bc fc →
      (∀ q a j, 5 * a + j / 2 < c → q ≤ s → a < fd_n g → j < 12 → j / 2 < fd_L g a → fd_W g a (j / 2) = r + 8 → bt (be0 (144 * q + (12 * a + j))) s = true → bt (be (144 * q + (12 * a + fs_nx (fd_S g a (j / 2)) (2 * (j / 2))))) e = true) →
      wX_finish_39 post (nI r) (nI s) (nI e) n (nI c) (nI (fd_n g)) (nI (fd_m g)) f_studied f_empties f_bad f_kept (nI bc) (nI fc) f_best f_counted f_depth f_place f_nodes f_errors f_much a_what a_sign a_length a_ruleOf a_text a_begins a_firsts be a_ends fa bg td bu ft a_number a_now a_then a_order a_openAlternative a_openItem a_openCame a_openNode a_nodeRule a_nodeAlternative a_nodeFrom a_nodeTo a_nodeParent a_nodeParts a_errorKind a_errorPlace a_errorItem := by
  have n12 := fd_n12 G
  have m24 := fd_m24 G
  intro d
  induction d with
  | zero =>
    intro c n bc fc be fa td bu ft hc hn Q L h
    obtain ⟨n, rfl⟩ : ∃ k, n = k + 1 := ⟨n - 1, by omega⟩
    refine pk_le (5 * fd_n g) c (fun _ => ?_) (fun h => absurd h (by omega)) (hx := fx_5' _)
    refine K _ _ _ _ _ _ _ Q L (fun q a j h1 h2 h3 h4 h5 h6 => h q a j ?_ h1 h2 h3 h4 h5 h6)
    have := fd_L5 G h2
    omega
  | succ d ih =>
    intro c n bc fc be fa td bu ft hc hn Q L h
    obtain ⟨n, rfl⟩ : ∃ k, n = k + 1 := ⟨n - 1, by omega⟩
    refine pk_le (5 * fd_n g) c (fun h => absurd h (by omega)) (fun hl => ⟨vp_in_nI (by omega) (by omega), ?_⟩) (hx := fx_5' _)
    have hc5 : c / 5 < fd_n g := by omega
    have l5 := fd_L5 G hc5
    have ec : c = 5 * (c / 5) + c % 5 := by omega
    have skip : (c % 5 < fd_L g (c / 5) → fd_W g (c / 5) (c % 5) ≠ r + 8) → wX_finish_39 post (nI r) (nI s) (nI e) n (nI (c + 1)) (nI (fd_n g)) (nI (fd_m g)) f_studied f_empties f_bad f_kept (nI bc) (nI fc) f_best f_counted f_depth f_place f_nodes f_errors f_much a_what a_sign a_length a_ruleOf a_text a_begins a_firsts be a_ends fa bg td bu ft a_number a_now a_then a_order a_openAlternative a_openItem a_openCame a_openNode a_nodeRule a_nodeAlternative a_nodeFrom a_nodeTo a_nodeParent a_nodeParts a_errorKind a_errorPlace a_errorItem := by
      intro z
      refine ih (c + 1) n _ _ _ _ _ _ _ (by omega) (by omega) Q L (fun q a j h0 h1 h2 h3 h4 h5 h6 => ?_)
      rcases Nat.lt_or_ge (5 * a + j / 2) c with y | y
      · exact h q a j y h1 h2 h3 h4 h5 h6
      · have := fd_L5 G h2
        have e1 : a = c / 5 := by omega
        have e2 : j / 2 = c % 5 := by omega
        rw [e2, e1] at h4 h5
        exact absurd h5 (z h4)
    have ew : a_what (nI c).toNatClampNeg = a_what c := by rw [nI_clamp (by omega)]
    rw [ew]
    refine br_c (fun hw => ?_) (fun hw => ?_)
    · have d5 : nI c / 5 = nI (c / 5) := by rw [show (5 : Int32) = nI 5 from rfl, pk_div (by omega) (by omega) (by omega)]
      have r5 : nI c - nI c / 5 * 5 = nI (c % 5) := by rw [show (5 : Int32) = nI 5 from rfl]; exact pk_rem (by omega) (by omega) (by omega)
      refine ⟨by decide, by decide, ?_⟩
      rw [r5, d5]
      refine ⟨vp_in_nI (by omega) (by omega), pk_lt (c % 5) (fd_L g (c / 5)) (fun hv => ?_) (fun hv => ?_) (hy := fx_le G hc5)⟩
      · refine ⟨by decide, by decide, ?_⟩
        have w14 := fd_W14 G hc5 hv
        have wv : fd_W g (c / 5) (c % 5) = r + 8 := by
          have := fd_wh G hc5 hv
          rw [← ec, hw, show (8 : Int32) = nI 8 from rfl, nI_add] at this
          exact ((nI_eq (by omega) (by omega)).mp this).symm
        have s4 := fd_S4 G hc5 hv
        refine nm_r (e' := nI (12 * (c / 5) + 2 * (c % 5))) ?_ ⟨vp_in_nI (by omega) (by omega), ?_⟩
        · rw [show (12 : Int32) = nI 12 from rfl, show (2 : Int32) = nI 2 from rfl, pk_mul, pk_mul, nI_add]
        · have es : a_sign (nI c).toNatClampNeg = nI (fd_S g (c / 5) (c % 5)) := by rw [nI_clamp (by omega)]; have := fd_sg G hc5 hv; rw [← ec] at this; exact this
          rw [es]
          refine fx_next (by omega) (by omega) s4 ⟨s + 2, ?_⟩
          have key := fx_fin116 (post := post) (J39 := wX_finish_39 post (nI r) (nI s) (nI e) n) (en := en) (X := X) (Z := Z) (Zi := Zi) (be0 := be) (fa0 := fa) (td0 := td) (bc0 := bc) (fc0 := fc) (a := c / 5) (k := c % 5) G hr hs hse hem hE hc5 hv wv
            (fun bc' fc' be' fa' td' bu' ft' Q' L' b' => by
              rw [← ec]
              refine ih (c + 1) n _ _ _ _ _ _ _ (by omega) (by omega) Q' (fq_L_t L L') (fun q a j h0 h1 h2 h3 h4 h5 h6 => ?_)
              rcases Nat.lt_or_ge (5 * a + j / 2) c with y | y
              · have := fd_L5 G h2
                have x := fq_nx12 this h3 h4
                have x' : fs_nx (fd_S g a (j / 2)) (2 * (j / 2)) < 12 := by
                  have := fq_nx12 (j := 2 * (j / 2)) this (by omega) (by omega)
                  rw [show 2 * (j / 2) / 2 = j / 2 from by omega] at this
                  exact this
                exact L'.1 _ _ (by omega) (h q a j y h1 h2 h3 h4 h5 h6)
              · have := fd_L5 G h2
                have e1 : a = c / 5 := by omega
                have e2 : j / 2 = c % 5 := by omega
                rw [e2, e1]
                rw [e1] at h6
                exact b' q j h1 h3 e2 (L.1 _ _ (by omega) h6))
            (s + 1) 0 (s + 2) bc fc be fa td bu ft (by omega) (by omega) Q fq_L_r (fun q' j h1 => by omega)
          rw [← ec] at key
          exact key
      · exact nm_r (nI_1 _) (skip (fun z => absurd z (by omega)))
    · refine nm_r (nI_1 _) (skip (fun z y => ?_))
      apply hw
      have := fd_wh G hc5 z
      rw [← ec] at this
      rw [this, y, show (8 : Int32) = nI 8 from rfl, nI_add]
theorem fx_finish {post : SX → Prop} {r s e : Nat} (G : fd_G g a_what a_sign a_length a_ruleOf a_text) (Q : fq_Q g be en fa bg td bu bc ft fc X Z Zi) (hr : r < 6) (hs : s ≤ fd_m g) (hse : s ≤ e) (hem : e ≤ fd_m g) (hE : fs_lE g r s e) (hb : ¬ bg (25 * r + s) = 0) (hv : e ≤ fq_v fa (25 * r + s))
    (K : ∀ (bc' fc' : Nat) (be' en' fa' td' bu' ft' : Nat → Int32), fq_Q g be' en' fa' bg td' bu' bc' ft' fc' X Z Zi → fq_L be en fa bg td bc fc be' en' fa' bg td' bc' fc' → bt (en' (25 * r + s)) e = true → post (nI (fd_n g), nI (fd_m g), f_studied, f_empties, f_bad, f_kept, nI bc', nI fc', f_best, f_counted, f_depth, f_place, f_nodes, f_errors, f_much, a_what, a_sign, a_length, a_ruleOf, a_text, a_begins, a_firsts, be', en', fa', bg, td', bu', ft', a_number, a_now, a_then, a_order, a_openAlternative, a_openItem, a_openCame, a_openNode, a_nodeRule, a_nodeAlternative, a_nodeFrom, a_nodeTo, a_nodeParent, a_nodeParts, a_errorKind, a_errorPlace, a_errorItem)) :
    wpX_finish post (nI (fd_n g), nI (fd_m g), f_studied, f_empties, f_bad, f_kept, nI bc, nI fc, f_best, f_counted, f_depth, f_place, f_nodes, f_errors, f_much, a_what, a_sign, a_length, a_ruleOf, a_text, a_begins, a_firsts, be, en, fa, bg, td, bu, ft, a_number, a_now, a_then, a_order, a_openAlternative, a_openItem, a_openCame, a_openNode, a_nodeRule, a_nodeAlternative, a_nodeFrom, a_nodeTo, a_nodeParent, a_nodeParts, a_errorKind, a_errorPlace, a_errorItem) (nI r) (nI s) (nI e) := by
  have m24 := fd_m24 G
  refine nm_r (fx_25 r s) ?_
  have ec : (nI (25 * r + s)).toNatClampNeg = 25 * r + s := nI_clamp (by omega)
  rw [ec]
  have vi : vp_in (nI (25 * r + s)) 150 := vp_in_nI (by omega) (by omega)
  refine ⟨vi, fb_br (by omega) (fun hn => ⟨vi, vi, nm_e ⟨5 * fd_n g + 1, ?_⟩⟩) (fun hy => K _ _ _ _ _ _ _ _ Q fq_L_r hy)⟩
  refine fx_fin39 (en := en) (be0 := be) (fa0 := fa) (td0 := td) (bc0 := bc) (fc0 := fc) (a_ends := upd en (25 * r + s) (en (25 * r + s) ||| ((1 : Int32) <<< (nI e &&& 31)))) G hr hs hse hem hE (fun bc' fc' be' fa' td' bu' ft' Q' L' b' => ?_) (5 * fd_n g) 0 _ _ _ _ _ _ _ _ (by omega) (by omega) Q fq_L_r (fun q a j h => by omega)
  obtain ⟨Q2, h2⟩ := fq_fin G Q' hr (by omega) hb hse hem hE (Nat.le_trans hv (L'.2.2.1 _ (by omega))) L'.2.2.2.2.2.1 b'
  refine K _ _ _ _ _ _ _ _ Q2 ⟨L'.1, fun i p _ z => (fq_bit (by omega)).mpr (Or.inl z), L'.2.2⟩ h2
end
end
section
section
variable {g : fd_Gr}
variable {f_studied f_empties f_bad f_kept f_busyCount f_fartherCount f_best f_counted f_depth f_place f_nodes f_errors f_much : Int32} {a_what a_sign a_length a_ruleOf a_text a_begins a_firsts a_been a_ends a_far a_begun a_todo a_busy a_farther a_number a_now a_then a_order a_openAlternative a_openItem a_openCame a_openNode a_nodeRule a_nodeAlternative a_nodeFrom a_nodeTo a_nodeParent a_nodeParts a_errorKind a_errorPlace a_errorItem : Nat → Int32}
variable {be en fa bg td bu ft : Nat → Int32} {bc fc : Nat} {X : Nat → Nat → Prop} {Z Zi : Nat → Prop}
/-! act: the ends that are known already -/
theorem fx_act168 {post : SX → Prop} {s a j p : Nat} {be0 fa0 td0 : Nat → Int32} {bc0 fc0 : Nat} (G : fd_G g a_what a_sign a_length a_ruleOf a_text) (hs : s ≤ fd_m g) (ha : a < fd_n g) (hj : j < 12) (hk : j / 2 < fd_L g a) (hw : 8 ≤ fd_W g a (j / 2)) (hp : p ≤ fd_m g)
    (hg : ¬ bg (25 * (fd_W g a (j / 2) - 8) + p) = 0)
    (K : ∀ (bc' fc' : Nat) (be' fa' td' bu' ft' : Nat → Int32), fq_Q g be' en fa' bg td' bu' bc' ft' fc' X Z Zi → fq_L be0 en fa0 bg td0 bc0 fc0 be' en fa' bg td' bc' fc' →
      (∀ e, bt (en (25 * (fd_W g a (j / 2) - 8) + p)) e = true → bt (be' (144 * s + (12 * a + fs_nx (fd_S g a (j / 2)) j))) e = true) →
      fq_v fa' (25 * (fd_W g a (j / 2) - 8) + p) ≤ fq_v fa' (25 * fd_R g a + s) → post (nI (fd_n g), nI (fd_m g), f_studied, f_empties, f_bad, f_kept, nI bc', nI fc', f_best, f_counted, f_depth, f_place, f_nodes, f_errors, f_much, a_what, a_sign, a_length, a_ruleOf, a_text, a_begins, a_firsts, be', en, fa', bg, td', bu', ft', a_number, a_now, a_then, a_order, a_openAlternative, a_openItem, a_openCame, a_openNode, a_nodeRule, a_nodeAlternative, a_nodeFrom, a_nodeTo, a_nodeParent, a_nodeParts, a_errorKind, a_errorPlace, a_errorItem)) :
    ∀ d e n bc fc be fa td bu ft, e + d = fd_m g + 1 → p ≤ e → d < n → fq_Q g be en fa bg td bu bc ft fc X Z Zi → fq_L be0 en fa0 bg td0 bc0 fc0 be en fa bg td bc fc → bt (be (144 * s + (12 * a + j))) p = true →
      (∀ e', e' < e → bt (en (25 * (fd_W g a (j / 2) - 8) + p)) e' = true → bt (be (144 * s + (12 * a + fs_nx (fd_S g a (j / 2)) j))) e' = true) →
      wX_act_168 post (nI s) (nI a) (nI (12 * a + fs_nx (fd_S g a (j / 2)) j)) (nI (25 * (fd_W g a (j / 2) - 8) + p)) n (nI e) (nI (fd_n g)) (nI (fd_m g)) f_studied f_empties f_bad f_kept (nI bc) (nI fc) f_best f_counted f_depth f_place f_nodes f_errors f_much a_what a_sign a_length a_ruleOf a_text a_begins a_firsts be en fa bg td bu ft a_number a_now a_then a_order a_openAlternative a_openItem a_openCame a_openNode a_nodeRule a_nodeAlternative a_nodeFrom a_nodeTo a_nodeParent a_nodeParts a_errorKind a_errorPlace a_errorItem := by
  have n12 := fd_n12 G
  have m24 := fd_m24 G
  have l5 := fd_L5 G ha
  have s4 := fd_S4 G ha hk
  have w14 := fd_W14 G ha hk
  have r6 := fd_R6 G ha
  intro d
  induction d with
  | zero =>
    intro e n bc fc be fa td bu ft he hpe hn Q L hB h
    obtain ⟨n, rfl⟩ : ∃ k, n = k + 1 := ⟨n - 1, by omega⟩
    refine pk_lt (fd_m g) e (fun _ => ?_) (fun h => absurd h (by omega))
    refine ⟨vp_in_nI (by omega) (by omega), vp_in_nI (by omega) (by omega), ?_⟩
    obtain ⟨z1, z2, z3, z4, z5, z6, z7, z8⟩ := Q.1 s a j p (by omega) (by omega) hj hB
    obtain ⟨y1, y2, y3, y4⟩ := Q.2.2.1 (fd_W g a (j / 2) - 8) p (by omega) (by omega) hg
    obtain ⟨x1, x2, x3, x4⟩ := Q.2.2.1 (fd_R g a) s r6 (by omega) z6
    have ct := (fs_P_ct (fs_least g) ha hs hk s4 (fun t => (z5 t).2) z7).2 hw
    have lm := fs_lF_m (g := g) (r := fd_R g a) hs
    have lm2 := fs_lF_m (g := g) (r := fd_W g a (j / 2) - 8) hp
    have e1 : (25 : Int32) * a_ruleOf (nI a).toNatClampNeg + nI s = nI (25 * fd_R g a + s) := by rw [fx_ru G ha, fx_25]
    have e2 : fa (nI (25 * (fd_W g a (j / 2) - 8) + p)).toNatClampNeg = nI (fq_v fa (25 * (fd_W g a (j / 2) - 8) + p)) := by rw [nI_clamp (by omega)]; exact y4
    rw [e1, e2]
    refine fx_reach (by omega) (by omega) (fq_F_150 Q.2.2.2.2.2.2.1) (by omega) x4 (fun fc' fa' ft' hre => ?_)
    obtain ⟨Q', L'⟩ := fq_reach G Q r6 (by omega) z6 (by omega) hre
    obtain ⟨v1, v2, v3, v4, v5⟩ := fq_RE_v hre
    refine K _ _ _ _ _ _ _ Q' (fq_L_t L L') (fun e' he' => h e' ?_ he') ?_
    · have := (Q.2.1 _ p e' (by omega) (by omega) he').2.2.1
      omega
    · by_cases c : 25 * (fd_W g a (j / 2) - 8) + p = 25 * fd_R g a + s
      · rw [c]; exact Nat.le_refl _
      · have : fq_v fa' (25 * (fd_W g a (j / 2) - 8) + p) = fq_v fa (25 * (fd_W g a (j / 2) - 8) + p) := by unfold fq_v; rw [v3 _ c]
        rw [this]; exact v2
  | succ d ih =>
    intro e n bc fc be fa td bu ft he hpe hn Q L hB h
    obtain ⟨n, rfl⟩ : ∃ k, n = k + 1 := ⟨n - 1, by omega⟩
    refine pk_lt (fd_m g) e (fun h => absurd h (by omega)) (fun hl => ⟨vp_in_nI (by omega) (by omega), ?_⟩)
    rw [show (nI (25 * (fd_W g a (j / 2) - 8) + p)).toNatClampNeg = 25 * (fd_W g a (j / 2) - 8) + p from nI_clamp (by omega)]
    refine fb_br (by omega) (fun hb => ?_) (fun hb => ?_)
    · refine nm_r (nI_1 _) ?_
      refine ih (e + 1) n _ _ _ _ _ _ _ (by omega) (by omega) (by omega) Q L hB (fun e' h1 h2 => ?_)
      rcases Nat.lt_or_ge e' e with y | y
      · exact h e' y h2
      · rw [show e' = e from by omega, hb] at h2; exact absurd h2 (by decide)
    · obtain ⟨z1, z2, z3, z4, z5, z6, z7, z8⟩ := Q.1 s a j p (by omega) (by omega) hj hB
      have o3 : j % 2 = 1 → fd_S g a (j / 2) = 3 := fun t => (z5 t).2
      obtain ⟨x1, x2, x3⟩ := fq_nxo l5 hj hk o3
      obtain ⟨y1, y2, y3, y4, y5⟩ := Q.2.1 _ p e (by omega) (by omega) hb
      have P := fs_P_step hk s4 o3 z7 (q := e) (Or.inr ⟨hw, y4⟩)
      refine fx_come G Q (by omega) ha x1 x2 x3 (by omega) (by omega) z6 P (fun bc' fc' be' fa' td' bu' ft' Q' L' b' => ?_)
      refine nm_r (nI_1 _) ?_
      refine ih (e + 1) n _ _ _ _ _ _ _ (by omega) (by omega) (by omega) Q' (fq_L_t L L') (L'.1 _ _ (by omega) hB) (fun e' h1 h2 => ?_)
      rcases Nat.lt_or_ge e' e with y | y
      · exact L'.1 _ _ (by omega) (h e' y h2)
      · rw [show e' = e from by omega]; exact b'
theorem fx_act89 {post : SX → Prop} {s a j p : Nat} (G : fd_G g a_what a_sign a_length a_ruleOf a_text) (Q : fq_Q g be en fa bg td bu bc ft fc X Z (fun _ => False)) (hs : s ≤ fd_m g) (ha : a < fd_n g) (hj : j < 12) (hk : j / 2 < fd_L g a) (hB : bt (be (144 * s + (12 * a + j))) p = true)
    (K : ∀ (bc' fc' : Nat) (be' fa' bg' td' bu' ft' : Nat → Int32), fq_Q g be' en fa' bg' td' bu' bc' ft' fc' X Z (fun _ => False) → fq_L be en fa bg td bc fc be' en fa' bg' td' bc' fc' →
      (fd_W g a (j / 2) < 8 → p < fd_m g → fd_T g p = fd_W g a (j / 2) → bt (be' (144 * s + (12 * a + fs_nx (fd_S g a (j / 2)) j))) (p + 1) = true) →
      (8 ≤ fd_W g a (j / 2) → ¬ bg' (25 * (fd_W g a (j / 2) - 8) + p) = 0 ∧ (∀ e, bt (en (25 * (fd_W g a (j / 2) - 8) + p)) e = true → bt (be' (144 * s + (12 * a + fs_nx (fd_S g a (j / 2)) j))) e = true) ∧
        fq_v fa' (25 * (fd_W g a (j / 2) - 8) + p) ≤ fq_v fa' (25 * fd_R g a + s)) → post (nI (fd_n g), nI (fd_m g), f_studied, f_empties, f_bad, f_kept, nI bc', nI fc', f_best, f_counted, f_depth, f_place, f_nodes, f_errors, f_much, a_what, a_sign, a_length, a_ruleOf, a_text, a_begins, a_firsts, be', en, fa', bg', td', bu', ft', a_number, a_now, a_then, a_order, a_openAlternative, a_openItem, a_openCame, a_openNode, a_nodeRule, a_nodeAlternative, a_nodeFrom, a_nodeTo, a_nodeParent, a_nodeParts, a_errorKind, a_errorPlace, a_errorItem)) :
    wX_act_89 post (nI s) (nI (12 * a + j)) (nI p) (nI a) (nI (5 * a + j / 2)) (nI (fd_S g a (j / 2))) (nI (fd_n g)) (nI (fd_m g)) f_studied f_empties f_bad f_kept (nI bc) (nI fc) f_best f_counted f_depth f_place f_nodes f_errors f_much a_what a_sign a_length a_ruleOf a_text a_begins a_firsts be en fa bg td bu ft a_number a_now a_then a_order a_openAlternative a_openItem a_openCame a_openNode a_nodeRule a_nodeAlternative a_nodeFrom a_nodeTo a_nodeParent a_nodeParts a_errorKind a_errorPlace a_errorItem := by
  have n12 := fd_n12 G
  have m24 := fd_m24 G
  have l5 := fd_L5 G ha
  have s4 := fd_S4 G ha hk
  have w14 := fd_W14 G ha hk
  obtain ⟨z1, z2, z3, z4, z5, z6, z7, z8⟩ := Q.1 s a j p (by omega) (by omega) hj hB
  have o3 : j % 2 = 1 → fd_S g a (j / 2) = 3 := fun t => (z5 t).2
  obtain ⟨x1, x2, x3⟩ := fq_nxo l5 hj hk o3
  refine ⟨fx_in G ha hk, nm_r (fx_wh G ha hk) ?_⟩
  refine fx_next (by omega) hj s4 ?_
  refine pk_le 8 (fd_W g a (j / 2)) (fun hw => ?_) (fun hw => ?_)
  · rw [fx_m8 hw]
    refine nm_r (fx_25 _ p) ?_
    refine fx_begin (a_ends := en) G Q (by omega) z2 (fun bc' fc' be' fa' bg' td' bu' ft' Q' L' hg => ?_)
    refine ⟨fd_m g + 2, ?_⟩
    refine fx_act168 (be0 := be') (fa0 := fa') (td0 := td') (bc0 := bc') (fc0 := fc') G hs ha hj hk hw z2 hg (fun bc2 fc2 be2 fa2 td2 bu2 ft2 Q2 L2 he hf => ?_) (fd_m g + 1 - p) p (fd_m g + 2) _ _ _ _ _ _ _ (by omega) (Nat.le_refl _) (by omega) Q' fq_L_r (L'.1 _ _ (by omega) hB) (fun e' h1 h2 => ?_)
    · exact K _ _ _ _ _ _ _ _ Q2 (fq_L_t L' L2) (fun z => by omega) (fun _ => ⟨hg, he, hf⟩)
    · have := (Q'.2.1 _ p e' (by omega) (by omega) h2).2.1
      omega
  · have kc : fd_W g a (j / 2) < 8 := hw
    refine pk_le (fd_m g) p (fun hp => ?_) (fun hp => ⟨vp_in_nI (by omega) (by omega), ?_⟩)
    · exact K _ _ _ _ _ _ _ _ Q fq_L_r (fun _ z => by omega) (fun z => by omega)
    · have t8 := fd_T8 G hp
      refine pk_eq (fd_T g p) (fd_W g a (j / 2)) (fun ht => ?_) (fun ht => ?_) (hx := fx_tx G hp)
      · rw [nI_1]
        refine fx_come (a_ends := en) G Q (by omega) ha x1 x2 x3 (by omega) (by omega) z6 (fs_P_step hk s4 o3 z7 (Or.inl ⟨kc, hp, ht, rfl⟩)) (fun bc' fc' be' fa' td' bu' ft' Q' L' b' => ?_)
        exact K _ _ _ _ _ _ _ _ Q' L' (fun _ _ _ => b') (fun z => by omega)
      · exact K _ _ _ _ _ _ _ _ Q fq_L_r (fun _ _ z => absurd z ht) (fun z => by omega)
theorem fx_act {post : SX → Prop} {s a j p : Nat} {X' : Nat → Nat → Prop} (G : fd_G g a_what a_sign a_length a_ruleOf a_text) (Q : fq_Q g be en fa bg td bu bc ft fc X Z (fun _ => False)) (hs : s ≤ fd_m g) (ha : a < fd_n g) (hj : j < 12) (hB : bt (be (144 * s + (12 * a + j))) p = true)
    (hX : ∀ i q, X i q → X' i q ∨ (i = 144 * s + (12 * a + j) ∧ q = p))
    (K : ∀ (bc' fc' : Nat) (be' en' fa' bg' td' bu' ft' : Nat → Int32), fq_Q g be' en' fa' bg' td' bu' bc' ft' fc' X' Z (fun _ => False) → fq_L be en fa bg td bc fc be' en' fa' bg' td' bc' fc' → post (nI (fd_n g), nI (fd_m g), f_studied, f_empties, f_bad, f_kept, nI bc', nI fc', f_best, f_counted, f_depth, f_place, f_nodes, f_errors, f_much, a_what, a_sign, a_length, a_ruleOf, a_text, a_begins, a_firsts, be', en', fa', bg', td', bu', ft', a_number, a_now, a_then, a_order, a_openAlternative, a_openItem, a_openCame, a_openNode, a_nodeRule, a_nodeAlternative, a_nodeFrom, a_nodeTo, a_nodeParent, a_nodeParts, a_errorKind, a_errorPlace, a_errorItem)) :
    wpX_act post (nI (fd_n g), nI (fd_m g), f_studied, f_empties, f_bad, f_kept, nI bc, nI fc, f_best, f_counted, f_depth, f_place, f_nodes, f_errors, f_much, a_what, a_sign, a_length, a_ruleOf, a_text, a_begins, a_firsts, be, en, fa, bg, td, bu, ft, a_number, a_now, a_then, a_order, a_openAlternative, a_openItem, a_openCame, a_openNode, a_nodeRule, a_nodeAlternative, a_nodeFrom, a_nodeTo, a_nodeParent, a_nodeParts, a_errorKind, a_errorPlace, a_errorItem) (nI s) (nI (12 * a + j)) (nI p) := by
  have n12 := fd_n12 G
  have m24 := fd_m24 G
  have l5 := fd_L5 G ha
  have r6 := fd_R6 G ha
  obtain ⟨z1, z2, z3, z4, z5, z6, z7, z8⟩ := Q.1 s a j p (by omega) (by omega) hj hB
  have d12 : nI (12 * a + j) / 12 = nI a := by
    rw [show (12 : Int32) = nI 12 from rfl, pk_div (by omega) (by omega) (by omega), show (12 * a + j) / 12 = a from by omega]
  have m12 : (nI (12 * a + j) - nI (12 * a + j) / 12 * 12) / 2 = nI (j / 2) := by
    rw [show (12 : Int32) = nI 12 from rfl, pk_rem (by omega) (by omega) (by omega), show (12 * a + j) % 12 = j from by omega, show (2 : Int32) = nI 2 from rfl, pk_div (by omega) (by omega) (by omega)]
  have fin : ∀ (bc' fc' : Nat) (be' en' fa' bg' td' bu' ft' : Nat → Int32), fq_Q g be' en' fa' bg' td' bu' bc' ft' fc' X Z (fun _ => False) → fq_L be en fa bg td bc fc be' en' fa' bg' td' bc' fc' → fq_D g be' en' fa' bg' ft' fc' Z s a j p → post (nI (fd_n g), nI (fd_m g), f_studied, f_empties, f_bad, f_kept, nI bc', nI fc', f_best, f_counted, f_depth, f_place, f_nodes, f_errors, f_much, a_what, a_sign, a_length, a_ruleOf, a_text, a_begins, a_firsts, be', en', fa', bg', td', bu', ft', a_number, a_now, a_then, a_order, a_openAlternative, a_openItem, a_openCame, a_openNode, a_nodeRule, a_nodeAlternative, a_nodeFrom, a_nodeTo, a_nodeParent, a_nodeParts, a_errorKind, a_errorPlace, a_errorItem) := by
    intro bc' fc' be' en' fa' bg' td' bu' ft' Q' L' D'
    refine K _ _ _ _ _ _ _ _ _ (fq_wX Q' (fun s' a' j' p' h1 h2 h3 h4 h5 => ?_)) L'
    rcases hX _ _ h5 with y | ⟨y1, y2⟩
    · exact Or.inl y
    · obtain ⟨rfl, rfl, rfl⟩ := fq_code (by omega) hj h2 h3 y1
      subst y2
      exact Or.inr (Or.inr D')
  refine ⟨by decide, nm_r d12 ⟨by decide, by decide, nm_r m12 ⟨vp_in_nI (by omega) (by omega), ?_⟩⟩⟩
  refine pk_eq (j / 2) (fd_L g a) (fun hk => ⟨vp_in_nI (by omega) (by omega), ?_⟩) (fun hk => ?_) (hy := fx_le G ha)
  · rw [fx_ru G ha]
    have j0 : j = 2 * fd_L g a := by
      rcases Nat.mod_two_eq_zero_or_one j with t | t
      · omega
      · have := (z5 t).1; omega
    have hE : fs_lE g (fd_R g a) s p := by
      rw [j0] at z7
      exact fs_P_end (fs_least g) ha hs z7
    refine fx_finish G Q r6 hs z1 z2 hE z6 z8 (fun bc' fc' be' en' fa' td' bu' ft' Q' L' b' => ?_)
    exact fin _ _ _ _ _ _ _ _ _ Q' L' ⟨fun _ => b', fun z => by omega⟩
  · have hk' : j / 2 < fd_L g a := by omega
    have s4 := fd_S4 G ha hk'
    have o3 : j % 2 = 1 → fd_S g a (j / 2) = 3 := fun t => (z5 t).2
    refine nm_r (fx_5 a (j / 2)) ⟨fx_in G ha hk', nm_r (fx_sg G ha hk') ?_⟩
    have c77 : (fd_S g a (j / 2) = 1 ∨ fd_S g a (j / 2) = 2 ∨ j % 2 = 1) → wX_act_77 post (nI s) (nI (12 * a + j)) (nI p) (nI a) (nI (5 * a + j / 2)) (nI (fd_S g a (j / 2))) (nI (fd_n g)) (nI (fd_m g)) f_studied f_empties f_bad f_kept (nI bc) (nI fc) f_best f_counted f_depth f_place f_nodes f_errors f_much a_what a_sign a_length a_ruleOf a_text a_begins a_firsts be en fa bg td bu ft a_number a_now a_then a_order a_openAlternative a_openItem a_openCame a_openNode a_nodeRule a_nodeAlternative a_nodeFrom a_nodeTo a_nodeParent a_nodeParts a_errorKind a_errorPlace a_errorItem := by
      intro hsk
      have e2 : (nI (12 * a + j) &&& (-2)) + 2 = nI (12 * a + (2 * (j / 2) + 2)) := (by decide +kernel : ∀ a, a < 12 → ∀ j, j < 12 → (nI (12 * a + j) &&& (-2)) + 2 = nI (12 * a + (2 * (j / 2) + 2))) a (by omega) j hj
      unfold wX_act_77
      rw [e2]
      refine fx_come (a_ends := en) G Q (by omega) ha (by omega) (by omega) (fun z => by omega) z1 z2 z6 (fs_P_skip hk' ?_ o3 z7) (fun bc' fc' be' fa' td' bu' ft' Q' L' b' => ?_)
      · rcases hsk with t | t | t
        · exact Or.inl t
        · exact Or.inr (Or.inl t)
        · exact Or.inr (Or.inr ⟨t, o3 t⟩)
      · refine fx_act89 G Q' hs ha hj hk' (L'.1 _ _ (by omega) hB) (fun bc2 fc2 be2 fa2 bg2 td2 bu2 ft2 Q2 L2 ht hr => ?_)
        refine fin _ _ _ _ _ _ _ _ _ Q2 (fq_L_t L' L2) ⟨fun z => by omega, fun _ => ⟨fun _ => L2.1 _ _ (by omega) b', ht, fun w8 => ?_⟩⟩
        obtain ⟨r1, r2, r3⟩ := hr w8
        exact ⟨r1, r2, Or.inl r3⟩
    refine pk_eq (fd_S g a (j / 2)) 1 (fun e => c77 (Or.inl e)) (fun e1 => ?_)
    refine pk_eq (fd_S g a (j / 2)) 2 (fun e => c77 (Or.inr (Or.inl e))) (fun e2 => ?_)
    have ea : nI (12 * a + j) &&& 1 = nI (j % 2) := (by decide +kernel : ∀ a, a < 12 → ∀ j, j < 12 → nI (12 * a + j) &&& 1 = nI (j % 2)) a (by omega) j hj
    refine pk_eq (j % 2) 1 (fun e => c77 (Or.inr (Or.inr e))) (fun e3 => ?_) (hx := ea)
    refine fx_act89 G Q hs ha hj hk' hB (fun bc2 fc2 be2 fa2 bg2 td2 bu2 ft2 Q2 L2 ht hr => ?_)
    refine fin _ _ _ _ _ _ _ _ _ Q2 L2 ⟨fun z => by omega, fun _ => ⟨fun z => ?_, ht, fun w8 => ?_⟩⟩
    · rcases z with t | t | t
      · exact absurd t e1
      · exact absurd t e2
      · exact absurd t e3
    · obtain ⟨r1, r2, r3⟩ := hr w8
      exact ⟨r1, r2, Or.inl r3⟩
end
end
section
section
variable {g : fd_Gr}
variable {f_studied f_empties f_bad f_kept f_busyCount f_fartherCount f_best f_counted f_depth f_place f_nodes f_errors f_much : Int32} {a_what a_sign a_length a_ruleOf a_text a_begins a_firsts a_been a_ends a_far a_begun a_todo a_busy a_farther a_number a_now a_then a_order a_openAlternative a_openItem a_openCame a_openNode a_nodeRule a_nodeAlternative a_nodeFrom a_nodeTo a_nodeParent a_nodeParts a_errorKind a_errorPlace a_errorItem : Nat → Int32}
variable {be en fa bg td bu ft : Nat → Int32} {bc fc : Nat} {X : Nat → Nat → Prop} {Z Zi : Nat → Prop}
theorem fx_tell76 {post : SX → Prop} {J13 : Int32 → Int32 → Int32 → Int32 → Int32 → Int32 → Int32 → Int32 → Int32 → Int32 → Int32 → Int32 → Int32 → Int32 → Int32 → Int32 → (Nat → Int32) → (Nat → Int32) → (Nat → Int32) → (Nat → Int32) → (Nat → Int32) → (Nat → Int32) → (Nat → Int32) → (Nat → Int32) → (Nat → Int32) → (Nat → Int32) → (Nat → Int32) → (Nat → Int32) → (Nat → Int32) → (Nat → Int32) → (Nat → Int32) → (Nat → Int32) → (Nat → Int32) → (Nat → Int32) → (Nat → Int32) → (Nat → Int32) → (Nat → Int32) → (Nat → Int32) → (Nat → Int32) → (Nat → Int32) → (Nat → Int32) → (Nat → Int32) → (Nat → Int32) → (Nat → Int32) → (Nat → Int32) → (Nat → Int32) → (Nat → Int32) → Prop} {r s a k v : Nat} {fa0 : Nat → Int32} {fc0 : Nat} (G : fd_G g a_what a_sign a_length a_ruleOf a_text) (hr : r < 6) (hs : s ≤ fd_m g) (ha : a < fd_n g) (hk : k < fd_L g a) (hw : fd_W g a k = r + 8) (hv : v ≤ fs_lF g r s)
    (K : ∀ (fc' : Nat) (fa' ft' : Nat → Int32), fq_Q g be en fa' bg td bu bc ft' fc' X Z Zi → fq_L be en fa0 bg td bc fc0 be en fa' bg td bc fc' → fq_v fa' (25 * r + s) = v → fa' (25 * r + s) = nI v →
      (∀ q j, q ≤ s → j < 12 → j / 2 = k → bt (be (144 * q + (12 * a + j))) s = true → v ≤ fq_v fa' (25 * fd_R g a + q)) → J13 (nI (5 * a + k + 1)) (nI (fd_n g)) (nI (fd_m g)) f_studied f_empties f_bad f_kept f_busyCount (nI fc') f_best f_counted f_depth f_place f_nodes f_errors f_much a_what a_sign a_length a_ruleOf a_text a_begins a_firsts be a_ends fa' a_begun a_todo a_busy ft' a_number a_now a_then a_order a_openAlternative a_openItem a_openCame a_openNode a_nodeRule a_nodeAlternative a_nodeFrom a_nodeTo a_nodeParent a_nodeParts a_errorKind a_errorPlace a_errorItem) :
    ∀ d q n fc fa ft, q + d = s + 1 → d < n → fq_Q g be en fa bg td bu bc ft fc X Z Zi → fq_L be en fa0 bg td bc fc0 be en fa bg td bc fc → fq_v fa (25 * r + s) = v → fa (25 * r + s) = nI v →
      (∀ q' j, q' < q → j < 12 → j / 2 = k → bt (be (144 * q' + (12 * a + j))) s = true → v ≤ fq_v fa (25 * fd_R g a + q')) →
      wX_tell_76 post J13 (nI (25 * r + s)) (nI r) (nI s) (nI (5 * a + k)) (nI (12 * a + 2 * k)) n (nI q) (nI (fd_n g)) (nI (fd_m g)) f_studied f_empties f_bad f_kept f_busyCount (nI fc) f_best f_counted f_depth f_place f_nodes f_errors f_much a_what a_sign a_length a_ruleOf a_text a_begins a_firsts be a_ends fa a_begun a_todo a_busy ft a_number a_now a_then a_order a_openAlternative a_openItem a_openCame a_openNode a_nodeRule a_nodeAlternative a_nodeFrom a_nodeTo a_nodeParent a_nodeParts a_errorKind a_errorPlace a_errorItem := by
  have n12 := fd_n12 G
  have m24 := fd_m24 G
  have l5 := fd_L5 G ha
  have s4 := fd_S4 G ha hk
  have r6 := fd_R6 G ha
  intro d
  induction d with
  | zero =>
    intro q n fc fa ft hq hn Q L hv1 hv2 h
    obtain ⟨n, rfl⟩ : ∃ k, n = k + 1 := ⟨n - 1, by omega⟩
    refine pk_lt s q (fun _ => ?_) (fun h => absurd h (by omega))
    exact nm_r (nI_1 _) (K _ _ _ Q L hv1 hv2 (fun q' j h1 => h q' j (by omega)))
  | succ d ih =>
    intro q n fc fa ft hq hn Q L hv1 hv2 h
    obtain ⟨n, rfl⟩ : ∃ k, n = k + 1 := ⟨n - 1, by omega⟩
    refine pk_lt s q (fun h => absurd h (by omega)) (fun hl => ?_)
    have e1 : (144 : Int32) * nI q + nI (12 * a + 2 * k) = nI (144 * q + (12 * a + 2 * k)) := by rw [show (144 : Int32) = nI 144 from rfl, pk_mul, nI_add]
    rw [e1, nI_1]
    refine ⟨vp_in_nI (by omega) (by omega), vp_in_nI (by omega) (by omega), ?_⟩
    rw [nI_clamp (by omega), nI_clamp (by omega)]
    refine fb_br (by omega) (fun hb => ?_) (fun hb => ?_)
    · refine br_t rfl (nm_r (nI_1 _) ?_)
      rw [b_or, Bool.or_eq_false_iff] at hb
      refine ih (q + 1) n _ _ _ (by omega) (by omega) Q L hv1 hv2 (fun q' j h1 h2 h3 h4 => ?_)
      rcases Nat.lt_or_ge q' q with y | y
      · exact h q' j y h2 h3 h4
      · have eq : q' = q := by omega
        subst eq
        rcases (by omega : j = 2 * k ∨ j = 2 * k + 1) with t | t
        · rw [t, hb.1] at h4; exact absurd h4 (by decide)
        · rw [t, show 144 * q' + (12 * a + (2 * k + 1)) = 144 * q' + (12 * a + 2 * k) + 1 from by omega, hb.2] at h4; exact absurd h4 (by decide)
    · rw [b_or, Bool.or_eq_true] at hb
      have hx : ∃ j, j < 12 ∧ j / 2 = k ∧ bt (be (144 * q + (12 * a + j))) s = true := by
        rcases hb with t | t
        · exact ⟨2 * k, by omega, by omega, t⟩
        · exact ⟨2 * k + 1, by omega, by omega, by rw [show 144 * q + (12 * a + (2 * k + 1)) = 144 * q + (12 * a + 2 * k) + 1 from by omega]; exact t⟩
      obtain ⟨j, hj, hjk, hB⟩ := hx
      obtain ⟨z1, z2, z3, z4, z5, z6, z7, z8⟩ := Q.1 q a j s (by omega) (by omega) hj hB
      obtain ⟨x1, x2, x3, x4⟩ := Q.2.2.1 (fd_R g a) q r6 (by omega) z6
      have ct := (fs_P_ct (fs_least g) ha (by omega) (by rw [hjk]; exact hk) (by rw [hjk]; exact s4) (fun t => (z5 t).2) z7).2 (by rw [hjk]; omega)
      rw [hjk, hw, show r + 8 - 8 = r from by omega] at ct
      have lm := fs_lF_m (g := g) (r := fd_R g a) x1
      have d5 : nI (5 * a + k) / 5 = nI a := by rw [show (5 : Int32) = nI 5 from rfl, pk_div (by omega) (by omega) (by omega), show (5 * a + k) / 5 = a from by omega]
      have e2 : (25 : Int32) * a_ruleOf (nI a).toNatClampNeg + nI q = nI (25 * fd_R g a + q) := by rw [fx_ru G ha, fx_25]
      have e3 : fa (nI (25 * r + s)).toNatClampNeg = nI v := by rw [nI_clamp (by omega)]; exact hv2
      refine br_f (by decide) ⟨by decide, ?_⟩
      rw [d5]
      refine ⟨vp_in_nI (by omega) (by omega), vp_in_nI (by omega) (by omega), ?_⟩
      rw [e2, e3]
      refine fx_reach (by omega) (by omega) (fq_F_150 Q.2.2.2.2.2.2.1) (by omega) x4 (fun fc' fa' ft' hre => ?_)
      obtain ⟨Q', L'⟩ := fq_reach G Q r6 (by omega) z6 (by omega) hre
      obtain ⟨v1, v2, v3, v4, v5⟩ := fq_RE_v hre
      have same : fa' (25 * r + s) = fa (25 * r + s) := by
        by_cases c : 25 * r + s = 25 * fd_R g a + q
        · rcases hre with ⟨rfl, _⟩ | ⟨_, hlt, _⟩
          · rfl
          · rw [← c, hv1] at hlt; omega
        · exact v3 _ c
      refine nm_r (nI_1 _) ?_
      refine ih (q + 1) n _ _ _ (by omega) (by omega) Q' (fq_L_t L L') (by unfold fq_v; rw [same]; exact hv1) (by rw [same]; exact hv2) (fun q' j h1 h2 h3 h4 => ?_)
      rcases Nat.lt_or_ge q' q with y | y
      · exact Nat.le_trans (h q' j y h2 h3 h4) (v1 _)
      · rw [show q' = q from by omega]; exact v2
theorem fx_tell13 {post : SX → Prop} {r s v : Nat} {fa0 : Nat → Int32} {fc0 : Nat} (G : fd_G g a_what a_sign a_length a_ruleOf a_text) (hr : r < 6) (hs : s ≤ fd_m g) (hv : v ≤ fs_lF g r s)
    (K : ∀ (fc' : Nat) (fa' ft' : Nat → Int32), fq_Q g be en fa' bg td bu bc ft' fc' X Z Zi → fq_L be en fa0 bg td bc fc0 be en fa' bg td bc fc' → fq_v fa' (25 * r + s) = v →
      (∀ q a j, q ≤ s → a < fd_n g → j < 12 → j / 2 < fd_L g a → fd_W g a (j / 2) = r + 8 → bt (be (144 * q + (12 * a + j))) s = true → v ≤ fq_v fa' (25 * fd_R g a + q)) → post (nI (fd_n g), nI (fd_m g), f_studied, f_empties, f_bad, f_kept, f_busyCount, nI fc', f_best, f_counted, f_depth, f_place, f_nodes, f_errors, f_much, a_what, a_sign, a_length, a_ruleOf, a_text, a_begins, a_firsts, be, a_ends, fa', a_begun, a_todo, a_busy, ft', a_number, a_now, a_then, a_order, a_openAlternative, a_openItem, a_openCame, a_openNode, a_nodeRule, a_nodeAlternative, a_nodeFrom, a_nodeTo, a_nodeParent, a_nodeParts, a_errorKind, a_errorPlace, a_errorItem)) :
    ∀ d c n fc fa ft, c + d = 5 * fd_n g → d < n → fq_Q g be en fa bg td bu bc ft fc X Z Zi → fq_L be en fa0 bg td bc fc0 be en fa bg td bc fc → fq_v fa (25 * r + s) = v → fa (25 * r + s) = nI v →
      (∀ q a j, 5 * a + j / 2 < c → q ≤ s → a < fd_n g → j < 12 → j / 2 < fd_L g a → fd_W g a (j / 2) = r + 8 → bt (be (144 * q + (12 * a + j))) s = true → v ≤ fq_v fa (25 * fd_R g a + q)) →
      wX_tell_13 post (nI (25 * r + s)) (nI r) (nI s) n (nI c) (nI (fd_n g)) (nI (fd_m g)) f_studied f_empties f_bad f_kept f_busyCount (nI fc) f_best f_counted f_depth f_place f_nodes f_errors f_much a_what a_sign a_length a_ruleOf a_text a_begins a_firsts be a_ends fa a_begun a_todo a_busy ft a_number a_now a_then a_order a_openAlternative a_openItem a_openCame a_openNode a_nodeRule a_nodeAlternative a_nodeFrom a_nodeTo a_nodeParent a_nodeParts a_errorKind a_errorPlace a_errorItem := by
  have n12 := fd_n12 G
  have m24 := fd_m24 G
  intro d
  induction d with
  | zero =>
    intro c n fc fa ft hc hn Q L hv1 hv2 h
    obtain ⟨n, rfl⟩ : ∃ k, n = k + 1 := ⟨n - 1, by omega⟩
    refine pk_le (5 * fd_n g) c (fun _ => ?_) (fun h => absurd h (by omega)) (hx := fx_5' _)
    refine K _ _ _ Q L hv1 (fun q a j h1 h2 h3 h4 h5 h6 => h q a j ?_ h1 h2 h3 h4 h5 h6)
    have := fd_L5 G h2
    omega
  | succ d ih =>
    intro c n fc fa ft hc hn Q L hv1 hv2 h
    obtain ⟨n, rfl⟩ : ∃ k, n = k + 1 := ⟨n - 1, by omega⟩
    refine pk_le (5 * fd_n g) c (fun h => absurd h (by omega)) (fun hl => ⟨vp_in_nI (by omega) (by omega), ?_⟩) (hx := fx_5' _)
    have hc5 : c / 5 < fd_n g := by omega
    have l5 := fd_L5 G hc5
    have ec : c = 5 * (c / 5) + c % 5 := by omega
    have skip : (c % 5 < fd_L g (c / 5) → fd_W g (c / 5) (c % 5) ≠ r + 8) → wX_tell_13 post (nI (25 * r + s)) (nI r) (nI s) n (nI (c + 1)) (nI (fd_n g)) (nI (fd_m g)) f_studied f_empties f_bad f_kept f_busyCount (nI fc) f_best f_counted f_depth f_place f_nodes f_errors f_much a_what a_sign a_length a_ruleOf a_text a_begins a_firsts be a_ends fa a_begun a_todo a_busy ft a_number a_now a_then a_order a_openAlternative a_openItem a_openCame a_openNode a_nodeRule a_nodeAlternative a_nodeFrom a_nodeTo a_nodeParent a_nodeParts a_errorKind a_errorPlace a_errorItem := by
      intro z
      refine ih (c + 1) n _ _ _ (by omega) (by omega) Q L hv1 hv2 (fun q a j h0 h1 h2 h3 h4 h5 h6 => ?_)
      rcases Nat.lt_or_ge (5 * a + j / 2) c with y | y
      · exact h q a j y h1 h2 h3 h4 h5 h6
      · have := fd_L5 G h2
        have e1 : a = c / 5 := by omega
        have e2 : j / 2 = c % 5 := by omega
        rw [e2, e1] at h4 h5
        exact absurd h5 (z h4)
    have ew : a_what (nI c).toNatClampNeg = a_what c := by rw [nI_clamp (by omega)]
    rw [ew]
    refine br_c (fun hw => ?_) (fun hw => ?_)
    · have d5 : nI c / 5 = nI (c / 5) := by rw [show (5 : Int32) = nI 5 from rfl, pk_div (by omega) (by omega) (by omega)]
      have r5 : nI c - nI c / 5 * 5 = nI (c % 5) := by rw [show (5 : Int32) = nI 5 from rfl]; exact pk_rem (by omega) (by omega) (by omega)
      refine ⟨by decide, by decide, ?_⟩
      rw [r5, d5]
      refine ⟨vp_in_nI (by omega) (by omega), pk_lt (c % 5) (fd_L g (c / 5)) (fun hv => ?_) (fun hv => ?_) (hy := fx_le G hc5)⟩
      · refine ⟨by decide, by decide, ?_⟩
        have w14 := fd_W14 G hc5 hv
        have wv : fd_W g (c / 5) (c % 5) = r + 8 := by
          have := fd_wh G hc5 hv
          rw [← ec, hw, show (8 : Int32) = nI 8 from rfl, nI_add] at this
          exact ((nI_eq (by omega) (by omega)).mp this).symm
        refine nm_r (e' := nI (12 * (c / 5) + 2 * (c % 5))) ?_ ⟨s + 2, ?_⟩
        · rw [show (12 : Int32) = nI 12 from rfl, show (2 : Int32) = nI 2 from rfl, pk_mul, pk_mul, nI_add]
        · have key := fx_tell76 (post := post) (J13 := wX_tell_13 post (nI (25 * r + s)) (nI r) (nI s) n) (be := be) (en := en) (bg := bg) (td := td) (bu := bu) (bc := bc) (X := X) (Z := Z) (Zi := Zi) (fa0 := fa) (fc0 := fc) (a := c / 5) (k := c % 5) (v := v) G hr hs hc5 hv wv ‹_›
            (fun fc' fa' ft' Q' L' w1 w2 b' => by
              rw [← ec]
              refine ih (c + 1) n _ _ _ (by omega) (by omega) Q' (fq_L_t L L') w1 w2 (fun q a j h0 h1 h2 h3 h4 h5 h6 => ?_)
              rcases Nat.lt_or_ge (5 * a + j / 2) c with y | y
              · have r6 := fd_R6 G h2
                exact Nat.le_trans (h q a j y h1 h2 h3 h4 h5 h6) (L'.2.2.1 _ (by omega))
              · have := fd_L5 G h2
                have e1 : a = c / 5 := by omega
                have e2 : j / 2 = c % 5 := by omega
                rw [e1]
                rw [e1] at h6
                exact b' q j h1 h3 e2 h6)
            (s + 1) 0 (s + 2) fc fa ft (by omega) (by omega) Q fq_L_r hv1 hv2 (fun q' j h1 => by omega)
          rw [← ec] at key
          exact key
      · exact nm_r (nI_1 _) (skip (fun z => absurd z (by omega)))
    · refine nm_r (nI_1 _) (skip (fun z y => ?_))
      apply hw
      have := fd_wh G hc5 z
      rw [← ec] at this
      rw [this, y, show (8 : Int32) = nI 8 from rfl, nI_add]
theorem fx_tell {post : SX → Prop} {k : Nat} (G : fd_G g a_what a_sign a_length a_ruleOf a_text) (Q : fq_Q g be en fa bg td bu bc ft fc X (fun i => i = k) Zi) (hk : k < 150) (hb : ¬ bg k = 0)
    (K : ∀ (fc' : Nat) (fa' ft' : Nat → Int32), fq_Q g be en fa' bg td bu bc ft' fc' X (fun _ => False) Zi → fq_L be en fa bg td bc fc be en fa' bg td bc fc' → post (nI (fd_n g), nI (fd_m g), f_studied, f_empties, f_bad, f_kept, f_busyCount, nI fc', f_best, f_counted, f_depth, f_place, f_nodes, f_errors, f_much, a_what, a_sign, a_length, a_ruleOf, a_text, a_begins, a_firsts, be, a_ends, fa', a_begun, a_todo, a_busy, ft', a_number, a_now, a_then, a_order, a_openAlternative, a_openItem, a_openCame, a_openNode, a_nodeRule, a_nodeAlternative, a_nodeFrom, a_nodeTo, a_nodeParent, a_nodeParts, a_errorKind, a_errorPlace, a_errorItem)) :
    wpX_tell post (nI (fd_n g), nI (fd_m g), f_studied, f_empties, f_bad, f_kept, f_busyCount, nI fc, f_best, f_counted, f_depth, f_place, f_nodes, f_errors, f_much, a_what, a_sign, a_length, a_ruleOf, a_text, a_begins, a_firsts, be, a_ends, fa, a_begun, a_todo, a_busy, ft, a_number, a_now, a_then, a_order, a_openAlternative, a_openItem, a_openCame, a_openNode, a_nodeRule, a_nodeAlternative, a_nodeFrom, a_nodeTo, a_nodeParent, a_nodeParts, a_errorKind, a_errorPlace, a_errorItem) (nI k) := by
  have m24 := fd_m24 G
  have ek : k = 25 * (k / 25) + k % 25 := by omega
  have hb' := hb
  rw [ek] at hb'
  obtain ⟨x1, x2, x3, x4⟩ := Q.2.2.1 (k / 25) (k % 25) (by omega) (by omega) hb'
  have d25 : nI k / 25 = nI (k / 25) := by rw [show (25 : Int32) = nI 25 from rfl, pk_div (by omega) (by omega) (by omega)]
  have r25 : nI k - nI k / 25 * 25 = nI (k % 25) := by rw [show (25 : Int32) = nI 25 from rfl]; exact pk_rem (by omega) (by omega) (by omega)
  refine ⟨by decide, nm_r d25 ⟨by decide, nm_r r25 ⟨5 * fd_n g + 1, ?_⟩⟩⟩
  have key := fx_tell13 (post := post) (be := be) (en := en) (bg := bg) (td := td) (bu := bu) (bc := bc) (X := X) (Z := fun i => i = k) (Zi := Zi) (r := k / 25) (s := k % 25) (v := fq_v fa (25 * (k / 25) + k % 25)) (fa0 := fa) (fc0 := fc) G (by omega) x1 x3
    (fun fc' fa' ft' Q' L' w1 b' => by
      refine K _ _ _ ?_ L'
      rw [ek] at Q'
      have n1 : (25 * (k / 25) + k % 25) / 25 = k / 25 := by omega
      refine fq_tell G Q' (by omega) (by omega) (fun q a j h1 h2 h3 h4 h5 h6 => ?_)
      rw [w1]
      exact b' q a j h1 h2 h3 h4 h5 h6)
    (5 * fd_n g) 0 (5 * fd_n g + 1) fc fa ft (by omega) (by omega) Q fq_L_r rfl x4 (fun q a j h => by omega)
  rw [← ek] at key
  exact key
end
end
section
section
variable {g : fd_Gr}
variable {f_studied f_empties f_bad f_kept f_busyCount f_fartherCount f_best f_counted f_depth f_place f_nodes f_errors f_much : Int32} {a_what a_sign a_length a_ruleOf a_text a_begins a_firsts a_been a_ends a_far a_begun a_todo a_busy a_farther a_number a_now a_then a_order a_openAlternative a_openItem a_openCame a_openNode a_nodeRule a_nodeAlternative a_nodeFrom a_nodeTo a_nodeParent a_nodeParts a_errorKind a_errorPlace a_errorItem : Nat → Int32}
variable {be en fa bg td bu ft : Nat → Int32} {bc fc : Nat} {X : Nat → Nat → Prop} {Z Zi : Nat → Prop}
theorem fx_ask69 {post : SX → Prop} {J10 : Int32 → Int32 → Int32 → Int32 → Int32 → Int32 → Int32 → Int32 → Int32 → Int32 → Int32 → Int32 → Int32 → Int32 → Int32 → (Nat → Int32) → (Nat → Int32) → (Nat → Int32) → (Nat → Int32) → (Nat → Int32) → (Nat → Int32) → (Nat → Int32) → (Nat → Int32) → (Nat → Int32) → (Nat → Int32) → (Nat → Int32) → (Nat → Int32) → (Nat → Int32) → (Nat → Int32) → (Nat → Int32) → (Nat → Int32) → (Nat → Int32) → (Nat → Int32) → (Nat → Int32) → (Nat → Int32) → (Nat → Int32) → (Nat → Int32) → (Nat → Int32) → (Nat → Int32) → (Nat → Int32) → (Nat → Int32) → (Nat → Int32) → (Nat → Int32) → (Nat → Int32) → (Nat → Int32) → (Nat → Int32) → Prop} {k : Nat} {x : Int32} {be0 en0 fa0 bg0 td0 : Nat → Int32} {bc0 fc0 : Nat} (G : fd_G g a_what a_sign a_length a_ruleOf a_text) (hk : k < 3600)
    (K : ∀ (bc' fc' : Nat) (be' en' fa' bg' td' bu' ft' : Nat → Int32), fq_Q g be' en' fa' bg' td' bu' bc' ft' fc' (fun _ _ => False) (fun _ => False) (fun _ => False) → fq_L be0 en0 fa0 bg0 td0 bc0 fc0 be' en' fa' bg' td' bc' fc' → J10 (nI (fd_n g)) (nI (fd_m g)) f_studied f_empties f_bad f_kept (nI bc') (nI fc') f_best f_counted f_depth f_place f_nodes f_errors f_much a_what a_sign a_length a_ruleOf a_text a_begins a_firsts be' en' fa' bg' td' bu' ft' a_number a_now a_then a_order a_openAlternative a_openItem a_openCame a_openNode a_nodeRule a_nodeAlternative a_nodeFrom a_nodeTo a_nodeParent a_nodeParts a_errorKind a_errorPlace a_errorItem) :
    ∀ d p n bc fc be en fa bg td bu ft, p + d = fd_m g + 1 → d < n → fq_Q g be en fa bg td bu bc ft fc (fun i q => i = k ∧ bt x q = true ∧ p ≤ q) (fun _ => False) (fun _ => False) → fq_L be0 en0 fa0 bg0 td0 bc0 fc0 be en fa bg td bc fc → (∀ q, bt x q = true → bt (be k) q = true) →
      wX_ask_69 post J10 (nI k) x n (nI p) (nI (fd_n g)) (nI (fd_m g)) f_studied f_empties f_bad f_kept (nI bc) (nI fc) f_best f_counted f_depth f_place f_nodes f_errors f_much a_what a_sign a_length a_ruleOf a_text a_begins a_firsts be en fa bg td bu ft a_number a_now a_then a_order a_openAlternative a_openItem a_openCame a_openNode a_nodeRule a_nodeAlternative a_nodeFrom a_nodeTo a_nodeParent a_nodeParts a_errorKind a_errorPlace a_errorItem := by
  have n12 := fd_n12 G
  have m24 := fd_m24 G
  have ek : k = 144 * (k / 144) + (12 * (k % 144 / 12) + k % 144 % 12) := by omega
  intro d
  induction d with
  | zero =>
    intro p n bc fc be en fa bg td bu ft hp hn Q L h
    obtain ⟨n, rfl⟩ : ∃ k, n = k + 1 := ⟨n - 1, by omega⟩
    refine pk_lt (fd_m g) p (fun _ => ?_) (fun h => absurd h (by omega))
    refine K _ _ _ _ _ _ _ _ _ (fq_wX Q (fun s a j q h1 h2 h3 h4 h5 => ?_)) L
    have := (Q.1 s a j q h1 h2 h3 h4).2.1
    omega
  | succ d ih =>
    intro p n bc fc be en fa bg td bu ft hp hn Q L h
    obtain ⟨n, rfl⟩ : ∃ k, n = k + 1 := ⟨n - 1, by omega⟩
    refine pk_lt (fd_m g) p (fun h => absurd h (by omega)) (fun hl => ?_)
    refine fb_br (by omega) (fun hb => ?_) (fun hb => ⟨by decide, by decide, ?_⟩)
    · refine nm_r (nI_1 _) ?_
      refine ih (p + 1) n _ _ _ _ _ _ _ _ _ (by omega) (by omega) (fq_wX Q (fun s a j q h1 h2 h3 h4 h5 => ?_)) L h
      left
      refine ⟨h5.1, h5.2.1, ?_⟩
      rcases Nat.eq_or_lt_of_le h5.2.2 with y | y
      · rw [← y, hb] at h5; exact absurd h5.2.1 (by decide)
      · exact y
    · have hB := h p hb
      rw [ek] at hB
      obtain ⟨z1, z2, z3, z4, z5, z6, z7, z8⟩ := Q.1 (k / 144) (k % 144 / 12) (k % 144 % 12) p (by omega) (by omega) (by omega) hB
      have d1 : nI k / 144 = nI (k / 144) := by rw [show (144 : Int32) = nI 144 from rfl, pk_div (by omega) (by omega) (by omega)]
      have d2 : nI k - nI k / 144 * 144 = nI (12 * (k % 144 / 12) + k % 144 % 12) := by
        rw [show (144 : Int32) = nI 144 from rfl, pk_rem (by omega) (by omega) (by omega), show 12 * (k % 144 / 12) + k % 144 % 12 = k % 144 from by omega]
      rw [d2, d1]
      refine fx_act (X' := fun i q => i = k ∧ bt x q = true ∧ p + 1 ≤ q) G Q (by omega) z3 (by omega) hB (fun i q hx => ?_) (fun bc' fc' be' en' fa' bg' td' bu' ft' Q' L' => ?_)
      · rw [← ek]
        rcases Nat.eq_or_lt_of_le hx.2.2 with y | y
        · exact Or.inr ⟨hx.1, y.symm⟩
        · exact Or.inl ⟨hx.1, hx.2.1, y⟩
      · refine nm_r (nI_1 _) ?_
        exact ih (p + 1) n _ _ _ _ _ _ _ _ _ (by omega) (by omega) Q' (fq_L_t L L') (fun q hq => L'.1 k q hk (h q hq))
theorem fx_ask24 {post : SX → Prop} {J10 : Int32 → Int32 → Int32 → Int32 → Int32 → Int32 → Int32 → Int32 → Int32 → Int32 → Int32 → Int32 → Int32 → Int32 → Int32 → (Nat → Int32) → (Nat → Int32) → (Nat → Int32) → (Nat → Int32) → (Nat → Int32) → (Nat → Int32) → (Nat → Int32) → (Nat → Int32) → (Nat → Int32) → (Nat → Int32) → (Nat → Int32) → (Nat → Int32) → (Nat → Int32) → (Nat → Int32) → (Nat → Int32) → (Nat → Int32) → (Nat → Int32) → (Nat → Int32) → (Nat → Int32) → (Nat → Int32) → (Nat → Int32) → (Nat → Int32) → (Nat → Int32) → (Nat → Int32) → (Nat → Int32) → (Nat → Int32) → (Nat → Int32) → (Nat → Int32) → (Nat → Int32) → (Nat → Int32) → (Nat → Int32) → Prop} (G : fd_G g a_what a_sign a_length a_ruleOf a_text) (Q : fq_Q g be en fa bg td bu bc ft fc (fun _ _ => False) (fun _ => False) (fun _ => False)) (h0 : 0 < bc ∨ 0 < fc)
    (K : ∀ (bc' fc' : Nat) (be' en' fa' bg' td' bu' ft' : Nat → Int32), fq_Q g be' en' fa' bg' td' bu' bc' ft' fc' (fun _ _ => False) (fun _ => False) (fun _ => False) → (∀ i, i < 150 → ¬ bg i = 0 → ¬ bg' i = 0) → fq_μ be' fa' bc' fc' < fq_μ be fa bc fc → J10 (nI (fd_n g)) (nI (fd_m g)) f_studied f_empties f_bad f_kept (nI bc') (nI fc') f_best f_counted f_depth f_place f_nodes f_errors f_much a_what a_sign a_length a_ruleOf a_text a_begins a_firsts be' en' fa' bg' td' bu' ft' a_number a_now a_then a_order a_openAlternative a_openItem a_openCame a_openNode a_nodeRule a_nodeAlternative a_nodeFrom a_nodeTo a_nodeParent a_nodeParts a_errorKind a_errorPlace a_errorItem) :
    wX_ask_24 post J10 (nI (fd_n g)) (nI (fd_m g)) f_studied f_empties f_bad f_kept (nI bc) (nI fc) f_best f_counted f_depth f_place f_nodes f_errors f_much a_what a_sign a_length a_ruleOf a_text a_begins a_firsts be en fa bg td bu ft a_number a_now a_then a_order a_openAlternative a_openItem a_openCame a_openNode a_nodeRule a_nodeAlternative a_nodeFrom a_nodeTo a_nodeParent a_nodeParts a_errorKind a_errorPlace a_errorItem := by
  have b3600 := fq_U_3600 Q.2.2.2.2.2.1
  have f150 := fq_F_150 Q.2.2.2.2.2.2.1
  refine pk_le bc 0 (fun hb => ?_) (fun hb => ?_)
  · obtain ⟨fc, rfl⟩ : ∃ k, fc = k + 1 := ⟨fc - 1, by omega⟩
    obtain ⟨k, hk, e, hg⟩ := Q.2.2.2.2.2.2.1.1 fc (by omega)
    obtain ⟨Q1, μ1⟩ := fq_popF G Q hk e
    refine nm_r (nI_pred fc) ⟨vp_in_nI (by omega) (by omega), ?_⟩
    rw [show ft (nI fc).toNatClampNeg = nI k from by rw [nI_clamp (by omega)]; exact e]
    refine fx_tell G Q1 hk hg (fun fc' fa' ft' Q' L' => ?_)
    exact K _ _ _ _ _ _ _ _ _ Q' L'.2.2.2.1 (by have := L'.2.2.2.2.2.2; omega)
  · obtain ⟨bc, rfl⟩ : ∃ k, bc = k + 1 := ⟨bc - 1, by omega⟩
    obtain ⟨k, hk, e, hg⟩ := Q.2.2.2.2.2.1.1 bc (by omega)
    obtain ⟨Q1, μ1⟩ := fq_popU Q hk e
    refine nm_r (nI_pred bc) ⟨vp_in_nI (by omega) (by omega), nm_r (e' := nI k) (by rw [nI_clamp (by omega)]; exact e) ⟨vp_in_nI hk (by omega), ?_⟩⟩
    rw [show (nI k).toNatClampNeg = k from nI_clamp (by omega)]
    refine nm_e ⟨vp_in_nI hk (by omega), nm_e ⟨fd_m g + 2, ?_⟩⟩
    refine fx_ask69 (be0 := be) (en0 := en) (fa0 := fa) (bg0 := bg) (td0 := upd td k 0) (bc0 := bc) (fc0 := fc) G hk (fun bc' fc' be' en' fa' bg' td' bu' ft' Q' L' => ?_) (fd_m g + 1) 0 (fd_m g + 2) _ _ _ _ _ _ _ _ _ (by omega) (by omega) (fq_wX Q1 (fun s a j q h1 h2 h3 h4 h5 => Or.inl ⟨h5.1, h5.2, Nat.zero_le _⟩)) fq_L_r (fun q hq => Q.2.2.2.2.2.1.2.2.2 k q hk hq)
    exact K _ _ _ _ _ _ _ _ _ Q' L'.2.2.2.1 (by have := L'.2.2.2.2.2.2; omega)
theorem fx_ask10 {post : SX → Prop} {k0 : Nat} (G : fd_G g a_what a_sign a_length a_ruleOf a_text) (hk : k0 < 150)
    (K : ∀ (be' en' fa' bg' td' bu' ft' : Nat → Int32), fq_Q g be' en' fa' bg' td' bu' 0 ft' 0 (fun _ _ => False) (fun _ => False) (fun _ => False) → ¬ bg' k0 = 0 → post (nI (fd_n g), nI (fd_m g), f_studied, f_empties, f_bad, f_kept, nI 0, nI 0, f_best, f_counted, f_depth, f_place, f_nodes, f_errors, f_much, a_what, a_sign, a_length, a_ruleOf, a_text, a_begins, a_firsts, be', en', fa', bg', td', bu', ft', a_number, a_now, a_then, a_order, a_openAlternative, a_openItem, a_openCame, a_openNode, a_nodeRule, a_nodeAlternative, a_nodeFrom, a_nodeTo, a_nodeParent, a_nodeParts, a_errorKind, a_errorPlace, a_errorItem)) :
    ∀ n bc fc be en fa bg td bu ft, fq_Q g be en fa bg td bu bc ft fc (fun _ _ => False) (fun _ => False) (fun _ => False) → ¬ bg k0 = 0 → fq_μ be fa bc fc < n → wX_ask_10 post n (nI (fd_n g)) (nI (fd_m g)) f_studied f_empties f_bad f_kept (nI bc) (nI fc) f_best f_counted f_depth f_place f_nodes f_errors f_much a_what a_sign a_length a_ruleOf a_text a_begins a_firsts be en fa bg td bu ft a_number a_now a_then a_order a_openAlternative a_openItem a_openCame a_openNode a_nodeRule a_nodeAlternative a_nodeFrom a_nodeTo a_nodeParent a_nodeParts a_errorKind a_errorPlace a_errorItem := by
  intro n
  induction n with
  | zero => intro bc fc be en fa bg td bu ft Q hb h; omega
  | succ n ih =>
    intro bc fc be en fa bg td bu ft Q hb h
    have b3600 := fq_U_3600 Q.2.2.2.2.2.1
    have f150 := fq_F_150 Q.2.2.2.2.2.2.1
    have next : 0 < bc ∨ 0 < fc → wX_ask_24 post (wX_ask_10 post n) (nI (fd_n g)) (nI (fd_m g)) f_studied f_empties f_bad f_kept (nI bc) (nI fc) f_best f_counted f_depth f_place f_nodes f_errors f_much a_what a_sign a_length a_ruleOf a_text a_begins a_firsts be en fa bg td bu ft a_number a_now a_then a_order a_openAlternative a_openItem a_openCame a_openNode a_nodeRule a_nodeAlternative a_nodeFrom a_nodeTo a_nodeParent a_nodeParts a_errorKind a_errorPlace a_errorItem := by
      intro h0
      refine fx_ask24 G Q h0 (fun bc' fc' be' en' fa' bg' td' bu' ft' Q' hg hμ => ?_)
      exact ih _ _ _ _ _ _ _ _ _ Q' (hg _ hk hb) (by omega)
    refine pk_lt 0 bc (fun z => next (Or.inl z)) (fun z => ?_)
    refine pk_le fc 0 (fun y => ?_) (fun y => next (Or.inr y))
    have e1 : bc = 0 := by omega
    have e2 : fc = 0 := by omega
    subst e1 e2
    exact K _ _ _ _ _ _ _ Q hb
/-! refresh -/
theorem fx_ref39 {post : SX → Prop} (K : ∀ (en' fa' bg' : Nat → Int32), (∀ k, k < 150 → en' k = 0 ∧ fa' k = 0 ∧ bg' k = 0) → post (nI (fd_n g), nI (fd_m g), f_studied, f_empties, f_bad, f_kept, f_busyCount, f_fartherCount, f_best, f_counted, f_depth, f_place, f_nodes, f_errors, f_much, a_what, a_sign, a_length, a_ruleOf, a_text, a_begins, a_firsts, a_been, en', fa', bg', a_todo, a_busy, a_farther, a_number, a_now, a_then, a_order, a_openAlternative, a_openItem, a_openCame, a_openNode, a_nodeRule, a_nodeAlternative, a_nodeFrom, a_nodeTo, a_nodeParent, a_nodeParts, a_errorKind, a_errorPlace, a_errorItem)) :
    ∀ d k n en fa bg, k + d = 150 → d < n → (∀ i, i < k → en i = 0 ∧ fa i = 0 ∧ bg i = 0) → wX_refresh_39 post (nI (fd_n g)) (nI (fd_m g)) f_studied f_empties f_bad f_kept f_busyCount f_fartherCount f_best f_counted f_depth f_place f_nodes f_errors f_much n (nI k) a_what a_sign a_length a_ruleOf a_text a_begins a_firsts a_been en fa bg a_todo a_busy a_farther a_number a_now a_then a_order a_openAlternative a_openItem a_openCame a_openNode a_nodeRule a_nodeAlternative a_nodeFrom a_nodeTo a_nodeParent a_nodeParts a_errorKind a_errorPlace a_errorItem := by
  intro d
  induction d with
  | zero =>
    intro k n en fa bg hk hn h
    obtain ⟨n, rfl⟩ : ∃ k, n = k + 1 := ⟨n - 1, by omega⟩
    exact pk_le 150 k (fun _ => K _ _ _ (fun i hi => h i (by omega))) (fun h => absurd h (by omega))
  | succ d ih =>
    intro k n en fa bg hk hn h
    obtain ⟨n, rfl⟩ : ∃ k, n = k + 1 := ⟨n - 1, by omega⟩
    have vi : vp_in (nI k) 150 := vp_in_nI (by omega) (by omega)
    have ec : (nI k).toNatClampNeg = k := nI_clamp (by omega)
    refine pk_le 150 k (fun h => absurd h (by omega)) (fun _ => ⟨vi, nm_r (e' := upd en k 0) (by rw [ec]) ⟨vi, nm_r (e' := upd fa k 0) (by rw [ec, fb_v0]) ⟨vi, nm_r (e' := upd bg k 0) (by rw [ec, fb_b0]) (nm_r (nI_1 _) ?_)⟩⟩⟩)
    refine ih (k + 1) n _ _ _ (by omega) (by omega) (fun i hi => ?_)
    by_cases e : i = k
    · subst e; rw [pk_us, pk_us, pk_us]; exact ⟨rfl, rfl, rfl⟩
    · rw [pk_un e, pk_un e, pk_un e]; exact h i (by omega)
theorem fx_ref15 {post : SX → Prop} (K : ∀ (be' en' fa' bg' : Nat → Int32), (∀ k, k < 3600 → be' k = 0) → (∀ k, k < 150 → en' k = 0 ∧ fa' k = 0 ∧ bg' k = 0) → post (nI (fd_n g), nI (fd_m g), f_studied, f_empties, f_bad, f_kept, f_busyCount, f_fartherCount, f_best, f_counted, f_depth, f_place, f_nodes, f_errors, f_much, a_what, a_sign, a_length, a_ruleOf, a_text, a_begins, a_firsts, be', en', fa', bg', a_todo, a_busy, a_farther, a_number, a_now, a_then, a_order, a_openAlternative, a_openItem, a_openCame, a_openNode, a_nodeRule, a_nodeAlternative, a_nodeFrom, a_nodeTo, a_nodeParent, a_nodeParts, a_errorKind, a_errorPlace, a_errorItem)) :
    ∀ d k n be, k + d = 3600 → d < n → (∀ i, i < k → be i = 0) → wX_refresh_15 post (nI (fd_n g)) (nI (fd_m g)) f_studied f_empties f_bad f_kept f_busyCount f_fartherCount f_best f_counted f_depth f_place f_nodes f_errors f_much n (nI k) a_what a_sign a_length a_ruleOf a_text a_begins a_firsts be a_ends a_far a_begun a_todo a_busy a_farther a_number a_now a_then a_order a_openAlternative a_openItem a_openCame a_openNode a_nodeRule a_nodeAlternative a_nodeFrom a_nodeTo a_nodeParent a_nodeParts a_errorKind a_errorPlace a_errorItem := by
  intro d
  induction d with
  | zero =>
    intro k n be hk hn h
    obtain ⟨n, rfl⟩ : ∃ k, n = k + 1 := ⟨n - 1, by omega⟩
    refine pk_le 3600 k (fun _ => ⟨151, ?_⟩) (fun h => absurd h (by omega))
    exact fx_ref39 (fun en' fa' bg' h' => K _ _ _ _ (fun i hi => h i (by omega)) h') 150 0 151 _ _ _ (by omega) (by omega) (fun i hi => by omega)
  | succ d ih =>
    intro k n be hk hn h
    obtain ⟨n, rfl⟩ : ∃ k, n = k + 1 := ⟨n - 1, by omega⟩
    have ec : (nI k).toNatClampNeg = k := nI_clamp (by omega)
    refine pk_le 3600 k (fun h => absurd h (by omega)) (fun _ => ⟨vp_in_nI (by omega) (by omega), nm_r (e' := upd be k 0) (by rw [ec]) (nm_r (nI_1 _) ?_)⟩)
    refine ih (k + 1) n _ (by omega) (by omega) (fun i hi => ?_)
    by_cases e : i = k
    · subst e; rw [pk_us]
    · rw [pk_un e]; exact h i (by omega)
/-! between two calls -/
def fx_A (g : fd_Gr) (ke bc fc : Int32) (be en fa bg td bu ft : Nat → Int32) : Prop :=
  (ke = 0 ∨ ke = 1) ∧ bc = 0 ∧ fc = 0 ∧ (∀ k, k < 3600 → td k = 0) ∧ (ke = 1 → fq_Q g be en fa bg td bu 0 ft 0 (fun _ _ => False) (fun _ => False) (fun _ => False))
theorem fq_new (h1 : ∀ k, k < 3600 → be k = 0) (h2 : ∀ k, k < 150 → en k = 0 ∧ fa k = 0 ∧ bg k = 0) (h3 : ∀ k, k < 3600 → td k = 0) : fq_Q g be en fa bg td bu 0 ft 0 (fun _ _ => False) (fun _ => False) (fun _ => False) := by
  refine ⟨fun s a j p z1 z2 z3 z4 => ?_, fun r s e z1 z2 z3 => ?_, fun r s z1 z2 z3 => ?_, fun k hk _ => ?_, fun r s z1 z2 z3 => ?_, ⟨fun i hi => by omega, fun i j _ hj => by omega, fun k hk z => absurd (h3 k hk) z, fun k p hk z => ?_⟩, ⟨fun i hi => by omega, fun i j _ hj => by omega⟩, fun s a j p z1 z2 z3 z4 => ?_⟩
  · rw [h1 _ (by omega), b_0] at z4; exact absurd z4 (by decide)
  · rw [(h2 _ (by omega)).1, b_0] at z3; exact absurd z3 (by decide)
  · exact absurd (h2 _ (by omega)).2.2 z3
  · unfold fq_v; rw [(h2 k hk).2.1]; rfl
  · exact absurd (h2 _ (by omega)).2.2 z3
  · rw [h3 k hk, b_0] at z; exact absurd z (by decide)
  · rw [h1 _ (by omega), b_0] at z4; exact absurd z4 (by decide)
theorem fx_ask {post : SX → Prop} {r s : Nat} (G : fd_G g a_what a_sign a_length a_ruleOf a_text) (A : fx_A g f_kept f_busyCount f_fartherCount a_been a_ends a_far a_begun a_todo a_busy a_farther) (hr : r < 6) (hs : s ≤ fd_m g)
    (K : ∀ (ke bc fc : Int32) (be en fa bg td bu ft : Nat → Int32), fx_A g ke bc fc be en fa bg td bu ft → fb_rep (en (25 * r + s)) (fs_lE g r s) → fa (25 * r + s) = nI (fs_lF g r s) → post (nI (fd_n g), nI (fd_m g), f_studied, f_empties, f_bad, ke, bc, fc, f_best, f_counted, f_depth, f_place, f_nodes, f_errors, f_much, a_what, a_sign, a_length, a_ruleOf, a_text, a_begins, a_firsts, be, en, fa, bg, td, bu, ft, a_number, a_now, a_then, a_order, a_openAlternative, a_openItem, a_openCame, a_openNode, a_nodeRule, a_nodeAlternative, a_nodeFrom, a_nodeTo, a_nodeParent, a_nodeParts, a_errorKind, a_errorPlace, a_errorItem)) :
    wpX_ask post (nI (fd_n g), nI (fd_m g), f_studied, f_empties, f_bad, f_kept, f_busyCount, f_fartherCount, f_best, f_counted, f_depth, f_place, f_nodes, f_errors, f_much, a_what, a_sign, a_length, a_ruleOf, a_text, a_begins, a_firsts, a_been, a_ends, a_far, a_begun, a_todo, a_busy, a_farther, a_number, a_now, a_then, a_order, a_openAlternative, a_openItem, a_openCame, a_openNode, a_nodeRule, a_nodeAlternative, a_nodeFrom, a_nodeTo, a_nodeParent, a_nodeParts, a_errorKind, a_errorPlace, a_errorItem) (nI r) (nI s) := by
  have m24 := fd_m24 G
  obtain ⟨hke, rfl, rfl, td0, hQ⟩ := A
  have main : ∀ (be en fa bg : Nat → Int32), fq_Q g be en fa bg a_todo a_busy 0 a_farther 0 (fun _ _ => False) (fun _ => False) (fun _ => False) →
      wpX_begin (fun u => match u with | (f_alternatives, f_tokens, f_studied, f_empties, f_bad, f_kept, f_busyCount, f_fartherCount, f_best, f_counted, f_depth, f_place, f_nodes, f_errors, f_much, a_what, a_sign, a_length, a_ruleOf, a_text, a_begins, a_firsts, a_been, a_ends, a_far, a_begun, a_todo, a_busy, a_farther, a_number, a_now, a_then, a_order, a_openAlternative, a_openItem, a_openCame, a_openNode, a_nodeRule, a_nodeAlternative, a_nodeFrom, a_nodeTo, a_nodeParent, a_nodeParts, a_errorKind, a_errorPlace, a_errorItem) => ∃ n10 : Nat, wX_ask_10 post n10 f_alternatives f_tokens f_studied f_empties f_bad f_kept f_busyCount f_fartherCount f_best f_counted f_depth f_place f_nodes f_errors f_much a_what a_sign a_length a_ruleOf a_text a_begins a_firsts a_been a_ends a_far a_begun a_todo a_busy a_farther a_number a_now a_then a_order a_openAlternative a_openItem a_openCame a_openNode a_nodeRule a_nodeAlternative a_nodeFrom a_nodeTo a_nodeParent a_nodeParts a_errorKind a_errorPlace a_errorItem) (nI (fd_n g), nI (fd_m g), f_studied, f_empties, f_bad, 1, nI 0, nI 0, f_best, f_counted, f_depth, f_place, f_nodes, f_errors, f_much, a_what, a_sign, a_length, a_ruleOf, a_text, a_begins, a_firsts, be, en, fa, bg, a_todo, a_busy, a_farther, a_number, a_now, a_then, a_order, a_openAlternative, a_openItem, a_openCame, a_openNode, a_nodeRule, a_nodeAlternative, a_nodeFrom, a_nodeTo, a_nodeParent, a_nodeParts, a_errorKind, a_errorPlace, a_errorItem) (nI r) (nI s) := by
    intro be en fa bg Q
    refine fx_begin (f_kept := 1) (a_ends := en) G Q hr hs (fun bc' fc' be' fa' bg' td' bu' ft' Q' L' hg => ?_)
    refine ⟨_, fx_ask10 (k0 := 25 * r + s) G (by omega) (fun be2 en2 fa2 bg2 td2 bu2 ft2 Q2 hg2 => ?_) _ _ _ _ _ _ _ _ _ _ Q' hg (Nat.lt_succ_self _)⟩
    obtain ⟨f1, f2⟩ := fq_full G Q2 hr hs hg2
    refine K _ _ _ _ _ _ _ _ _ _ ⟨Or.inr rfl, rfl, rfl, fun k hk => ?_, fun _ => Q2⟩ f1 f2
    apply Classical.byContradiction
    intro z
    obtain ⟨i, hi, _⟩ := Q2.2.2.2.2.2.1.2.2.1 k hk z
    omega
  rcases hke with rfl | rfl
  · refine br_t rfl ⟨3601, ?_⟩
    exact fx_ref15 (f_kept := 1) (f_busyCount := 0) (f_fartherCount := 0) (fun be' en' fa' bg' h1 h2 => main _ _ _ _ (fq_new h1 h2 td0)) 3600 0 3601 _ (by omega) (by omega) (fun i hi => by omega)
  · exact br_f (by decide) (main _ _ _ _ (hQ rfl))
end
end
section
/-! lengths: least bounds, frames -/
theorem fb_ub_c {b b' : Nat} {P R : Nat → Prop} (h : fb_ub b P) (k : fb_ub b' (fun u => b ≤ u ∧ R u)) : fb_ub b' (fun u => P u ∧ R u) :=
  fun u => (k u).trans ⟨fun z => ⟨(h u).mp z.1, z.2⟩, fun z => ⟨(h u).mpr z.1, z.2⟩⟩
theorem fb_ub_e {b : Nat} {P R : Nat → Prop} (h : fb_ub b P) (e : ∀ u, P u ↔ R u) : fb_ub b R := fun u => (h u).trans (e u)
theorem fb_ub_0 (b : Nat) : fb_ub b (fun u => b ≤ u) := fun _ => Iff.rfl
noncomputable def fo_lb (P : Nat → Prop) : Nat := @dite Nat (∃ u, P u) (Classical.propDecidable _) (fun h => Classical.choose (pk_least P h)) (fun _ => 0)
theorem fo_lb_e {b : Nat} {P : Nat → Prop} (h : fb_ub b P) : fo_lb P = b := by
  have hb : P b := (h b).mp (Nat.le_refl b)
  have hx : ∃ u, P u := ⟨b, hb⟩
  have e : fo_lb P = Classical.choose (pk_least P hx) := by unfold fo_lb; rw [dif_pos hx]
  have s := Classical.choose_spec (pk_least P hx)
  rw [e]
  have h1 := (h _).mpr s.1
  rcases Nat.lt_or_ge b (Classical.choose (pk_least P hx)) with z | z
  · exact absurd hb (s.2 b z)
  · omega
/-- a length: to the end, or how far -/
noncomputable def fo_v (g : fd_Gr) (S P : Nat → Prop) (pl : Nat) : Nat := @ite Nat (S (fd_m g)) (Classical.propDecidable _) (fd_m g - pl + 1) (fo_lb P - pl)
theorem fo_v_t {g : fd_Gr} {S P : Nat → Prop} {pl : Nat} (h : S (fd_m g)) : fo_v g S P pl = fd_m g - pl + 1 := by unfold fo_v; rw [if_pos h]
theorem fo_v_f {g : fd_Gr} {S P : Nat → Prop} {pl b : Nat} (h : ¬ S (fd_m g)) (k : fb_ub b P) : fo_v g S P pl = b - pl := by unfold fo_v; rw [if_neg h, fo_lb_e k]
/-! open rules from above: alternative, item, whether it came -/
def fo_S (g : fd_Gr) (E : Nat → Nat → Nat → Prop) (A I : Nat → Nat) (C : Nat → Bool) : Nat → (Nat → Prop) → Nat → Prop
  | 0, S => S
  | d + 1, S => fo_S g E A I C d (fs_go g E (A d) (fd_L g (A d) - I d) (I d) (C d) S)
def fo_B (g : fd_Gr) (E : Nat → Nat → Nat → Prop) (F : Nat → Nat → Nat) (A I : Nat → Nat) (C : Nat → Bool) : Nat → (Nat → Prop) → Nat → Prop
  | 0, _, _ => True
  | d + 1, S, u => fs_gB g E F (A d) (fd_L g (A d) - I d) (I d) (C d) S u ∧ fo_B g E F A I C d (fs_go g E (A d) (fd_L g (A d) - I d) (I d) (C d) S) u
def fo_in (g : fd_Gr) (S : Nat → Prop) : Prop := ∀ p, S p → p ≤ fd_m g
section
variable {g : fd_Gr}
theorem fo_in_On {w : Nat} {S : Nat → Prop} (h : fo_in g S) : fo_in g (fs_On g (fs_lE g) w S) := fun _ ⟨p, hp, z⟩ => fs_lSt_m w p _ (h p hp) z
theorem fo_in_Sr {w : Nat} {S : Nat → Prop} (h : fo_in g S) : fo_in g (fs_Sr g (fs_lE g) w S) := fun _ z => z (fun p => p ≤ fd_m g) h (fs_lSt_m w)
theorem fo_in_iS {a k : Nat} {c : Bool} {S : Nat → Prop} (h : fo_in g S) : fo_in g (fs_iS g (fs_lE g) a k c S) := fun _ z => fs_iS_in (I := fun p => p ≤ fd_m g) fs_lSt_m h z
theorem fo_in_go {a d k : Nat} {c : Bool} {S : Nat → Prop} (h : fo_in g S) : fo_in g (fs_go g (fs_lE g) a d k c S) := fun _ z => fs_go_in (I := fun p => p ≤ fd_m g) fs_lSt_m d k c S h _ z
theorem fo_in_one {s : Nat} (h : s ≤ fd_m g) : fo_in g (fs_one s) := fun p z => by rw [show p = s from z]; exact h
theorem fo_go_0 {a : Nat} {S : Nat → Prop} (h : ∀ p, ¬ S p) (d k : Nat) (c : Bool) (q : Nat) : ¬ fs_go g (fs_lE g) a d k c S q :=
  fun z => fs_go_in (I := fun _ => False) (fun _ _ _ x _ => x) d k c S (fun p y => h p y) q z
theorem fo_gB_0 {a : Nat} {S : Nat → Prop} (h : ∀ p, ¬ S p) (d k : Nat) (c : Bool) (u : Nat) : fs_gB g (fs_lE g) (fs_lF g) a d k c S u :=
  fs_gB_in (I := fun _ => False) (fun _ _ _ x _ => x) (fun _ _ x => x.elim) d k c S (fun p y => h p y)
end
end
section
section
variable {g : fd_Gr}
variable {f_studied f_empties f_bad f_kept f_busyCount f_fartherCount f_best f_counted f_depth f_place f_nodes f_errors f_much : Int32} {a_what a_sign a_length a_ruleOf a_text a_begins a_firsts a_been a_ends a_far a_begun a_todo a_busy a_farther a_number a_now a_then a_order a_openAlternative a_openItem a_openCame a_openNode a_nodeRule a_nodeAlternative a_nodeFrom a_nodeTo a_nodeParent a_nodeParts a_errorKind a_errorPlace a_errorItem : Nat → Int32}
theorem fx_thr5 {post : Int32 → SX → Prop} {w b0 : Nat} {y : Int32} {S : Nat → Prop} (G : fd_G g a_what a_sign a_length a_ruleOf a_text) (hw : w < 14) (hy : fb_rep y S) (hS : fo_in g S)
    (K : ∀ (x : Int32) (b : Nat) (ke bc fc : Int32) (be en fa bg td bu ft : Nat → Int32), fx_A g ke bc fc be en fa bg td bu ft → b ≤ fd_m g → fb_rep x (fs_On g (fs_lE g) w S) → fb_ub b (fun u => b0 ≤ u ∧ ∀ p, S p → fs_Ct g (fs_lF g) w p u) → post x (nI (fd_n g), nI (fd_m g), f_studied, f_empties, f_bad, ke, bc, fc, nI b, f_counted, f_depth, f_place, f_nodes, f_errors, f_much, a_what, a_sign, a_length, a_ruleOf, a_text, a_begins, a_firsts, be, en, fa, bg, td, bu, ft, a_number, a_now, a_then, a_order, a_openAlternative, a_openItem, a_openCame, a_openNode, a_nodeRule, a_nodeAlternative, a_nodeFrom, a_nodeTo, a_nodeParent, a_nodeParts, a_errorKind, a_errorPlace, a_errorItem)) :
    ∀ d p n x b (ke bc fc : Int32) (be en fa bg td bu ft : Nat → Int32), p + d = fd_m g + 1 → d < n → fx_A g ke bc fc be en fa bg td bu ft → b ≤ fd_m g → fb_rep x (fun q => ∃ p', p' < p ∧ S p' ∧ fs_St g (fs_lE g) w p' q) → fb_ub b (fun u => b0 ≤ u ∧ ∀ p', p' < p → S p' → fs_Ct g (fs_lF g) w p' u) →
      wX_through_5 post (nI w) y n x (nI p) (nI (fd_n g)) (nI (fd_m g)) f_studied f_empties f_bad ke bc fc (nI b) f_counted f_depth f_place f_nodes f_errors f_much a_what a_sign a_length a_ruleOf a_text a_begins a_firsts be en fa bg td bu ft a_number a_now a_then a_order a_openAlternative a_openItem a_openCame a_openNode a_nodeRule a_nodeAlternative a_nodeFrom a_nodeTo a_nodeParent a_nodeParts a_errorKind a_errorPlace a_errorItem := by
  have n12 := fd_n12 G
  have m24 := fd_m24 G
  intro d
  induction d with
  | zero =>
    intro p n x b ke bc fc be en fa bg td bu ft hp hn A hb h1 h2
    obtain ⟨n, rfl⟩ : ∃ k, n = k + 1 := ⟨n - 1, by omega⟩
    refine pk_lt (fd_m g) p (fun _ => ?_) (fun h => absurd h (by omega))
    refine K _ _ _ _ _ _ _ _ _ _ _ _ A hb (fb_rep_e h1 fun q => ⟨fun ⟨p', _, z⟩ => ⟨p', z⟩, fun ⟨p', z1, z2⟩ => ⟨p', ?_, z1, z2⟩⟩) (fb_ub_e h2 fun u => ⟨fun z => ⟨z.1, fun p' z1 => z.2 p' ?_ z1⟩, fun z => ⟨z.1, fun p' _ z1 => z.2 p' z1⟩⟩)
    · have := hS p' z1; omega
    · have := hS p' z1; omega
  | succ d ih =>
    intro p n x b ke bc fc be en fa bg td bu ft hp hn A hb h1 h2
    obtain ⟨n, rfl⟩ : ∃ k, n = k + 1 := ⟨n - 1, by omega⟩
    refine pk_lt (fd_m g) p (fun h => absurd h (by omega)) (fun hl => ?_)
    have same : (∀ q, S p → ¬ fs_St g (fs_lE g) w p q) → (S p → ∀ u, fs_Ct g (fs_lF g) w p u) → wX_through_5 post (nI w) y n x (nI (p + 1)) (nI (fd_n g)) (nI (fd_m g)) f_studied f_empties f_bad ke bc fc (nI b) f_counted f_depth f_place f_nodes f_errors f_much a_what a_sign a_length a_ruleOf a_text a_begins a_firsts be en fa bg td bu ft a_number a_now a_then a_order a_openAlternative a_openItem a_openCame a_openNode a_nodeRule a_nodeAlternative a_nodeFrom a_nodeTo a_nodeParent a_nodeParts a_errorKind a_errorPlace a_errorItem := by
      intro s1 s2
      refine ih (p + 1) n x b _ _ _ _ _ _ _ _ _ _ (by omega) (by omega) A hb (fb_rep_e h1 fun q => ⟨fun ⟨p', z1, z2, z3⟩ => ⟨p', by omega, z2, z3⟩, fun ⟨p', z1, z2, z3⟩ => ⟨p', ?_, z2, z3⟩⟩) (fb_ub_e h2 fun u => ⟨fun z => ⟨z.1, fun p' z1 z2 => ?_⟩, fun z => ⟨z.1, fun p' z1 z2 => z.2 p' (by omega) z2⟩⟩)
      · rcases Nat.lt_or_ge p' p with t | t
        · exact t
        · have e : p' = p := by omega
          subst e; exact absurd z3 (s1 q z2)
      · rcases Nat.lt_or_ge p' p with t | t
        · exact z.2 p' t z2
        · have e : p' = p := by omega
          subst e; exact s2 z2 u
    refine fb_br (by omega) (fun hb0 => ?_) (fun hb1 => ?_)
    · have nS : ¬ S p := fun z => by rw [(hy p (by omega)).mpr z] at hb0; exact absurd hb0 (by decide)
      exact nm_r (nI_1 _) (same (fun _ z => absurd z nS) (fun z => absurd z nS))
    · have yS : S p := (hy p (by omega)).mp hb1
      have step : ∀ (x' : Int32) (b' : Nat) (T : Nat → Prop), fb_rep x' (fun q => (∃ p', p' < p ∧ S p' ∧ fs_St g (fs_lE g) w p' q) ∨ T q) → (∀ q, T q ↔ fs_St g (fs_lE g) w p q) → fb_ub b' (fun u => b ≤ u ∧ fs_Ct g (fs_lF g) w p u) →
          fb_rep x' (fun q => ∃ p', p' < p + 1 ∧ S p' ∧ fs_St g (fs_lE g) w p' q) ∧ fb_ub b' (fun u => b0 ≤ u ∧ ∀ p', p' < p + 1 → S p' → fs_Ct g (fs_lF g) w p' u) := by
        intro x' b' T r1 r2 r3
        refine ⟨fb_rep_e r1 fun q => ⟨fun z => ?_, fun ⟨p', z1, z2, z3⟩ => ?_⟩, fb_ub_e (fb_ub_c h2 r3) fun u => ⟨fun z => ⟨z.1.1, fun p' z1 z2 => ?_⟩, fun z => ⟨⟨z.1, fun p' z1 z2 => z.2 p' (by omega) z2⟩, z.2 p (by omega) yS⟩⟩⟩
        · rcases z with ⟨p', z1, z2, z3⟩ | z
          · exact ⟨p', by omega, z2, z3⟩
          · exact ⟨p, by omega, yS, (r2 q).mp z⟩
        · rcases Nat.lt_or_ge p' p with t | t
          · exact Or.inl ⟨p', t, z2, z3⟩
          · have e : p' = p := by omega
            subst e; exact Or.inr ((r2 q).mpr z3)
        · rcases Nat.lt_or_ge p' p with t | t
          · exact z.1.2 p' t z2
          · have e : p' = p := by omega
            subst e; exact z.2
      refine pk_le w 7 (fun hw7 => ?_) (fun hw7 => ?_)
      · refine pk_le (fd_m g) p (fun hpm => ?_) (fun hpm => ⟨vp_in_nI (by omega) (by omega), ?_⟩)
        · refine nm_r (nI_1 _) (same (fun q _ z => ?_) (fun _ u => ⟨fun _ z => by omega, fun z => by omega⟩))
          rcases z with z | z <;> omega
        · have t8 := fd_T8 G hpm
          refine pk_eq (fd_T g p) w (fun ht => ?_) (fun ht => ?_) (hx := fx_tx G hpm)
          · have hT : ∀ q, (q = p + 1) ↔ fs_St g (fs_lE g) w p q := fun q => ⟨fun z => Or.inl ⟨by omega, hpm, ht, z⟩, fun z => by rcases z with z | z <;> omega⟩
            have hx : fb_rep (x ||| ((2 : Int32) <<< (nI p &&& 31))) (fun q => (∃ p', p' < p ∧ S p' ∧ fs_St g (fs_lE g) w p' q) ∨ q = p + 1) := fb_rep_or h1 (fun q hq => by rw [fb_two (by omega) hq, decide_eq_true_eq])
            refine nm_e (pk_lt p b (fun hlt => ?_) (fun hge => ?_))
            · have ub : fb_ub b (fun u => b ≤ u ∧ fs_Ct g (fs_lF g) w p u) := fun u => ⟨fun z => ⟨z, fun _ _ _ => by omega, fun z => by omega⟩, fun z => z.1⟩
              obtain ⟨r1, r2⟩ := step _ b _ hx hT ub
              exact nm_r (nI_1 _) (ih (p + 1) n _ b _ _ _ _ _ _ _ _ _ _ (by omega) (by omega) A hb r1 r2)
            · have ub : fb_ub (p + 1) (fun u => b ≤ u ∧ fs_Ct g (fs_lF g) w p u) := fun u => ⟨fun z => ⟨by omega, fun _ _ _ => z, fun z => by omega⟩, fun z => z.2.1 (by omega) hpm ht⟩
              obtain ⟨r1, r2⟩ := step _ (p + 1) _ hx hT ub
              exact nm_r (nI_1 _) (nm_r (nI_1 _) (ih (p + 1) n _ (p + 1) _ _ _ _ _ _ _ _ _ _ (by omega) (by omega) A (by omega) r1 r2))
          · refine nm_r (nI_1 _) (same (fun q _ z => ?_) (fun _ u => ⟨fun _ _ z => absurd z ht, fun z => by omega⟩))
            rcases z with z | z
            · exact ht z.2.2.1
            · omega
      · rw [fx_m8 hw7]
        refine fx_ask (f_best := nI b) G A (by omega) (by omega) (fun ke' bc' fc' be' en' fa' bg' td' bu' ft' A' e1 e2 => ?_)
        have lm := fs_lF_m (g := g) (r := w - 8) (p := p) (by omega)
        refine nm_r (fx_25 _ p) ⟨vp_in_nI (by omega) (by omega), ?_⟩
        rw [show (nI (25 * (w - 8) + p)).toNatClampNeg = 25 * (w - 8) + p from nI_clamp (by omega)]
        have hT : ∀ q, fs_lE g (w - 8) p q ↔ fs_St g (fs_lE g) w p q := fun q => ⟨fun z => Or.inr ⟨by omega, z⟩, fun z => by
          rcases z with z | z
          · omega
          · exact z.2⟩
        refine nm_e ⟨vp_in_nI (by omega) (by omega), pk_le (fs_lF g (w - 8) p) b (fun hle => ?_) (fun hgt => ⟨vp_in_nI (by omega) (by omega), ?_⟩) (hx := e2)⟩
        · have ub : fb_ub b (fun u => b ≤ u ∧ fs_Ct g (fs_lF g) w p u) := fun u => ⟨fun z => ⟨z, fun z => by omega, fun _ => by omega⟩, fun z => z.1⟩
          obtain ⟨r1, r2⟩ := step _ b _ (fb_rep_or h1 e1) hT ub
          exact nm_r (nI_1 _) (ih (p + 1) n _ b _ _ _ _ _ _ _ _ _ _ (by omega) (by omega) A' hb r1 r2)
        · have ub : fb_ub (fs_lF g (w - 8) p) (fun u => b ≤ u ∧ fs_Ct g (fs_lF g) w p u) := fun u => ⟨fun z => ⟨by omega, fun z => by omega, fun _ => z⟩, fun z => z.2.2 (by omega)⟩
          obtain ⟨r1, r2⟩ := step _ _ _ (fb_rep_or h1 e1) hT ub
          exact nm_r e2 (nm_r (nI_1 _) (ih (p + 1) n _ _ _ _ _ _ _ _ _ _ _ _ (by omega) (by omega) A' lm r1 r2))
theorem fx_through {post : Int32 → SX → Prop} {w b0 : Nat} {y : Int32} {S : Nat → Prop} (G : fd_G g a_what a_sign a_length a_ruleOf a_text) (A : fx_A g f_kept f_busyCount f_fartherCount a_been a_ends a_far a_begun a_todo a_busy a_farther) (hw : w < 14) (hb : b0 ≤ fd_m g) (hy : fb_rep y S) (hS : fo_in g S)
    (K : ∀ (x : Int32) (b : Nat) (ke bc fc : Int32) (be en fa bg td bu ft : Nat → Int32), fx_A g ke bc fc be en fa bg td bu ft → b ≤ fd_m g → fb_rep x (fs_On g (fs_lE g) w S) → fb_ub b (fun u => b0 ≤ u ∧ ∀ p, S p → fs_Ct g (fs_lF g) w p u) → post x (nI (fd_n g), nI (fd_m g), f_studied, f_empties, f_bad, ke, bc, fc, nI b, f_counted, f_depth, f_place, f_nodes, f_errors, f_much, a_what, a_sign, a_length, a_ruleOf, a_text, a_begins, a_firsts, be, en, fa, bg, td, bu, ft, a_number, a_now, a_then, a_order, a_openAlternative, a_openItem, a_openCame, a_openNode, a_nodeRule, a_nodeAlternative, a_nodeFrom, a_nodeTo, a_nodeParent, a_nodeParts, a_errorKind, a_errorPlace, a_errorItem)) :
    wpX_through post (nI (fd_n g), nI (fd_m g), f_studied, f_empties, f_bad, f_kept, f_busyCount, f_fartherCount, nI b0, f_counted, f_depth, f_place, f_nodes, f_errors, f_much, a_what, a_sign, a_length, a_ruleOf, a_text, a_begins, a_firsts, a_been, a_ends, a_far, a_begun, a_todo, a_busy, a_farther, a_number, a_now, a_then, a_order, a_openAlternative, a_openItem, a_openCame, a_openNode, a_nodeRule, a_nodeAlternative, a_nodeFrom, a_nodeTo, a_nodeParent, a_nodeParts, a_errorKind, a_errorPlace, a_errorItem) (nI w) y :=
  ⟨fd_m g + 2, fx_thr5 G hw hy hS K (fd_m g + 1) 0 (fd_m g + 2) 0 b0 _ _ _ _ _ _ _ _ _ _ (by omega) (by omega) A hb (fb_rep_e fb_rep_0 fun q => ⟨fun z => z.elim, fun ⟨p', z, _⟩ => by omega⟩) (fun u => ⟨fun z => ⟨z, fun p' z => by omega⟩, fun z => z.1⟩)⟩
theorem fx_oft5 {post : Int32 → SX → Prop} {w b0 : Nat} {S : Nat → Prop} (G : fd_G g a_what a_sign a_length a_ruleOf a_text) (hw : w < 14) (hS : fo_in g S)
    (K : ∀ (x : Int32) (b : Nat) (ke bc fc : Int32) (be en fa bg td bu ft : Nat → Int32), fx_A g ke bc fc be en fa bg td bu ft → b ≤ fd_m g → fb_rep x (fs_Sr g (fs_lE g) w S) → fb_ub b (fun u => b0 ≤ u ∧ ∀ p, fs_Sr g (fs_lE g) w S p → fs_Ct g (fs_lF g) w p u) → post x (nI (fd_n g), nI (fd_m g), f_studied, f_empties, f_bad, ke, bc, fc, nI b, f_counted, f_depth, f_place, f_nodes, f_errors, f_much, a_what, a_sign, a_length, a_ruleOf, a_text, a_begins, a_firsts, be, en, fa, bg, td, bu, ft, a_number, a_now, a_then, a_order, a_openAlternative, a_openItem, a_openCame, a_openNode, a_nodeRule, a_nodeAlternative, a_nodeFrom, a_nodeTo, a_nodeParent, a_nodeParts, a_errorKind, a_errorPlace, a_errorItem)) :
    ∀ n x y b (T U : Nat → Prop) (ke bc fc : Int32) (be en fa bg td bu ft : Nat → Int32), ((y = 0 ∧ 1 ≤ n) ∨ nf_M x + 2 ≤ n) → fx_A g ke bc fc be en fa bg td bu ft → b ≤ fd_m g → fb_rep x T → fb_rep y U → (∀ p, S p → T p) → (∀ p, T p → fs_Sr g (fs_lE g) w S p) → (∀ p, U p → T p) → (∀ p q, T p → ¬ U p → fs_St g (fs_lE g) w p q → T q) →
      fb_ub b (fun u => b0 ≤ u ∧ ∀ p, T p → ¬ U p → fs_Ct g (fs_lF g) w p u) →
      wX_often_5 post (nI w) n x y (nI (fd_n g)) (nI (fd_m g)) f_studied f_empties f_bad ke bc fc (nI b) f_counted f_depth f_place f_nodes f_errors f_much a_what a_sign a_length a_ruleOf a_text a_begins a_firsts be en fa bg td bu ft a_number a_now a_then a_order a_openAlternative a_openItem a_openCame a_openNode a_nodeRule a_nodeAlternative a_nodeFrom a_nodeTo a_nodeParent a_nodeParts a_errorKind a_errorPlace a_errorItem := by
  have m24 := fd_m24 G
  intro n
  induction n with
  | zero => intro x y b T U ke bc fc be en fa bg td bu ft hn; omega
  | succ n ih =>
    intro x y b T U ke bc fc be en fa bg td bu ft hn A hb hx hy h1 h2 h3 h4 h5
    have inT : fo_in g T := fun p z => fo_in_Sr hS p (h2 p z)
    refine br_c (fun hz => ?_) (fun hz => ?_)
    · have nU : ∀ p, p ≤ fd_m g → ¬ U p := fun p hp z => by
        have := (hy p (by omega)).mpr z
        rw [hz, b_0] at this; exact absurd this (by decide)
      have eT : ∀ p, T p ↔ fs_Sr g (fs_lE g) w S p := fun p => ⟨h2 p, fun z => z T h1 (fun p q tp st => h4 p q tp (nU p (inT p tp)) st)⟩
      refine K _ _ _ _ _ _ _ _ _ _ _ _ A hb (fb_rep_e hx eT) (fb_ub_e h5 fun u => ⟨fun z => ⟨z.1, fun p hp => z.2 p ((eT p).mpr hp) (nU p (inT p ((eT p).mpr hp)))⟩, fun z => ⟨z.1, fun p hp _ => z.2 p ((eT p).mp hp)⟩⟩)
    · refine fx_through G A hw hb hy (fun p z => inT p (h3 p z)) (fun x' b' ke' bc' fc' be' en' fa' bg' td' bu' ft' A' hb' r1 r2 => ?_)
      have inO : ∀ q, fs_On g (fs_lE g) w U q → fs_Sr g (fs_lE g) w S q := fun q ⟨p, hp, z⟩ => fs_Sr_s (h2 p (h3 p hp)) z
      have f1 : fb_rep (x' &&& (x ^^^ (-1))) (fun q => fs_On g (fs_lE g) w U q ∧ ¬ T q) := by
        intro q hq
        rw [b_and, fb_not x hq, Bool.and_eq_true, Bool.not_eq_true', r1 q hq]
        exact ⟨fun z => ⟨z.1, fun t => by rw [(hx q hq).mpr t] at z; exact absurd z.2 (by decide)⟩, fun z => ⟨z.1, by
          cases hc : bt x q
          · rfl
          · exact absurd ((hx q hq).mp hc) z.2⟩⟩
      refine nm_e (nm_e ?_)
      refine ih _ _ b' (fun q => T q ∨ fs_On g (fs_lE g) w U q) (fun q => fs_On g (fs_lE g) w U q ∧ ¬ T q) _ _ _ _ _ _ _ _ _ _ ?_ A' hb' (fb_rep_or hx r1) f1 (fun p z => Or.inl (h1 p z)) (fun p z => z.elim (h2 p) (inO p)) (fun p z => Or.inr z.1) (fun p q z1 z2 z3 => ?_) ?_
      · rcases hn with ⟨hn, _⟩ | hn
        · exact absurd hn hz
        · by_cases hf : x' &&& (x ^^^ (-1)) = 0
          · exact Or.inl ⟨hf, by omega⟩
          · right
            have e : x ||| x' = x ||| (x' &&& (x ^^^ (-1))) := by
              apply b_ext
              intro i hi
              rw [b_or, b_or, b_and, fb_not x hi]
              cases bt x i <;> cases bt x' i <;> rfl
            have z : x &&& (x' &&& (x ^^^ (-1))) = 0 := by
              rw [fb_z]
              intro i hi
              rw [b_and, b_and, fb_not x hi]
              cases bt x i <;> cases bt x' i <;> rfl
            have := nf_gr x _ z hf
            rw [← e] at this
            omega
      · have tp : T p := by
          rcases z1 with z1 | z1
          · exact z1
          · exact Classical.byContradiction fun c => z2 ⟨z1, c⟩
        rcases Classical.em (U p) with c | c
        · exact Or.inr ⟨p, c, z3⟩
        · exact Or.inl (h4 p q tp c z3)
      · refine fb_ub_e (fb_ub_c h5 r2) fun u => ⟨fun z => ⟨z.1.1, fun p z1 z2 => ?_⟩, fun z => ⟨⟨z.1, fun p z1 z2 => z.2 p (Or.inl z1) (fun c => c.2 z1)⟩, fun p z1 => z.2 p (Or.inl (h3 p z1)) (fun c => c.2 (h3 p z1))⟩⟩
        have tp : T p := by
          rcases z1 with z1 | z1
          · exact z1
          · exact Classical.byContradiction fun c => z2 ⟨z1, c⟩
        rcases Classical.em (U p) with c | c
        · exact z.2 p c
        · exact z.1.2 p tp c
theorem fx_often {post : Int32 → SX → Prop} {w b0 : Nat} {y : Int32} {S : Nat → Prop} (G : fd_G g a_what a_sign a_length a_ruleOf a_text) (A : fx_A g f_kept f_busyCount f_fartherCount a_been a_ends a_far a_begun a_todo a_busy a_farther) (hw : w < 14) (hb : b0 ≤ fd_m g) (hy : fb_rep y S) (hS : fo_in g S)
    (K : ∀ (x : Int32) (b : Nat) (ke bc fc : Int32) (be en fa bg td bu ft : Nat → Int32), fx_A g ke bc fc be en fa bg td bu ft → b ≤ fd_m g → fb_rep x (fs_Sr g (fs_lE g) w S) → fb_ub b (fun u => b0 ≤ u ∧ ∀ p, fs_Sr g (fs_lE g) w S p → fs_Ct g (fs_lF g) w p u) → post x (nI (fd_n g), nI (fd_m g), f_studied, f_empties, f_bad, ke, bc, fc, nI b, f_counted, f_depth, f_place, f_nodes, f_errors, f_much, a_what, a_sign, a_length, a_ruleOf, a_text, a_begins, a_firsts, be, en, fa, bg, td, bu, ft, a_number, a_now, a_then, a_order, a_openAlternative, a_openItem, a_openCame, a_openNode, a_nodeRule, a_nodeAlternative, a_nodeFrom, a_nodeTo, a_nodeParent, a_nodeParts, a_errorKind, a_errorPlace, a_errorItem)) :
    wpX_often post (nI (fd_n g), nI (fd_m g), f_studied, f_empties, f_bad, f_kept, f_busyCount, f_fartherCount, nI b0, f_counted, f_depth, f_place, f_nodes, f_errors, f_much, a_what, a_sign, a_length, a_ruleOf, a_text, a_begins, a_firsts, a_been, a_ends, a_far, a_begun, a_todo, a_busy, a_farther, a_number, a_now, a_then, a_order, a_openAlternative, a_openItem, a_openCame, a_openNode, a_nodeRule, a_nodeAlternative, a_nodeFrom, a_nodeTo, a_nodeParent, a_nodeParts, a_errorKind, a_errorPlace, a_errorItem) (nI w) y :=
  ⟨nf_M y + 2, fx_oft5 G hw hS K (nf_M y + 2) y y b0 S S _ _ _ _ _ _ _ _ _ _ (Or.inr (Nat.le_refl _)) A hb hy hy (fun _ z => z) (fun _ z => fs_Sr_b z) (fun _ z => z) (fun _ _ z1 z2 => absurd z1 z2) (fun u => ⟨fun z => ⟨z, fun _ z1 z2 => absurd z1 z2⟩, fun z => z.1⟩)⟩
end
end
section
section
variable {g : fd_Gr}
variable {f_studied f_empties f_bad f_kept f_busyCount f_fartherCount f_best f_counted f_depth f_place f_nodes f_errors f_much : Int32} {a_what a_sign a_length a_ruleOf a_text a_begins a_firsts a_been a_ends a_far a_begun a_todo a_busy a_farther a_number a_now a_then a_order a_openAlternative a_openItem a_openCame a_openNode a_nodeRule a_nodeAlternative a_nodeFrom a_nodeTo a_nodeParent a_nodeParts a_errorKind a_errorPlace a_errorItem : Nat → Int32}
/-- a flag as an int -/
def fb_i (c : Bool) : Int32 := if c = true then 1 else 0
/-- one item: what J is given -/
theorem fx_rest97 {post : Int32 → SX → Prop} {J10 : Int32 → Int32 → Int32 → Int32 → Int32 → Int32 → Int32 → Int32 → Int32 → Int32 → Int32 → Int32 → Int32 → Int32 → Int32 → Int32 → Int32 → Int32 → (Nat → Int32) → (Nat → Int32) → (Nat → Int32) → (Nat → Int32) → (Nat → Int32) → (Nat → Int32) → (Nat → Int32) → (Nat → Int32) → (Nat → Int32) → (Nat → Int32) → (Nat → Int32) → (Nat → Int32) → (Nat → Int32) → (Nat → Int32) → (Nat → Int32) → (Nat → Int32) → (Nat → Int32) → (Nat → Int32) → (Nat → Int32) → (Nat → Int32) → (Nat → Int32) → (Nat → Int32) → (Nat → Int32) → (Nat → Int32) → (Nat → Int32) → (Nat → Int32) → (Nat → Int32) → (Nat → Int32) → (Nat → Int32) → (Nat → Int32) → (Nat → Int32) → Prop} {a k b0 : Nat} {x5 x10 x1 : Int32} {S : Nat → Prop} (G : fd_G g a_what a_sign a_length a_ruleOf a_text) (A : fx_A g f_kept f_busyCount f_fartherCount a_been a_ends a_far a_begun a_todo a_busy a_farther) (ha : a < fd_n g) (hk : k < fd_L g a) (hb : b0 ≤ fd_m g) (hx : fb_rep x10 S) (hS : fo_in g S)
    (K0 : fd_S g a k ≤ 1 → J10 x10 0 (nI (k + 1)) (nI (fd_n g)) (nI (fd_m g)) f_studied f_empties f_bad f_kept f_busyCount f_fartherCount (nI b0) f_counted f_depth f_place f_nodes f_errors f_much a_what a_sign a_length a_ruleOf a_text a_begins a_firsts a_been a_ends a_far a_begun a_todo a_busy a_farther a_number a_now a_then a_order a_openAlternative a_openItem a_openCame a_openNode a_nodeRule a_nodeAlternative a_nodeFrom a_nodeTo a_nodeParent a_nodeParts a_errorKind a_errorPlace a_errorItem)
    (K1 : 1 < fd_S g a k → ∀ (x : Int32) (b : Nat) (ke bc fc : Int32) (be en fa bg td bu ft : Nat → Int32), fx_A g ke bc fc be en fa bg td bu ft → b ≤ fd_m g → fb_rep x (fs_Sr g (fs_lE g) (fd_W g a k) S) → fb_ub b (fun u => b0 ≤ u ∧ ∀ p, fs_Sr g (fs_lE g) (fd_W g a k) S p → fs_Ct g (fs_lF g) (fd_W g a k) p u) → J10 x 0 (nI (k + 1)) (nI (fd_n g)) (nI (fd_m g)) f_studied f_empties f_bad ke bc fc (nI b) f_counted f_depth f_place f_nodes f_errors f_much a_what a_sign a_length a_ruleOf a_text a_begins a_firsts be en fa bg td bu ft a_number a_now a_then a_order a_openAlternative a_openItem a_openCame a_openNode a_nodeRule a_nodeAlternative a_nodeFrom a_nodeTo a_nodeParent a_nodeParts a_errorKind a_errorPlace a_errorItem) :
    wX_rest_97 post J10 x1 (nI k) (nI (5 * a + k)) (nI (fd_S g a k)) x10 (nI (fd_n g)) (nI (fd_m g)) f_studied f_empties f_bad f_kept f_busyCount f_fartherCount (nI b0) f_counted f_depth f_place f_nodes f_errors f_much a_what a_sign a_length a_ruleOf a_text a_begins a_firsts a_been a_ends a_far a_begun a_todo a_busy a_farther a_number a_now a_then a_order a_openAlternative a_openItem a_openCame a_openNode a_nodeRule a_nodeAlternative a_nodeFrom a_nodeTo a_nodeParent a_nodeParts a_errorKind a_errorPlace a_errorItem := by
  have n12 := fd_n12 G
  have l5 := fd_L5 G ha
  have s4 := fd_S4 G ha hk
  refine pk_le (fd_S g a k) 1 (fun h => nm_r (nI_1 _) (K0 h)) (fun h => ⟨fx_in G ha hk, ?_⟩)
  rw [fx_wh G ha hk]
  exact fx_often G A (fd_W14 G ha hk) hb hx hS (fun x b ke bc fc be en fa bg td bu ft A' hb' r1 r2 => nm_r (nI_1 _) (K1 h x b _ _ _ _ _ _ _ _ _ _ A' hb' r1 r2))
theorem fx_item {post : Int32 → SX → Prop} {J10 : Int32 → Int32 → Int32 → Int32 → Int32 → Int32 → Int32 → Int32 → Int32 → Int32 → Int32 → Int32 → Int32 → Int32 → Int32 → Int32 → Int32 → Int32 → (Nat → Int32) → (Nat → Int32) → (Nat → Int32) → (Nat → Int32) → (Nat → Int32) → (Nat → Int32) → (Nat → Int32) → (Nat → Int32) → (Nat → Int32) → (Nat → Int32) → (Nat → Int32) → (Nat → Int32) → (Nat → Int32) → (Nat → Int32) → (Nat → Int32) → (Nat → Int32) → (Nat → Int32) → (Nat → Int32) → (Nat → Int32) → (Nat → Int32) → (Nat → Int32) → (Nat → Int32) → (Nat → Int32) → (Nat → Int32) → (Nat → Int32) → (Nat → Int32) → (Nat → Int32) → (Nat → Int32) → (Nat → Int32) → (Nat → Int32) → (Nat → Int32) → Prop} {a k b0 : Nat} {c : Bool} {x5 : Int32} {S : Nat → Prop} (G : fd_G g a_what a_sign a_length a_ruleOf a_text) (A : fx_A g f_kept f_busyCount f_fartherCount a_been a_ends a_far a_begun a_todo a_busy a_farther) (ha : a < fd_n g) (hk : k < fd_L g a) (hb : b0 ≤ fd_m g) (hx : fb_rep x5 S) (hS : fo_in g S)
    (K : ∀ (x : Int32) (b : Nat) (ke bc fc : Int32) (be en fa bg td bu ft : Nat → Int32), fx_A g ke bc fc be en fa bg td bu ft → b ≤ fd_m g → fb_rep x (fs_iS g (fs_lE g) a k c S) → fb_ub b (fun u => b0 ≤ u ∧ fs_iB g (fs_lE g) (fs_lF g) a k c S u) → J10 x 0 (nI (k + 1)) (nI (fd_n g)) (nI (fd_m g)) f_studied f_empties f_bad ke bc fc (nI b) f_counted f_depth f_place f_nodes f_errors f_much a_what a_sign a_length a_ruleOf a_text a_begins a_firsts be en fa bg td bu ft a_number a_now a_then a_order a_openAlternative a_openItem a_openCame a_openNode a_nodeRule a_nodeAlternative a_nodeFrom a_nodeTo a_nodeParent a_nodeParts a_errorKind a_errorPlace a_errorItem) :
    (nI (fd_S g a k) = 3 → (fb_i c = 0 → wX_rest_59 post J10 (nI a) x5 (nI k) (nI (5 * a + k)) (nI (fd_S g a k)) (nI (fd_n g)) (nI (fd_m g)) f_studied f_empties f_bad f_kept f_busyCount f_fartherCount (nI b0) f_counted f_depth f_place f_nodes f_errors f_much a_what a_sign a_length a_ruleOf a_text a_begins a_firsts a_been a_ends a_far a_begun a_todo a_busy a_farther a_number a_now a_then a_order a_openAlternative a_openItem a_openCame a_openNode a_nodeRule a_nodeAlternative a_nodeFrom a_nodeTo a_nodeParent a_nodeParts a_errorKind a_errorPlace a_errorItem) ∧ (¬ fb_i c = 0 → wX_rest_72 post J10 (nI a) x5 (nI k) (nI (5 * a + k)) (nI (fd_S g a k)) x5 (nI (fd_n g)) (nI (fd_m g)) f_studied f_empties f_bad f_kept f_busyCount f_fartherCount (nI b0) f_counted f_depth f_place f_nodes f_errors f_much a_what a_sign a_length a_ruleOf a_text a_begins a_firsts a_been a_ends a_far a_begun a_todo a_busy a_farther a_number a_now a_then a_order a_openAlternative a_openItem a_openCame a_openNode a_nodeRule a_nodeAlternative a_nodeFrom a_nodeTo a_nodeParent a_nodeParts a_errorKind a_errorPlace a_errorItem)) ∧
    (¬ nI (fd_S g a k) = 3 → wX_rest_59 post J10 (nI a) x5 (nI k) (nI (5 * a + k)) (nI (fd_S g a k)) (nI (fd_n g)) (nI (fd_m g)) f_studied f_empties f_bad f_kept f_busyCount f_fartherCount (nI b0) f_counted f_depth f_place f_nodes f_errors f_much a_what a_sign a_length a_ruleOf a_text a_begins a_firsts a_been a_ends a_far a_begun a_todo a_busy a_farther a_number a_now a_then a_order a_openAlternative a_openItem a_openCame a_openNode a_nodeRule a_nodeAlternative a_nodeFrom a_nodeTo a_nodeParent a_nodeParts a_errorKind a_errorPlace a_errorItem) := by
  have n12 := fd_n12 G
  have l5 := fd_L5 G ha
  have s4 := fd_S4 G ha hk
  have w14 := fd_W14 G ha hk
  have thr : (fd_S g a k = 3 → c = false) → wX_rest_59 post J10 (nI a) x5 (nI k) (nI (5 * a + k)) (nI (fd_S g a k)) (nI (fd_n g)) (nI (fd_m g)) f_studied f_empties f_bad f_kept f_busyCount f_fartherCount (nI b0) f_counted f_depth f_place f_nodes f_errors f_much a_what a_sign a_length a_ruleOf a_text a_begins a_firsts a_been a_ends a_far a_begun a_todo a_busy a_farther a_number a_now a_then a_order a_openAlternative a_openItem a_openCame a_openNode a_nodeRule a_nodeAlternative a_nodeFrom a_nodeTo a_nodeParent a_nodeParts a_errorKind a_errorPlace a_errorItem := by
    intro hc
    refine ⟨fx_in G ha hk, ?_⟩
    rw [fx_wh G ha hk]
    refine fx_through G A w14 hb hx hS (fun x' b' ke' bc' fc' be' en' fa' bg' td' bu' ft' A' hb' r1 r2 => ?_)
    refine pk_eq (fd_S g a k) 1 (fun s1 => nm_e ?_) (fun s1 => ?_)
    · refine pk_eq (fd_S g a k) 2 (fun s2 => absurd s2 (by omega)) (fun s2 => ?_)
      have rx : fb_rep (x' ||| x5) (fs_iS g (fs_lE g) a k c S) := by
        rw [fs_iS1 s1]
        exact fb_rep_e (fb_rep_or r1 hx) fun q => ⟨fun z => z.elim Or.inr Or.inl, fun z => z.elim Or.inr Or.inl⟩
      refine fx_rest97 (x5 := x5) G A' ha hk hb' rx (fo_in_iS hS) (fun _ => ?_) (fun z => by omega)
      refine K _ _ _ _ _ _ _ _ _ _ _ _ A' hb' rx ?_
      exact fb_ub_e r2 fun u => by rw [fs_iB1 (g := g) (a := a) (k := k) (by omega)]
    · refine pk_eq (fd_S g a k) 2 (fun s2 => ?_) (fun s2 => ?_)
      · refine fx_rest97 (x5 := x5) G A' ha hk hb' hx hS (fun z => by omega) (fun _ x2 b2 ke2 bc2 fc2 be2 en2 fa2 bg2 td2 bu2 ft2 A2 hb2 q1 q2 => ?_)
        refine K _ _ _ _ _ _ _ _ _ _ _ _ A2 hb2 (by rw [fs_iS2 s2]; exact q1) ?_
        exact fb_ub_e (fb_ub_c r2 q2) fun u => by rw [fs_iB2 s2]; exact ⟨fun z => ⟨z.1.1, z.2⟩, fun z => ⟨⟨z.1, fun p hp => z.2 p (fs_Sr_b hp)⟩, z.2⟩⟩
      · rcases (by omega : fd_S g a k = 0 ∨ fd_S g a k = 3) with s0 | s3
        · have rx : fb_rep x' (fs_iS g (fs_lE g) a k c S) := by rw [fs_iS0 s0]; exact r1
          refine fx_rest97 (x5 := x5) G A' ha hk hb' rx (fo_in_iS hS) (fun _ => ?_) (fun z => by omega)
          refine K _ _ _ _ _ _ _ _ _ _ _ _ A' hb' rx ?_
          exact fb_ub_e r2 fun u => by rw [fs_iB1 (g := g) (a := a) (k := k) (by omega)]
        · have ec := hc s3
          subst ec
          refine fx_rest97 (x5 := x5) G A' ha hk hb' r1 (fo_in_On hS) (fun z => by omega) (fun _ x2 b2 ke2 bc2 fc2 be2 en2 fa2 bg2 td2 bu2 ft2 A2 hb2 q1 q2 => ?_)
          refine K _ _ _ _ _ _ _ _ _ _ _ _ A2 hb2 (by rw [fs_iS3f (by omega)]; exact q1) ?_
          exact fb_ub_e (fb_ub_c r2 q2) fun u => by rw [fs_iB3 (g := g) (a := a) (k := k) (by omega), fs_iS3f (g := g) (a := a) (k := k) (by omega)]; exact ⟨fun z => ⟨z.1.1, Or.inr z.1.2, z.2⟩, fun z => ⟨⟨z.1, z.2.1.elim (fun y => absurd y (by decide)) id⟩, z.2.2⟩⟩
  refine pk_eq (fd_S g a k) 3 (fun s3 => br_c (fun z => thr (fun _ => ?_)) (fun z => ?_)) (fun s3 => thr (fun z => absurd z s3))
  · cases c
    · rfl
    · exact absurd z (by decide)
  · have ec : c = true := by
      cases c
      · exact absurd rfl z
      · rfl
    subst ec
    refine pk_eq (fd_S g a k) 1 (fun s1 => by omega) (fun s1 => pk_eq (fd_S g a k) 2 (fun s2 => by omega) (fun s2 => ?_))
    refine fx_rest97 (x5 := x5) G A ha hk hb hx hS (fun z => by omega) (fun _ x2 b2 ke2 bc2 fc2 be2 en2 fa2 bg2 td2 bu2 ft2 A2 hb2 q1 q2 => ?_)
    refine K _ _ _ _ _ _ _ _ _ _ _ _ A2 hb2 (by rw [fs_iS3t (by omega)]; exact q1) ?_
    exact fb_ub_e q2 fun u => by rw [fs_iB3 (g := g) (a := a) (k := k) (by omega), fs_iS3t (g := g) (a := a) (k := k) (by omega)]; exact ⟨fun z => ⟨z.1, Or.inl rfl, z.2⟩, fun z => ⟨z.1, z.2.2⟩⟩
theorem fx_rest10 {post : Int32 → SX → Prop} {a : Nat} (G : fd_G g a_what a_sign a_length a_ruleOf a_text) (ha : a < fd_n g) :
    ∀ d k n x5 b0 (c : Bool) (S : Nat → Prop) (ke bc fc : Int32) (be en fa bg td bu ft : Nat → Int32), k + d = fd_L g a → d < n → fx_A g ke bc fc be en fa bg td bu ft → b0 ≤ fd_m g → fb_rep x5 S → fo_in g S →
      (∀ (x : Int32) (b : Nat) (ke bc fc : Int32) (be en fa bg td bu ft : Nat → Int32), fx_A g ke bc fc be en fa bg td bu ft → b ≤ fd_m g → fb_rep x (fs_go g (fs_lE g) a d k c S) → fb_ub b (fun u => b0 ≤ u ∧ fs_gB g (fs_lE g) (fs_lF g) a d k c S u) → post x (nI (fd_n g), nI (fd_m g), f_studied, f_empties, f_bad, ke, bc, fc, nI b, f_counted, f_depth, f_place, f_nodes, f_errors, f_much, a_what, a_sign, a_length, a_ruleOf, a_text, a_begins, a_firsts, be, en, fa, bg, td, bu, ft, a_number, a_now, a_then, a_order, a_openAlternative, a_openItem, a_openCame, a_openNode, a_nodeRule, a_nodeAlternative, a_nodeFrom, a_nodeTo, a_nodeParent, a_nodeParts, a_errorKind, a_errorPlace, a_errorItem)) →
      wX_rest_10 post (nI a) n x5 (fb_i c) (nI k) (nI (fd_n g)) (nI (fd_m g)) f_studied f_empties f_bad ke bc fc (nI b0) f_counted f_depth f_place f_nodes f_errors f_much a_what a_sign a_length a_ruleOf a_text a_begins a_firsts be en fa bg td bu ft a_number a_now a_then a_order a_openAlternative a_openItem a_openCame a_openNode a_nodeRule a_nodeAlternative a_nodeFrom a_nodeTo a_nodeParent a_nodeParts a_errorKind a_errorPlace a_errorItem := by
  have n12 := fd_n12 G
  have m24 := fd_m24 G
  have l5 := fd_L5 G ha
  intro d
  induction d with
  | zero =>
    intro k n x5 b0 c S ke bc fc be en fa bg td bu ft hk hn A hb hx hS K
    obtain ⟨n, rfl⟩ : ∃ k, n = k + 1 := ⟨n - 1, by omega⟩
    refine ⟨vp_in_nI (by omega) (by omega), pk_le (fd_L g a) k (fun _ => ?_) (fun h => absurd h (by omega)) (hx := fx_le G ha)⟩
    exact K _ _ _ _ _ _ _ _ _ _ _ _ A hb hx (fun u => ⟨fun z => ⟨z, trivial⟩, fun z => z.1⟩)
  | succ d ih =>
    intro k n x5 b0 c S ke bc fc be en fa bg td bu ft hk hn A hb hx hS K
    obtain ⟨n, rfl⟩ : ∃ k, n = k + 1 := ⟨n - 1, by omega⟩
    refine ⟨vp_in_nI (by omega) (by omega), pk_le (fd_L g a) k (fun h => absurd h (by omega)) (fun hkl => ?_) (hx := fx_le G ha)⟩
    refine br_c (fun hz => ?_) (fun hz => nm_r (fx_5 a k) ⟨fx_in G ha hkl, nm_r (fx_sg G ha hkl) ?_⟩)
    · have nS : ∀ p, ¬ S p := fun p z => by
        have := (hx p (by have := hS p z; omega)).mpr z
        rw [hz, b_0] at this; exact absurd this (by decide)
      refine K _ _ _ _ _ _ _ _ _ _ _ _ A hb (fun p hp => ?_) (fun u => ⟨fun z => ⟨z, fo_gB_0 nS _ _ _ _⟩, fun z => z.1⟩)
      rw [hz, b_0]
      exact ⟨fun z => absurd z (by decide), fun z => absurd z (fo_go_0 nS _ _ _ _)⟩
    · refine fx_item (c := c) G A ha hkl hb hx hS (fun x' b' ke' bc' fc' be' en' fa' bg' td' bu' ft' A' hb' r1 r2 => ?_)
      refine ih (k + 1) n x' b' false _ _ _ _ _ _ _ _ _ _ _ (by omega) (by omega) A' hb' r1 (fo_in_iS hS) (fun x2 b2 ke2 bc2 fc2 be2 en2 fa2 bg2 td2 bu2 ft2 A2 hb2 q1 q2 => ?_)
      exact K _ _ _ _ _ _ _ _ _ _ _ _ A2 hb2 q1 (fb_ub_e (fb_ub_c r2 q2) fun u => ⟨fun z => ⟨z.1.1, z.1.2, z.2⟩, fun z => ⟨⟨z.1, z.2.1⟩, z.2.2⟩⟩)
theorem fx_rest {post : Int32 → SX → Prop} {a k b0 : Nat} {c : Bool} {y : Int32} {S : Nat → Prop} (G : fd_G g a_what a_sign a_length a_ruleOf a_text) (A : fx_A g f_kept f_busyCount f_fartherCount a_been a_ends a_far a_begun a_todo a_busy a_farther) (ha : a < fd_n g) (hk : k ≤ fd_L g a) (hb : b0 ≤ fd_m g) (hy : fb_rep y S) (hS : fo_in g S)
    (K : ∀ (x : Int32) (b : Nat) (ke bc fc : Int32) (be en fa bg td bu ft : Nat → Int32), fx_A g ke bc fc be en fa bg td bu ft → b ≤ fd_m g → fb_rep x (fs_go g (fs_lE g) a (fd_L g a - k) k c S) → fb_ub b (fun u => b0 ≤ u ∧ fs_gB g (fs_lE g) (fs_lF g) a (fd_L g a - k) k c S u) → post x (nI (fd_n g), nI (fd_m g), f_studied, f_empties, f_bad, ke, bc, fc, nI b, f_counted, f_depth, f_place, f_nodes, f_errors, f_much, a_what, a_sign, a_length, a_ruleOf, a_text, a_begins, a_firsts, be, en, fa, bg, td, bu, ft, a_number, a_now, a_then, a_order, a_openAlternative, a_openItem, a_openCame, a_openNode, a_nodeRule, a_nodeAlternative, a_nodeFrom, a_nodeTo, a_nodeParent, a_nodeParts, a_errorKind, a_errorPlace, a_errorItem)) :
    wpX_rest post (nI (fd_n g), nI (fd_m g), f_studied, f_empties, f_bad, f_kept, f_busyCount, f_fartherCount, nI b0, f_counted, f_depth, f_place, f_nodes, f_errors, f_much, a_what, a_sign, a_length, a_ruleOf, a_text, a_begins, a_firsts, a_been, a_ends, a_far, a_begun, a_todo, a_busy, a_farther, a_number, a_now, a_then, a_order, a_openAlternative, a_openItem, a_openCame, a_openNode, a_nodeRule, a_nodeAlternative, a_nodeFrom, a_nodeTo, a_nodeParent, a_nodeParts, a_errorKind, a_errorPlace, a_errorItem) (nI a) (nI k) (fb_i c) y :=
  ⟨fd_L g a - k + 1, fx_rest10 G ha (fd_L g a - k) k (fd_L g a - k + 1) y b0 c S _ _ _ _ _ _ _ _ _ _ (by omega) (by omega) A hb hy hS K⟩
/-- the open rules in the arrays -/
def fo_X (g : fd_Gr) (A I : Nat → Nat) (C : Nat → Bool) (d : Nat) (oa oi oc : Nat → Int32) : Prop :=
  d ≤ 60 ∧ ∀ i, i < d → oa i = nI (A i) ∧ A i < fd_n g ∧ oi i = nI (I i) ∧ I i ≤ fd_L g (A i) ∧ oc i = fb_i (C i)
theorem fx_onw9 {post : Int32 → SX → Prop} {OA OI : Nat → Nat} {OC : Nat → Bool} {pl : Nat} (G : fd_G g a_what a_sign a_length a_ruleOf a_text) (hpl : pl ≤ fd_m g) :
    ∀ d n x b0 (S P : Nat → Prop) (ke bc fc : Int32) (be en fa bg td bu ft : Nat → Int32), d < n → fo_X g OA OI OC d a_openAlternative a_openItem a_openCame → fx_A g ke bc fc be en fa bg td bu ft → b0 ≤ fd_m g → pl ≤ b0 → fb_rep x S → fo_in g S → fb_ub b0 P →
      (∀ (b : Nat) (ke bc fc : Int32) (be en fa bg td bu ft : Nat → Int32), fx_A g ke bc fc be en fa bg td bu ft → b ≤ fd_m g → post (nI (fo_v g (fo_S g (fs_lE g) OA OI OC d S) (fun u => P u ∧ fo_B g (fs_lE g) (fs_lF g) OA OI OC d S u) pl)) (nI (fd_n g), nI (fd_m g), f_studied, f_empties, f_bad, ke, bc, fc, nI b, f_counted, f_depth, nI pl, f_nodes, f_errors, f_much, a_what, a_sign, a_length, a_ruleOf, a_text, a_begins, a_firsts, be, en, fa, bg, td, bu, ft, a_number, a_now, a_then, a_order, a_openAlternative, a_openItem, a_openCame, a_openNode, a_nodeRule, a_nodeAlternative, a_nodeFrom, a_nodeTo, a_nodeParent, a_nodeParts, a_errorKind, a_errorPlace, a_errorItem)) →
      wX_onward_9 post n x (nI d - 1) (nI (fd_n g)) (nI (fd_m g)) f_studied f_empties f_bad ke bc fc (nI b0) f_counted f_depth (nI pl) f_nodes f_errors f_much a_what a_sign a_length a_ruleOf a_text a_begins a_firsts be en fa bg td bu ft a_number a_now a_then a_order a_openAlternative a_openItem a_openCame a_openNode a_nodeRule a_nodeAlternative a_nodeFrom a_nodeTo a_nodeParent a_nodeParts a_errorKind a_errorPlace a_errorItem := by
  have n12 := fd_n12 G
  have m24 := fd_m24 G
  intro d
  induction d with
  | zero =>
    intro n x b0 S P ke bc fc be en fa bg td bu ft hn hF A hb hpb hx hS hP K
    obtain ⟨n, rfl⟩ : ∃ k, n = k + 1 := ⟨n - 1, by omega⟩
    refine br_t (by decide) (nm_r (pk_sub hpb) (fb_br (by omega) (fun h0 => ?_) (fun h1 => ?_)))
    · have nS : ¬ S (fd_m g) := fun z => by rw [(hx _ (by omega)).mpr z] at h0; exact absurd h0 (by decide)
      have e := fo_v_f (g := g) (S := S) (pl := pl) nS (fb_ub_e hP (R := fun u => P u ∧ True) fun u => ⟨fun z => ⟨z, trivial⟩, fun z => z.1⟩)
      have := K b0 _ _ _ _ _ _ _ _ _ _ A hb
      rw [show fo_v g (fo_S g (fs_lE g) OA OI OC 0 S) (fun u => P u ∧ fo_B g (fs_lE g) (fs_lF g) OA OI OC 0 S u) pl = b0 - pl from e] at this
      exact this
    · have yS : S (fd_m g) := (hx _ (by omega)).mp h1
      have := K b0 _ _ _ _ _ _ _ _ _ _ A hb
      rw [show fo_v g (fo_S g (fs_lE g) OA OI OC 0 S) (fun u => P u ∧ fo_B g (fs_lE g) (fs_lF g) OA OI OC 0 S u) pl = fd_m g - pl + 1 from fo_v_t yS] at this
      rw [pk_sub hpl, nI_1]
      exact this
  | succ d ih =>
    intro n x b0 S P ke bc fc be en fa bg td bu ft hn hF A hb hpb hx hS hP K
    obtain ⟨n, rfl⟩ : ∃ k, n = k + 1 := ⟨n - 1, by omega⟩
    obtain ⟨hd, hF'⟩ := hF
    obtain ⟨f1, f2, f3, f4, f5⟩ := hF' d (by omega)
    rw [nI_pred]
    have vi : vp_in (nI d) 61 := vp_in_nI (by omega) (by omega)
    have go : wX_onward_41 post (wX_onward_9 post n) x (nI d) (fb_i (OC d)) (nI (OI d)) (nI (OA d)) (nI (fd_n g)) (nI (fd_m g)) f_studied f_empties f_bad ke bc fc (nI b0) f_counted f_depth (nI pl) f_nodes f_errors f_much a_what a_sign a_length a_ruleOf a_text a_begins a_firsts be en fa bg td bu ft a_number a_now a_then a_order a_openAlternative a_openItem a_openCame a_openNode a_nodeRule a_nodeAlternative a_nodeFrom a_nodeTo a_nodeParent a_nodeParts a_errorKind a_errorPlace a_errorItem := by
      refine fx_rest (f_place := nI pl) G A f2 f4 hb hx hS (fun x' b' ke' bc' fc' be' en' fa' bg' td' bu' ft' A' hb' r1 r2 => ?_)
      refine nm_r (e' := nI d - 1) ?_ ?_
      · rw [Int32.sub_eq_add_neg]
      · refine ih n x' b' _ (fun u => P u ∧ fs_gB g (fs_lE g) (fs_lF g) (OA d) (fd_L g (OA d) - OI d) (OI d) (OC d) S u) _ _ _ _ _ _ _ _ _ _ (by omega) ⟨by omega, fun i hi => hF' i (by omega)⟩ A' hb' ?_ r1 (fo_in_go hS) (fb_ub_c hP r2) (fun b2 ke2 bc2 fc2 be2 en2 fa2 bg2 td2 bu2 ft2 A2 hb2 => ?_)
        · have := ((r2 b').mp (Nat.le_refl _)).1; omega
        · have e : (fun u => (P u ∧ fs_gB g (fs_lE g) (fs_lF g) (OA d) (fd_L g (OA d) - OI d) (OI d) (OC d) S u) ∧ fo_B g (fs_lE g) (fs_lF g) OA OI OC d (fs_go g (fs_lE g) (OA d) (fd_L g (OA d) - OI d) (OI d) (OC d) S) u) = (fun u => P u ∧ fo_B g (fs_lE g) (fs_lF g) OA OI OC (d + 1) S u) := by
            funext u
            exact propext ⟨fun z => ⟨z.1.1, z.1.2, z.2⟩, fun z => ⟨⟨z.1, z.2.1⟩, z.2.2⟩⟩
          have := K b2 _ _ _ _ _ _ _ _ _ _ A2 hb2
          rw [← e] at this
          exact this
    refine br_f (nI_pos (by omega)) ⟨vi, vi, vi, ?_⟩
    rw [show (nI d).toNatClampNeg = d from nI_clamp (by omega), f1, f3, f5]
    cases hc : OC d
    · rw [hc] at go
      exact br_f (by decide) go
    · rw [hc] at go
      exact br_t rfl go
theorem fx_onward {post : Int32 → SX → Prop} {OA OI : Nat → Nat} {OC : Nat → Bool} {pl d b0 : Nat} {y : Int32} {S P : Nat → Prop} (G : fd_G g a_what a_sign a_length a_ruleOf a_text) (A : fx_A g f_kept f_busyCount f_fartherCount a_been a_ends a_far a_begun a_todo a_busy a_farther) (hpl : pl ≤ fd_m g) (hF : fo_X g OA OI OC d a_openAlternative a_openItem a_openCame) (hb : b0 ≤ fd_m g) (hpb : pl ≤ b0) (hy : fb_rep y S) (hS : fo_in g S) (hP : fb_ub b0 P)
    (K : ∀ (b : Nat) (ke bc fc : Int32) (be en fa bg td bu ft : Nat → Int32), fx_A g ke bc fc be en fa bg td bu ft → b ≤ fd_m g → post (nI (fo_v g (fo_S g (fs_lE g) OA OI OC d S) (fun u => P u ∧ fo_B g (fs_lE g) (fs_lF g) OA OI OC d S u) pl)) (nI (fd_n g), nI (fd_m g), f_studied, f_empties, f_bad, ke, bc, fc, nI b, f_counted, nI d, nI pl, f_nodes, f_errors, f_much, a_what, a_sign, a_length, a_ruleOf, a_text, a_begins, a_firsts, be, en, fa, bg, td, bu, ft, a_number, a_now, a_then, a_order, a_openAlternative, a_openItem, a_openCame, a_openNode, a_nodeRule, a_nodeAlternative, a_nodeFrom, a_nodeTo, a_nodeParent, a_nodeParts, a_errorKind, a_errorPlace, a_errorItem)) :
    wpX_onward post (nI (fd_n g), nI (fd_m g), f_studied, f_empties, f_bad, f_kept, f_busyCount, f_fartherCount, nI b0, f_counted, nI d, nI pl, f_nodes, f_errors, f_much, a_what, a_sign, a_length, a_ruleOf, a_text, a_begins, a_firsts, a_been, a_ends, a_far, a_begun, a_todo, a_busy, a_farther, a_number, a_now, a_then, a_order, a_openAlternative, a_openItem, a_openCame, a_openNode, a_nodeRule, a_nodeAlternative, a_nodeFrom, a_nodeTo, a_nodeParent, a_nodeParts, a_errorKind, a_errorPlace, a_errorItem) y :=
  nm_e ⟨d + 1, fx_onw9 G hpl d (d + 1) y b0 S P _ _ _ _ _ _ _ _ _ _ (by omega) hF A hb hpb hy hS hP K⟩
end
end
section
/-- Y's ends and far hold E and F -/
def fy_EF (g : fd_Gr) (E : Nat → Nat → Nat → Prop) (F : Nat → Nat → Nat) (en fa : Nat → Int32) : Prop :=
  (∀ r p, r < 6 → p ≤ fd_m g → fb_rep (en (25 * r + p)) (E r p) ∧ fa (25 * r + p) = nI (F r p) ∧ F r p ≤ fd_m g) ∧ (∀ r p q, p ≤ fd_m g → E r p q → q ≤ fd_m g)
section
variable {g : fd_Gr} {E : Nat → Nat → Nat → Prop} {F : Nat → Nat → Nat}
variable {g_known g_counted g_places g_best g_made g_faults g_place g_depth g_much : Int32} {b_ruleOf b_sizes b_items b_signs b_text b_ends b_far b_empty b_begins b_starts b_follow b_nodes b_errors b_openNode b_openAlt b_openItem b_came : Nat → Int32} {b_derivations b_row b_layer b_next b_sum : Nat → Int64}
theorem fy_St {en fa : Nat → Int32} (H : fy_EF g E F en fa) (w p q : Nat) (hp : p ≤ fd_m g) (z : fs_St g E w p q) : q ≤ fd_m g := by
  rcases z with ⟨_, h, _, rfl⟩ | ⟨_, h⟩
  · omega
  · exact H.2 _ _ _ hp h
theorem fy_in_On {en fa : Nat → Int32} (H : fy_EF g E F en fa) {w : Nat} {S : Nat → Prop} (h : fo_in g S) : fo_in g (fs_On g E w S) := fun _ ⟨p, hp, z⟩ => fy_St H w p _ (h p hp) z
theorem fy_in_Sr {en fa : Nat → Int32} (H : fy_EF g E F en fa) {w : Nat} {S : Nat → Prop} (h : fo_in g S) : fo_in g (fs_Sr g E w S) := fun _ z => z (fun p => p ≤ fd_m g) h (fy_St H w)
theorem fy_in_iS {en fa : Nat → Int32} (H : fy_EF g E F en fa) {a k : Nat} {c : Bool} {S : Nat → Prop} (h : fo_in g S) : fo_in g (fs_iS g E a k c S) := fun _ z => fs_iS_in (I := fun p => p ≤ fd_m g) (fy_St H) h z
theorem fy_in_go {en fa : Nat → Int32} (H : fy_EF g E F en fa) {a d k : Nat} {c : Bool} {S : Nat → Prop} (h : fo_in g S) : fo_in g (fs_go g E a d k c S) := fun _ z => fs_go_in (I := fun p => p ≤ fd_m g) (fy_St H) d k c S h _ z
theorem fy_sin5 {post : Int32 → SY → Prop} {w b0 : Nat} {y : Int32} {S : Nat → Prop} (G : fd_G g b_items b_signs b_sizes b_ruleOf b_text) (H : fy_EF g E F b_ends b_far) (hw : w < 14) (hy : fb_rep y S) (hS : fo_in g S)
    (K : ∀ (x : Int32) (b : Nat), b ≤ fd_m g → fb_rep x (fs_On g E w S) → fb_ub b (fun u => b0 ≤ u ∧ ∀ p, S p → fs_Ct g F w p u) → post x (nI (fd_n g), nI (fd_m g), g_known, g_counted, g_places, nI b, g_made, g_faults, g_place, g_depth, g_much, b_ruleOf, b_sizes, b_items, b_signs, b_text, b_ends, b_far, b_empty, b_begins, b_starts, b_follow, b_derivations, b_row, b_layer, b_next, b_nodes, b_errors, b_openNode, b_openAlt, b_openItem, b_came, b_sum)) :
    ∀ d p n x b, p + d = fd_m g + 1 → d < n → b ≤ fd_m g → fb_rep x (fun q => ∃ p', p' < p ∧ S p' ∧ fs_St g E w p' q) → fb_ub b (fun u => b0 ≤ u ∧ ∀ p', p' < p → S p' → fs_Ct g F w p' u) →
      wY_single_5 post (nI w) y (nI (fd_n g)) (nI (fd_m g)) g_known g_counted g_places g_made g_faults g_place g_depth g_much b_ruleOf b_sizes b_items b_signs b_text b_ends b_far b_empty b_begins b_starts b_follow b_derivations b_row b_layer b_next b_nodes b_errors b_openNode b_openAlt b_openItem b_came b_sum n x (nI p) (nI b) := by
  have n12 := fd_n12 G
  have m24 := fd_m24 G
  intro d
  induction d with
  | zero =>
    intro p n x b hp hn hb h1 h2
    obtain ⟨n, rfl⟩ : ∃ k, n = k + 1 := ⟨n - 1, by omega⟩
    refine pk_lt (fd_m g) p (fun _ => ?_) (fun h => absurd h (by omega))
    refine K _ _ hb (fb_rep_e h1 fun q => ⟨fun ⟨p', _, z⟩ => ⟨p', z⟩, fun ⟨p', z1, z2⟩ => ⟨p', ?_, z1, z2⟩⟩) (fb_ub_e h2 fun u => ⟨fun z => ⟨z.1, fun p' z1 => z.2 p' ?_ z1⟩, fun z => ⟨z.1, fun p' _ z1 => z.2 p' z1⟩⟩)
    · have := hS p' z1; omega
    · have := hS p' z1; omega
  | succ d ih =>
    intro p n x b hp hn hb h1 h2
    obtain ⟨n, rfl⟩ : ∃ k, n = k + 1 := ⟨n - 1, by omega⟩
    refine pk_lt (fd_m g) p (fun h => absurd h (by omega)) (fun hl => ?_)
    have same : (∀ q, S p → ¬ fs_St g E w p q) → (S p → ∀ u, fs_Ct g F w p u) → wY_single_5 post (nI w) y (nI (fd_n g)) (nI (fd_m g)) g_known g_counted g_places g_made g_faults g_place g_depth g_much b_ruleOf b_sizes b_items b_signs b_text b_ends b_far b_empty b_begins b_starts b_follow b_derivations b_row b_layer b_next b_nodes b_errors b_openNode b_openAlt b_openItem b_came b_sum n x (nI (p + 1)) (nI b) := by
      intro s1 s2
      refine ih (p + 1) n x b (by omega) (by omega) hb (fb_rep_e h1 fun q => ⟨fun ⟨p', z1, z2, z3⟩ => ⟨p', by omega, z2, z3⟩, fun ⟨p', z1, z2, z3⟩ => ⟨p', ?_, z2, z3⟩⟩) (fb_ub_e h2 fun u => ⟨fun z => ⟨z.1, fun p' z1 z2 => ?_⟩, fun z => ⟨z.1, fun p' z1 z2 => z.2 p' (by omega) z2⟩⟩)
      · rcases Nat.lt_or_ge p' p with t | t
        · exact t
        · have e : p' = p := by omega
          subst e; exact absurd z3 (s1 q z2)
      · rcases Nat.lt_or_ge p' p with t | t
        · exact z.2 p' t z2
        · have e : p' = p := by omega
          subst e; exact s2 z2 u
    refine fb_br (by omega) (fun hb0 => ?_) (fun hb1 => ?_)
    · have nS : ¬ S p := fun z => by rw [(hy p (by omega)).mpr z] at hb0; exact absurd hb0 (by decide)
      exact nm_r (nI_1 _) (same (fun _ z => absurd z nS) (fun z => absurd z nS))
    · have yS : S p := (hy p (by omega)).mp hb1
      have step : ∀ (x' : Int32) (b' : Nat) (T : Nat → Prop), fb_rep x' (fun q => (∃ p', p' < p ∧ S p' ∧ fs_St g E w p' q) ∨ T q) → (∀ q, T q ↔ fs_St g E w p q) → fb_ub b' (fun u => b ≤ u ∧ fs_Ct g F w p u) →
          fb_rep x' (fun q => ∃ p', p' < p + 1 ∧ S p' ∧ fs_St g E w p' q) ∧ fb_ub b' (fun u => b0 ≤ u ∧ ∀ p', p' < p + 1 → S p' → fs_Ct g F w p' u) := by
        intro x' b' T r1 r2 r3
        refine ⟨fb_rep_e r1 fun q => ⟨fun z => ?_, fun ⟨p', z1, z2, z3⟩ => ?_⟩, fb_ub_e (fb_ub_c h2 r3) fun u => ⟨fun z => ⟨z.1.1, fun p' z1 z2 => ?_⟩, fun z => ⟨⟨z.1, fun p' z1 z2 => z.2 p' (by omega) z2⟩, z.2 p (by omega) yS⟩⟩⟩
        · rcases z with ⟨p', z1, z2, z3⟩ | z
          · exact ⟨p', by omega, z2, z3⟩
          · exact ⟨p, by omega, yS, (r2 q).mp z⟩
        · rcases Nat.lt_or_ge p' p with t | t
          · exact Or.inl ⟨p', t, z2, z3⟩
          · have e : p' = p := by omega
            subst e; exact Or.inr ((r2 q).mpr z3)
        · rcases Nat.lt_or_ge p' p with t | t
          · exact z.1.2 p' t z2
          · have e : p' = p := by omega
            subst e; exact z.2
      refine pk_le w 7 (fun hw7 => ?_) (fun hw7 => ?_)
      · refine pk_le (fd_m g) p (fun hpm => ?_) (fun hpm => ⟨vp_in_nI (by omega) (by omega), ?_⟩)
        · refine nm_r (nI_1 _) (same (fun q _ z => ?_) (fun _ u => ⟨fun _ z => by omega, fun z => by omega⟩))
          rcases z with z | z <;> omega
        · have t8 := fd_T8 G hpm
          refine pk_eq (fd_T g p) w (fun ht => ?_) (fun ht => ?_) (hx := fx_tx G hpm)
          · have hT : ∀ q, (q = p + 1) ↔ fs_St g E w p q := fun q => ⟨fun z => Or.inl ⟨by omega, hpm, ht, z⟩, fun z => by rcases z with z | z <;> omega⟩
            rw [nI_1 p]
            have hx : fb_rep (x ||| ((1 : Int32) <<< (nI (p + 1) &&& 31))) (fun q => (∃ p', p' < p ∧ S p' ∧ fs_St g E w p' q) ∨ q = p + 1) := fb_rep_or h1 (fb_rep_one (by omega))
            refine nm_e (pk_le (p + 1) b (fun hlt => ?_) (fun hge => ?_))
            · have ub : fb_ub b (fun u => b ≤ u ∧ fs_Ct g F w p u) := fun u => ⟨fun z => ⟨z, fun _ _ _ => by omega, fun z => by omega⟩, fun z => z.1⟩
              obtain ⟨r1, r2⟩ := step _ b _ hx hT ub
              exact nm_e (ih (p + 1) n _ b (by omega) (by omega) hb r1 r2)
            · have ub : fb_ub (p + 1) (fun u => b ≤ u ∧ fs_Ct g F w p u) := fun u => ⟨fun z => ⟨by omega, fun _ _ _ => z, fun z => by omega⟩, fun z => z.2.1 (by omega) hpm ht⟩
              obtain ⟨r1, r2⟩ := step _ (p + 1) _ hx hT ub
              exact nm_e (nm_e (ih (p + 1) n _ (p + 1) (by omega) (by omega) (by omega) r1 r2))
          · refine nm_r (nI_1 _) (same (fun q _ z => ?_) (fun _ u => ⟨fun _ _ z => absurd z ht, fun z => by omega⟩))
            rcases z with z | z
            · exact ht z.2.2.1
            · omega
      · rw [fx_m8 hw7]
        obtain ⟨e1, e2, lm⟩ := H.1 (w - 8) p (by omega) (by omega)
        rw [fx_25]
        refine ⟨vp_in_nI (by omega) (by omega), ?_⟩
        rw [show (nI (25 * (w - 8) + p)).toNatClampNeg = 25 * (w - 8) + p from nI_clamp (by omega)]
        have hT : ∀ q, E (w - 8) p q ↔ fs_St g E w p q := fun q => ⟨fun z => Or.inr ⟨by omega, z⟩, fun z => by
          rcases z with z | z
          · omega
          · exact z.2⟩
        refine nm_e ⟨vp_in_nI (by omega) (by omega), pk_le (F (w - 8) p) b (fun hle => ?_) (fun hgt => ⟨vp_in_nI (by omega) (by omega), ?_⟩) (hx := e2)⟩
        · have ub : fb_ub b (fun u => b ≤ u ∧ fs_Ct g F w p u) := fun u => ⟨fun z => ⟨z, fun z => by omega, fun _ => by omega⟩, fun z => z.1⟩
          obtain ⟨r1, r2⟩ := step _ b _ (fb_rep_or h1 e1) hT ub
          exact nm_r (nI_1 _) (ih (p + 1) n _ b (by omega) (by omega) hb r1 r2)
        · have ub : fb_ub (F (w - 8) p) (fun u => b ≤ u ∧ fs_Ct g F w p u) := fun u => ⟨fun z => ⟨by omega, fun z => by omega, fun _ => z⟩, fun z => z.2.2 (by omega)⟩
          obtain ⟨r1, r2⟩ := step _ _ _ (fb_rep_or h1 e1) hT ub
          exact nm_r e2 (nm_r (nI_1 _) (ih (p + 1) n _ _ (by omega) (by omega) lm r1 r2))
theorem fy_single {post : Int32 → SY → Prop} {w b0 : Nat} {y : Int32} {S : Nat → Prop} (G : fd_G g b_items b_signs b_sizes b_ruleOf b_text) (H : fy_EF g E F b_ends b_far) (hw : w < 14) (hb : b0 ≤ fd_m g) (hy : fb_rep y S) (hS : fo_in g S)
    (K : ∀ (x : Int32) (b : Nat), b ≤ fd_m g → fb_rep x (fs_On g E w S) → fb_ub b (fun u => b0 ≤ u ∧ ∀ p, S p → fs_Ct g F w p u) → post x (nI (fd_n g), nI (fd_m g), g_known, g_counted, g_places, nI b, g_made, g_faults, g_place, g_depth, g_much, b_ruleOf, b_sizes, b_items, b_signs, b_text, b_ends, b_far, b_empty, b_begins, b_starts, b_follow, b_derivations, b_row, b_layer, b_next, b_nodes, b_errors, b_openNode, b_openAlt, b_openItem, b_came, b_sum)) :
    wpY_single post (nI (fd_n g), nI (fd_m g), g_known, g_counted, g_places, nI b0, g_made, g_faults, g_place, g_depth, g_much, b_ruleOf, b_sizes, b_items, b_signs, b_text, b_ends, b_far, b_empty, b_begins, b_starts, b_follow, b_derivations, b_row, b_layer, b_next, b_nodes, b_errors, b_openNode, b_openAlt, b_openItem, b_came, b_sum) (nI w) y :=
  ⟨fd_m g + 2, fy_sin5 G H hw hy hS K (fd_m g + 1) 0 (fd_m g + 2) 0 b0 (by omega) (by omega) hb (fb_rep_e fb_rep_0 fun q => ⟨fun z => z.elim, fun ⟨p', z, _⟩ => by omega⟩) (fun u => ⟨fun z => ⟨z, fun p' z => by omega⟩, fun z => z.1⟩)⟩
theorem fy_once {post : SY → Prop} {w b0 : Nat} {y : Int32} {S : Nat → Prop} (G : fd_G g b_items b_signs b_sizes b_ruleOf b_text) (H : fy_EF g E F b_ends b_far) (hw : w < 14) (hb : b0 ≤ fd_m g) (hy : fb_rep y S) (hS : fo_in g S)
    (K : ∀ (x : Int32) (b : Nat), b ≤ fd_m g → fb_rep x (fs_On g E w S) → fb_ub b (fun u => b0 ≤ u ∧ ∀ p, S p → fs_Ct g F w p u) → post (nI (fd_n g), nI (fd_m g), g_known, g_counted, x, nI b, g_made, g_faults, g_place, g_depth, g_much, b_ruleOf, b_sizes, b_items, b_signs, b_text, b_ends, b_far, b_empty, b_begins, b_starts, b_follow, b_derivations, b_row, b_layer, b_next, b_nodes, b_errors, b_openNode, b_openAlt, b_openItem, b_came, b_sum)) :
    wpY_once post (nI (fd_n g), nI (fd_m g), g_known, g_counted, y, nI b0, g_made, g_faults, g_place, g_depth, g_much, b_ruleOf, b_sizes, b_items, b_signs, b_text, b_ends, b_far, b_empty, b_begins, b_starts, b_follow, b_derivations, b_row, b_layer, b_next, b_nodes, b_errors, b_openNode, b_openAlt, b_openItem, b_came, b_sum) (nI w) :=
  fy_single (g_places := y) G H hw hb hy hS (fun x b hb' r1 r2 => K x b hb' r1 r2)
theorem fy_aga2 {post : SY → Prop} {w b0 : Nat} {S : Nat → Prop} (G : fd_G g b_items b_signs b_sizes b_ruleOf b_text) (H : fy_EF g E F b_ends b_far) (hw : w < 14) (hS : fo_in g S)
    (K : ∀ (x : Int32) (b : Nat), b ≤ fd_m g → fb_rep x (fs_Sr g E w S) → fb_ub b (fun u => b0 ≤ u ∧ ∀ p, fs_Sr g E w S p → fs_Ct g F w p u) → post (nI (fd_n g), nI (fd_m g), g_known, g_counted, x, nI b, g_made, g_faults, g_place, g_depth, g_much, b_ruleOf, b_sizes, b_items, b_signs, b_text, b_ends, b_far, b_empty, b_begins, b_starts, b_follow, b_derivations, b_row, b_layer, b_next, b_nodes, b_errors, b_openNode, b_openAlt, b_openItem, b_came, b_sum)) :
    ∀ n y x b (T U : Nat → Prop), ((y = x ∧ 1 ≤ n) ∨ nf_M x + 2 ≤ n) → b ≤ fd_m g → fb_rep x T → fb_rep y U → (∀ p, S p → T p) → (∀ p, T p → fs_Sr g E w S p) → (∀ p, U p → T p) → (∀ p q, U p → fs_St g E w p q → T q) →
      fb_ub b (fun u => b0 ≤ u ∧ ∀ p, U p → fs_Ct g F w p u) →
      wY_again_2 post (nI w) n y (nI (fd_n g)) (nI (fd_m g)) g_known g_counted x (nI b) g_made g_faults g_place g_depth g_much b_ruleOf b_sizes b_items b_signs b_text b_ends b_far b_empty b_begins b_starts b_follow b_derivations b_row b_layer b_next b_nodes b_errors b_openNode b_openAlt b_openItem b_came b_sum := by
  have m24 := fd_m24 G
  intro n
  induction n with
  | zero => intro y x b T U hn; omega
  | succ n ih =>
    intro y x b T U hn hb hx hy h1 h2 h3 h4 h5
    have inT : fo_in g T := fun p z => fy_in_Sr H hS p (h2 p z)
    refine br_c (fun hz => ?_) (fun hz => ?_)
    · have eU : ∀ p, T p → U p := fun p z => by
        have := inT p z
        rw [← hy p (by omega), hz]; exact (hx p (by omega)).mpr z
      have eT : ∀ p, T p ↔ fs_Sr g E w S p := fun p => ⟨h2 p, fun z => z T h1 (fun p q tp st => h4 p q (eU p tp) st)⟩
      exact K _ _ hb (fb_rep_e hx eT) (fb_ub_e h5 fun u => ⟨fun z => ⟨z.1, fun p hp => z.2 p (eU p ((eT p).mpr hp))⟩, fun z => ⟨z.1, fun p hp => z.2 p ((eT p).mp (h3 p hp))⟩⟩)
    · refine fy_single (g_places := x) G H hw hb hx inT (fun x' b' hb' r1 r2 => nm_e ?_)
      refine ih x (x ||| x') b' (fun q => T q ∨ fs_On g E w T q) T ?_ hb' (fb_rep_or hx r1) hx (fun p z => Or.inl (h1 p z)) (fun p z => z.elim (h2 p) (fun ⟨q, hq, st⟩ => fs_Sr_s (h2 q hq) st)) (fun p z => Or.inl z) (fun p q z st => Or.inr ⟨p, z, st⟩) ?_
      · rcases hn with ⟨hn, _⟩ | hn
        · exact absurd hn hz
        · by_cases hf : x' &&& (x ^^^ (-1)) = 0
          · left
            refine ⟨?_, by omega⟩
            apply b_ext
            intro i hi
            have := fb_z.mp hf i hi
            rw [b_and, fb_not x hi] at this
            rw [b_or]
            revert this
            cases bt x i <;> cases bt x' i <;> decide
          · right
            have e : x ||| x' = x ||| (x' &&& (x ^^^ (-1))) := by
              apply b_ext
              intro i hi
              rw [b_or, b_or, b_and, fb_not x hi]
              cases bt x i <;> cases bt x' i <;> rfl
            have z : x &&& (x' &&& (x ^^^ (-1))) = 0 := by
              rw [fb_z]
              intro i hi
              rw [b_and, b_and, fb_not x hi]
              cases bt x i <;> cases bt x' i <;> rfl
            have := nf_gr x _ z hf
            rw [← e] at this
            omega
      · exact fb_ub_e (fb_ub_c h5 r2) fun u => ⟨fun z => ⟨z.1.1, z.2⟩, fun z => ⟨⟨z.1, fun p hp => z.2 p (h3 p hp)⟩, z.2⟩⟩
theorem fy_again {post : SY → Prop} {w b0 : Nat} {x : Int32} {S : Nat → Prop} (G : fd_G g b_items b_signs b_sizes b_ruleOf b_text) (H : fy_EF g E F b_ends b_far) (hw : w < 14) (hb : b0 ≤ fd_m g) (hx : fb_rep x S) (hS : fo_in g S)
    (K : ∀ (x : Int32) (b : Nat), b ≤ fd_m g → fb_rep x (fs_Sr g E w S) → fb_ub b (fun u => b0 ≤ u ∧ ∀ p, fs_Sr g E w S p → fs_Ct g F w p u) → post (nI (fd_n g), nI (fd_m g), g_known, g_counted, x, nI b, g_made, g_faults, g_place, g_depth, g_much, b_ruleOf, b_sizes, b_items, b_signs, b_text, b_ends, b_far, b_empty, b_begins, b_starts, b_follow, b_derivations, b_row, b_layer, b_next, b_nodes, b_errors, b_openNode, b_openAlt, b_openItem, b_came, b_sum)) :
    wpY_again post (nI (fd_n g), nI (fd_m g), g_known, g_counted, x, nI b0, g_made, g_faults, g_place, g_depth, g_much, b_ruleOf, b_sizes, b_items, b_signs, b_text, b_ends, b_far, b_empty, b_begins, b_starts, b_follow, b_derivations, b_row, b_layer, b_next, b_nodes, b_errors, b_openNode, b_openAlt, b_openItem, b_came, b_sum) (nI w) :=
  ⟨nf_M x + 2, fy_aga2 G H hw hS K (nf_M x + 2) 0 x b0 S (fun _ => False) (Or.inr (Nat.le_refl _)) hb hx fb_rep_0 (fun _ z => z) (fun _ z => fs_Sr_b z) (fun _ z => z.elim) (fun _ _ z => z.elim) (fun u => ⟨fun z => ⟨z, fun _ z => z.elim⟩, fun z => z.1⟩)⟩
theorem fy_go6 {post : SY → Prop} {a : Nat} (G : fd_G g b_items b_signs b_sizes b_ruleOf b_text) (H : fy_EF g E F b_ends b_far) (ha : a < fd_n g) :
    ∀ d k n x b0 (S : Nat → Prop), k + d = fd_L g a → d < n → b0 ≤ fd_m g → fb_rep x S → fo_in g S →
      (∀ (x : Int32) (b : Nat), b ≤ fd_m g → fb_rep x (fs_go g E a d k false S) → fb_ub b (fun u => b0 ≤ u ∧ fs_gB g E F a d k false S u) → post (nI (fd_n g), nI (fd_m g), g_known, g_counted, x, nI b, g_made, g_faults, g_place, g_depth, g_much, b_ruleOf, b_sizes, b_items, b_signs, b_text, b_ends, b_far, b_empty, b_begins, b_starts, b_follow, b_derivations, b_row, b_layer, b_next, b_nodes, b_errors, b_openNode, b_openAlt, b_openItem, b_came, b_sum)) →
      wY_go_6 post (nI a) n (nI (5 * a + k)) (nI (fd_n g)) (nI (fd_m g)) g_known g_counted x (nI b0) g_made g_faults g_place g_depth g_much b_ruleOf b_sizes b_items b_signs b_text b_ends b_far b_empty b_begins b_starts b_follow b_derivations b_row b_layer b_next b_nodes b_errors b_openNode b_openAlt b_openItem b_came b_sum := by
  have n12 := fd_n12 G
  have m24 := fd_m24 G
  have l5 := fd_L5 G ha
  have e5 : (5 : Int32) * nI a + b_sizes (nI a).toNatClampNeg = nI (5 * a + fd_L g a) := by rw [fx_le G ha, fx_5]
  intro d
  induction d with
  | zero =>
    intro k n x b0 S hk hn hb hx hS K
    obtain ⟨n, rfl⟩ : ∃ k, n = k + 1 := ⟨n - 1, by omega⟩
    refine ⟨vp_in_nI (by omega) (by omega), pk_le (5 * a + fd_L g a) (5 * a + k) (fun _ => ?_) (fun h => absurd h (by omega)) (hx := e5)⟩
    exact K _ _ hb hx (fun u => ⟨fun z => ⟨z, trivial⟩, fun z => z.1⟩)
  | succ d ih =>
    intro k n x b0 S hk hn hb hx hS K
    obtain ⟨n, rfl⟩ : ∃ k, n = k + 1 := ⟨n - 1, by omega⟩
    refine ⟨vp_in_nI (by omega) (by omega), pk_le (5 * a + fd_L g a) (5 * a + k) (fun h => absurd h (by omega)) (fun hlt => ?_) (hx := e5)⟩
    have hk' : k < fd_L g a := by omega
    have s4 := fd_S4 G ha hk'
    have w14 := fd_W14 G ha hk'
    have vi := fx_in G ha hk'
    have next : ∀ (x' : Int32) (b' : Nat), b' ≤ fd_m g → fb_rep x' (fs_iS g E a k false S) → fb_ub b' (fun u => b0 ≤ u ∧ fs_iB g E F a k false S u) → wY_go_6 post (nI a) n (nI (5 * a + k + 1)) (nI (fd_n g)) (nI (fd_m g)) g_known g_counted x' (nI b') g_made g_faults g_place g_depth g_much b_ruleOf b_sizes b_items b_signs b_text b_ends b_far b_empty b_begins b_starts b_follow b_derivations b_row b_layer b_next b_nodes b_errors b_openNode b_openAlt b_openItem b_came b_sum := by
      intro x' b' hb' r1 r2
      refine ih (k + 1) n x' b' _ (by omega) (by omega) hb' r1 (fy_in_iS H hS) (fun x2 b2 hb2 q1 q2 => ?_)
      exact K _ _ hb2 q1 (fb_ub_e (fb_ub_c r2 q2) fun u => ⟨fun z => ⟨z.1.1, z.1.2, z.2⟩, fun z => ⟨⟨z.1, z.2.1⟩, z.2.2⟩⟩)
    refine ⟨vi, pk_eq (fd_S g a k) 2 (fun s2 => ?_) (fun s2 => ⟨vi, ?_⟩) (hx := fx_sg G ha hk')⟩
    · refine ⟨vi, pk_eq (fd_S g a k) 1 (fun s1 => by omega) (fun s1 => ⟨vi, ?_⟩) (hx := fx_sg G ha hk')⟩
      refine pk_lt (fd_S g a k) 2 (fun z => by omega) (fun _ => ⟨vi, ?_⟩) (hx := fx_sg G ha hk')
      rw [fx_wh G ha hk']
      refine fy_again G H w14 hb hx hS (fun x' b' hb' r1 r2 => nm_r (nI_1 _) (next x' b' hb' (by rw [fs_iS2 s2]; exact r1) ?_))
      exact fb_ub_e r2 fun u => by rw [fs_iB2 s2]
    · rw [fx_wh G ha hk']
      refine fy_once G H w14 hb hx hS (fun x' b' hb' r1 r2 => ?_)
      refine ⟨vi, pk_eq (fd_S g a k) 1 (fun s1 => nm_e ⟨vi, ?_⟩) (fun s1 => ⟨vi, ?_⟩) (hx := fx_sg G ha hk')⟩
      · refine pk_lt (fd_S g a k) 2 (fun z => ?_) (fun z => by omega) (hx := fx_sg G ha hk')
        refine nm_r (nI_1 _) (next _ b' hb' ?_ (fb_ub_e r2 fun u => by rw [fs_iB1 (g := g) (a := a) (k := k) (by omega)]))
        rw [fs_iS1 s1]
        exact fb_rep_e (fb_rep_or r1 hx) fun q => ⟨fun z => z.elim Or.inr Or.inl, fun z => z.elim Or.inr Or.inl⟩
      · refine pk_lt (fd_S g a k) 2 (fun z => ?_) (fun z => ⟨vi, ?_⟩) (hx := fx_sg G ha hk')
        · exact nm_r (nI_1 _) (next _ b' hb' (by rw [fs_iS0 (by omega)]; exact r1) (fb_ub_e r2 fun u => by rw [fs_iB1 (g := g) (a := a) (k := k) (by omega)]))
        · rw [fx_wh G ha hk']
          refine fy_again G H w14 hb' r1 (fy_in_On H hS) (fun x2 b2 hb2 q1 q2 => nm_r (nI_1 _) (next x2 b2 hb2 (by rw [fs_iS3f (by omega)]; exact q1) ?_))
          exact fb_ub_e (fb_ub_c r2 q2) fun u => by
            rw [fs_iB3 (g := g) (a := a) (k := k) (by omega), fs_iS3f (g := g) (a := a) (k := k) (by omega)]
            exact ⟨fun z => ⟨z.1.1, Or.inr z.1.2, z.2⟩, fun z => ⟨⟨z.1, z.2.1.elim (fun y => absurd y (by decide)) id⟩, z.2.2⟩⟩
theorem fy_go {post : SY → Prop} {a k b0 : Nat} {x : Int32} {S : Nat → Prop} (G : fd_G g b_items b_signs b_sizes b_ruleOf b_text) (H : fy_EF g E F b_ends b_far) (ha : a < fd_n g) (hk : k ≤ fd_L g a) (hb : b0 ≤ fd_m g) (hx : fb_rep x S) (hS : fo_in g S)
    (K : ∀ (x : Int32) (b : Nat), b ≤ fd_m g → fb_rep x (fs_go g E a (fd_L g a - k) k false S) → fb_ub b (fun u => b0 ≤ u ∧ fs_gB g E F a (fd_L g a - k) k false S u) → post (nI (fd_n g), nI (fd_m g), g_known, g_counted, x, nI b, g_made, g_faults, g_place, g_depth, g_much, b_ruleOf, b_sizes, b_items, b_signs, b_text, b_ends, b_far, b_empty, b_begins, b_starts, b_follow, b_derivations, b_row, b_layer, b_next, b_nodes, b_errors, b_openNode, b_openAlt, b_openItem, b_came, b_sum)) :
    wpY_go post (nI (fd_n g), nI (fd_m g), g_known, g_counted, x, nI b0, g_made, g_faults, g_place, g_depth, g_much, b_ruleOf, b_sizes, b_items, b_signs, b_text, b_ends, b_far, b_empty, b_begins, b_starts, b_follow, b_derivations, b_row, b_layer, b_next, b_nodes, b_errors, b_openNode, b_openAlt, b_openItem, b_came, b_sum) (nI a) (nI k) :=
  nm_r (fx_5 a k) ⟨fd_L g a - k + 1, fy_go6 G H ha (fd_L g a - k) k (fd_L g a - k + 1) x b0 S (by omega) (by omega) hb hx hS K⟩
end
end
section
def fy_E (g : fd_Gr) (en : Nat → Int32) (r p q : Nat) : Prop := r < 6 ∧ p ≤ fd_m g ∧ bt (en (25 * r + p)) q = true
def fy_F (g : fd_Gr) (fa : Nat → Int32) (r p : Nat) : Nat := if r < 6 ∧ p ≤ fd_m g then fq_v fa (25 * r + p) else p
def fy_I (g : fd_Gr) (en fa : Nat → Int32) : Prop :=
  (∀ r p q, fy_E g en r p q → fs_lE g r p q) ∧ (∀ r p, fy_F g fa r p ≤ fs_lF g r p) ∧ (∀ r p q, fy_E g en r p q → q ≤ fy_F g fa r p) ∧ (∀ r p, p ≤ fy_F g fa r p) ∧ (∀ r p, r < 6 → p ≤ fd_m g → fa (25 * r + p) = nI (fq_v fa (25 * r + p)))
def fy_cl (g : fd_Gr) (en fa : Nat → Int32) (a p : Nat) : Prop :=
  (∀ q, fs_go g (fy_E g en) a (fd_L g a) 0 false (fs_one p) q → fy_E g en (fd_R g a) p q) ∧ fs_gB g (fy_E g en) (fy_F g fa) a (fd_L g a) 0 false (fs_one p) (fy_F g fa (fd_R g a) p)
def fy_μ (en fa : Nat → Int32) : Nat := fc_sum (fun k => nf_M (en k)) 150 + fc_sum (fun k => 25 - fq_v fa k) 150
theorem nf_le (x y : Int32) : nf_M (x ||| y) ≤ nf_M x ∧ (¬ (x ||| y) = x → nf_M (x ||| y) < nf_M x) := by
  have e : x ||| y = x ||| (y &&& (x ^^^ (-1))) := by
    apply b_ext
    intro i hi
    rw [b_or, b_or, b_and, fb_not x hi]
    cases bt x i <;> cases bt y i <;> rfl
  have z : x &&& (y &&& (x ^^^ (-1))) = 0 := by
    rw [fb_z]
    intro i hi
    rw [b_and, b_and, fb_not x hi]
    cases bt x i <;> cases bt y i <;> rfl
  by_cases h : y &&& (x ^^^ (-1)) = 0
  · have e2 : x ||| y = x := by
      rw [e, h]
      apply b_ext
      intro i hi
      rw [b_or, b_0, Bool.or_false]
    exact ⟨by rw [e2]; exact Nat.le_refl _, fun c => absurd e2 c⟩
  · have := nf_gr x _ z h
    rw [← e] at this
    exact ⟨by omega, fun _ => this⟩
section
variable {g : fd_Gr} {en fa : Nat → Int32}
theorem fy_F_in {r p : Nat} (hr : r < 6) (hp : p ≤ fd_m g) : fy_F g fa r p = fq_v fa (25 * r + p) := if_pos ⟨hr, hp⟩
theorem fy_I_EF (I : fy_I g en fa) : fy_EF g (fy_E g en) (fy_F g fa) en fa := by
  refine ⟨fun r p hr hp => ⟨fun q hq => ⟨fun z => ⟨hr, hp, z⟩, fun z => z.2.2⟩, ?_, Nat.le_trans (I.2.1 r p) (fs_lF_m hp)⟩, fun r p q hp z => fs_lE_m hp (I.1 r p q z)⟩
  rw [fy_F_in hr hp]; exact I.2.2.2.2 r p hr hp
theorem fy_upd {r p b a : Nat} {x : Int32} (I : fy_I g en fa) (ha : a < fd_n g) (hr : r < 6) (hR : fd_R g a = r) (hp : p ≤ fd_m g) (hm : fd_m g ≤ 24) (hx : fb_rep x (fs_go g (fy_E g en) a (fd_L g a) 0 false (fs_one p))) (hb : fb_ub b (fun u => p ≤ u ∧ fs_gB g (fy_E g en) (fy_F g fa) a (fd_L g a) 0 false (fs_one p) u)) {f : Nat}
    (hf : f = if b ≤ fq_v fa (25 * r + p) then fq_v fa (25 * r + p) else b) :
    fy_I g (upd en (25 * r + p) (en (25 * r + p) ||| x)) (upd fa (25 * r + p) (nI f)) ∧ f ≤ fd_m g := by
  have bl : b ≤ fs_lF g r p := by
    rw [hb]
    refine ⟨(fs_least g).1 r p, ?_⟩
    have := ((fs_least g).2.2 a p ha hp).2
    rw [hR] at this
    exact fs_gB_m I.1 I.2.1 (Nat.le_refl _) _ _ _ _ _ (fun _ z => z) this
  have vl : fq_v fa (25 * r + p) ≤ fs_lF g r p := by have := I.2.1 r p; rw [fy_F_in hr hp] at this; exact this
  have fl : f ≤ fs_lF g r p := by rw [hf]; split <;> omega
  have fv : fq_v fa (25 * r + p) ≤ f := by rw [hf]; split <;> omega
  have fb : b ≤ f := by rw [hf]; split <;> omega
  have lm := fs_lF_m (g := g) (r := r) hp
  have f31 : f < 2 ^ 31 := by omega
  have eF : ∀ r' p', 25 * r' + p' = 25 * r + p → r' < 6 → p' ≤ fd_m g → fy_F g (upd fa (25 * r + p) (nI f)) r' p' = f := by
    intro r' p' e h1 h2
    rw [fy_F_in h1 h2, e, fq_v_s f31]
  have nF : ∀ r' p', ¬ (25 * r' + p' = 25 * r + p ∧ r' < 6 ∧ p' ≤ fd_m g) → fy_F g (upd fa (25 * r + p) (nI f)) r' p' = fy_F g fa r' p' := by
    intro r' p' e
    unfold fy_F
    split
    · next h => rw [fq_v_n (fun z => e ⟨z, h.1, h.2⟩)]
    · rfl
  have eE : ∀ r' p' q, fy_E g (upd en (25 * r + p) (en (25 * r + p) ||| x)) r' p' q → fy_E g en r' p' q ∨ (r' = r ∧ p' = p ∧ bt x q = true) := by
    intro r' p' q ⟨h1, h2, h3⟩
    by_cases e : 25 * r' + p' = 25 * r + p
    · have e1 : r' = r := by omega
      have e2 : p' = p := by omega
      subst e1 e2
      rw [pk_us, b_or, Bool.or_eq_true] at h3
      exact h3.elim (fun z => Or.inl ⟨h1, h2, z⟩) (fun z => Or.inr ⟨rfl, rfl, z⟩)
    · rw [pk_un e] at h3
      exact Or.inl ⟨h1, h2, h3⟩
  have mF : ∀ r' p', fy_F g fa r' p' ≤ fy_F g (upd fa (25 * r + p) (nI f)) r' p' := by
    intro r' p'
    by_cases c : 25 * r' + p' = 25 * r + p ∧ r' < 6 ∧ p' ≤ fd_m g
    · rw [eF r' p' c.1 c.2.1 c.2.2, fy_F_in c.2.1 c.2.2, c.1]; exact fv
    · rw [nF r' p' c]; exact Nat.le_refl _
  refine ⟨⟨fun r' p' q z => ?_, fun r' p' => ?_, fun r' p' q z => ?_, fun r' p' => Nat.le_trans (I.2.2.2.1 r' p') (mF r' p'), fun r' p' h1 h2 => ?_⟩, by omega⟩
  · rcases eE r' p' q z with z | ⟨rfl, rfl, z2⟩
    · exact I.1 _ _ _ z
    · have := (hx q (fb_lt z2)).mp z2
      rw [← hR]
      exact ((fs_least g).2.2 a p' ha hp).1 q (fs_go_m I.1 _ _ _ _ _ (fun _ z => z) q this)
  · by_cases c : 25 * r' + p' = 25 * r + p ∧ r' < 6 ∧ p' ≤ fd_m g
    · have e1 : r' = r := by omega
      have e2 : p' = p := by omega
      subst e1 e2
      rw [eF r' p' rfl hr hp]; exact fl
    · rw [nF r' p' c]; exact I.2.1 r' p'
  · rcases eE r' p' q z with z | ⟨rfl, rfl, z2⟩
    · exact Nat.le_trans (I.2.2.1 _ _ _ z) (mF r' p')
    · rw [eF r' p' rfl hr hp]
      have h1 := (hx q (fb_lt z2)).mp z2
      have hbb := (hb b).mp (Nat.le_refl _)
      exact Nat.le_trans (fs_go_le I.2.2.1 _ _ _ _ hbb.2 (fun y hy => by rw [show y = p' from hy]; exact hbb.1) q h1) fb
  · by_cases e : 25 * r' + p' = 25 * r + p
    · rw [e, pk_us, fq_v_s f31]
    · rw [pk_un e, fq_v_n e]; exact I.2.2.2.2 r' p' h1 h2
theorem fy_upd_μ {k f : Nat} {x : Int32} (hk : k < 150) (hf : fq_v fa k ≤ f) (h25 : f < 25) (h : ¬ (en k ||| x) = en k ∨ fq_v fa k < f) : fy_μ (upd en k (en k ||| x)) (upd fa k (nI f)) < fy_μ en fa := by
  have l := nf_le (en k) x
  have s1 : ∀ d, nf_M (en k ||| x) + d ≤ nf_M (en k) → fc_sum (fun i => nf_M (upd en k (en k ||| x) i)) 150 + d ≤ fc_sum (fun i => nf_M (en i)) 150 := fun d hd => fq_sum1 150 hk (by show nf_M (upd en k (en k ||| x) k) + d ≤ nf_M (en k); rw [pk_us]; exact hd) (fun i hn => by show nf_M (upd en k (en k ||| x) i) = nf_M (en i); rw [pk_un hn])
  have s2 : ∀ d, 25 - f + d ≤ 25 - fq_v fa k → fc_sum (fun i => 25 - fq_v (upd fa k (nI f)) i) 150 + d ≤ fc_sum (fun i => 25 - fq_v fa i) 150 := fun d hd => fq_sum1 150 hk (by show 25 - fq_v (upd fa k (nI f)) k + d ≤ 25 - fq_v fa k; rw [fq_v_s (by omega)]; exact hd) (fun i hn => by show 25 - fq_v (upd fa k (nI f)) i = 25 - fq_v fa i; rw [fq_v_n hn])
  unfold fy_μ
  rcases h with h | h
  · have := s1 1 (l.2 h)
    have := s2 0 (by omega)
    omega
  · have := s1 0 (by omega)
    have := s2 1 (by omega)
    omega
theorem fy_full {wh sg le ru tx : Nat → Int32} (G : fd_G g wh sg le ru tx) (I : fy_I g en fa) (h : ∀ a p, a < fd_n g → p ≤ fd_m g → fy_cl g en fa a p) : ∀ r p, r < 6 → p ≤ fd_m g → fb_rep (en (25 * r + p)) (fs_lE g r p) ∧ fa (25 * r + p) = nI (fs_lF g r p) := by
  have c : fs_Clo g (fy_E g en) (fy_F g fa) := ⟨I.2.2.2.1, I.2.2.1, fun a s ha hs => h a s ha hs⟩
  intro r p hr hp
  refine ⟨fun q hq => ⟨fun z => I.1 _ _ _ ⟨hr, hp, z⟩, fun z => (fs_lE_le c z).2.2⟩, ?_⟩
  have h1 := fs_lF_le c r p
  have h2 := I.2.1 r p
  rw [I.2.2.2.2 r p hr hp, ← fy_F_in hr hp, Nat.le_antisymm h2 h1]
variable {g_known g_counted g_places g_best g_made g_faults g_place g_depth g_much : Int32} {b_ruleOf b_sizes b_items b_signs b_text b_ends b_far b_empty b_begins b_starts b_follow b_nodes b_errors b_openNode b_openAlt b_openItem b_came : Nat → Int32} {b_derivations b_row b_layer b_next b_sum : Nat → Int64}
theorem fy_rea42 {post : SY → Prop} {J34 : Int32 → Int32 → Int32 → Int32 → Int32 → Int32 → Int32 → Int32 → Int32 → Int32 → Int32 → Int32 → (Nat → Int32) → (Nat → Int32) → (Nat → Int32) → (Nat → Int32) → (Nat → Int32) → (Nat → Int32) → (Nat → Int32) → (Nat → Int32) → (Nat → Int32) → (Nat → Int32) → (Nat → Int32) → (Nat → Int64) → (Nat → Int64) → (Nat → Int64) → (Nat → Int64) → (Nat → Int32) → (Nat → Int32) → (Nat → Int32) → (Nat → Int32) → (Nat → Int32) → (Nat → Int32) → (Nat → Int64) → Prop} {en0 fa0 : Nat → Int32} (G : fd_G g b_items b_signs b_sizes b_ruleOf b_text)
    (K : ∀ (x1 pl be : Int32) (en fa : Nat → Int32), fy_I g en fa → ((x1 = 0 ∧ ∀ a p, a < fd_n g → p ≤ fd_m g → fy_cl g en fa a p) ∨ (x1 = 1 ∧ fy_μ en fa < fy_μ en0 fa0)) → J34 x1 (nI (fd_n g)) (nI (fd_m g)) g_known g_counted pl be g_made g_faults g_place g_depth g_much b_ruleOf b_sizes b_items b_signs b_text en fa b_empty b_begins b_starts b_follow b_derivations b_row b_layer b_next b_nodes b_errors b_openNode b_openAlt b_openItem b_came b_sum) :
    ∀ d k n x1 pl be en fa, k + d = 25 * fd_n g → d < n → fy_I g en fa → ((x1 = 0 ∧ en = en0 ∧ fa = fa0 ∧ ∀ a p, a < fd_n g → p ≤ fd_m g → 25 * a + p < k → fy_cl g en fa a p) ∨ (x1 = 1 ∧ fy_μ en fa < fy_μ en0 fa0)) →
      wY_reach_42 post J34 n x1 (nI k) (nI (fd_n g)) (nI (fd_m g)) g_known g_counted pl be g_made g_faults g_place g_depth g_much b_ruleOf b_sizes b_items b_signs b_text en fa b_empty b_begins b_starts b_follow b_derivations b_row b_layer b_next b_nodes b_errors b_openNode b_openAlt b_openItem b_came b_sum := by
  have n12 := fd_n12 G
  have m24 := fd_m24 G
  have e25 : (25 : Int32) * nI (fd_n g) = nI (25 * fd_n g) := by rw [show (25 : Int32) = nI 25 from rfl, pk_mul]
  intro d
  induction d with
  | zero =>
    intro k n x1 pl be en fa hk hn I h
    obtain ⟨n, rfl⟩ : ∃ k, n = k + 1 := ⟨n - 1, by omega⟩
    refine pk_le (25 * fd_n g) k (fun _ => ?_) (fun h => absurd h (by omega)) (hx := e25)
    refine K _ _ _ _ _ I (h.elim (fun z => Or.inl ⟨z.1, fun a p ha hp => z.2.2.2 a p ha hp (by omega)⟩) Or.inr)
  | succ d ih =>
    intro k n x1 pl be en fa hk hn I h
    obtain ⟨n, rfl⟩ : ∃ k, n = k + 1 := ⟨n - 1, by omega⟩
    have d25 : nI k / 25 = nI (k / 25) := by rw [show (25 : Int32) = nI 25 from rfl, pk_div (by omega) (by omega) (by omega)]
    have r25 : nI k - nI k / 25 * 25 = nI (k % 25) := by rw [show (25 : Int32) = nI 25 from rfl]; exact pk_rem (by omega) (by omega) (by omega)
    have ha : k / 25 < fd_n g := by omega
    have r6 := fd_R6 G ha
    have l5 := fd_L5 G ha
    have skip : ∀ (pl be : Int32), (k % 25 ≤ fd_m g → fy_cl g en fa (k / 25) (k % 25)) → wY_reach_42 post J34 n x1 (nI (k + 1)) (nI (fd_n g)) (nI (fd_m g)) g_known g_counted pl be g_made g_faults g_place g_depth g_much b_ruleOf b_sizes b_items b_signs b_text en fa b_empty b_begins b_starts b_follow b_derivations b_row b_layer b_next b_nodes b_errors b_openNode b_openAlt b_openItem b_came b_sum := by
      intro pl be hc
      refine ih (k + 1) n x1 pl be en fa (by omega) (by omega) I (h.elim (fun z => Or.inl ⟨z.1, z.2.1, z.2.2.1, fun a p h1 h2 h3 => ?_⟩) Or.inr)
      rcases Nat.lt_or_ge (25 * a + p) k with y | y
      · exact z.2.2.2 a p h1 h2 y
      · have e1 : a = k / 25 := by omega
        have e2 : p = k % 25 := by omega
        rw [e1, e2]
        exact hc (by omega)
    refine pk_le (25 * fd_n g) k (fun h => absurd h (by omega)) (fun hl => ⟨by decide, nm_r d25 ⟨by decide, nm_r r25 ?_⟩⟩) (hx := e25)
    refine pk_le (k % 25) (fd_m g) (fun hp => ?_) (fun hp => nm_r (nI_1 _) (skip _ _ (fun z => by omega)))
    unfold wpY_begin
    refine nm_e ?_
    have HEF := fy_I_EF I
    refine fy_go (k := 0) G HEF ha (by omega) hp (fb_rep_one (by omega)) (fo_in_one hp) (fun x b hb r1 r2 => ?_)
    have ek : (25 : Int32) * b_ruleOf (nI (k / 25)).toNatClampNeg + nI (k % 25) = nI (25 * fd_R g (k / 25) + k % 25) := by rw [fx_ru G ha, fx_25]
    have vi : vp_in (nI (25 * fd_R g (k / 25) + k % 25)) 150 := vp_in_nI (by omega) (by omega)
    have vl : fq_v fa (25 * fd_R g (k / 25) + k % 25) ≤ fd_m g := by
      have := (HEF.1 _ _ r6 hp).2.2
      rw [fy_F_in r6 hp] at this; exact this
    have efa : fa (25 * fd_R g (k / 25) + k % 25) = nI (fq_v fa (25 * fd_R g (k / 25) + k % 25)) := I.2.2.2.2 _ _ r6 hp
    refine ⟨vp_in_nI (by omega) (by omega), nm_r ek ⟨vi, vi, ?_⟩⟩
    rw [show (nI (25 * fd_R g (k / 25) + k % 25)).toNatClampNeg = 25 * fd_R g (k / 25) + k % 25 from nI_clamp (by omega)]
    have more : (¬ (en (25 * fd_R g (k / 25) + k % 25) ||| x) = en (25 * fd_R g (k / 25) + k % 25) ∨ fq_v fa (25 * fd_R g (k / 25) + k % 25) < b) → wY_reach_141 post J34 (wY_reach_42 post J34 n) (nI k) (nI (25 * fd_R g (k / 25) + k % 25)) (nI (fd_n g)) (nI (fd_m g)) g_known g_counted x (nI b) g_made g_faults g_place g_depth g_much b_ruleOf b_sizes b_items b_signs b_text en fa b_empty b_begins b_starts b_follow b_derivations b_row b_layer b_next b_nodes b_errors b_openNode b_openAlt b_openItem b_came b_sum := by
      intro hm
      refine ⟨vi, vi, ?_⟩
      rw [show (nI (25 * fd_R g (k / 25) + k % 25)).toNatClampNeg = 25 * fd_R g (k / 25) + k % 25 from nI_clamp (by omega)]
      have μ0 : fy_μ en fa ≤ fy_μ en0 fa0 := by
        rcases h with ⟨_, rfl, rfl, _⟩ | ⟨_, h⟩
        · exact Nat.le_refl _
        · omega
      refine nm_e ⟨vi, pk_le b (fq_v fa (25 * fd_R g (k / 25) + k % 25)) (fun hle => ⟨vi, vi, nm_r (e' := upd fa (25 * fd_R g (k / 25) + k % 25) (nI (fq_v fa (25 * fd_R g (k / 25) + k % 25)))) (by rw [← efa]) (nm_r (nI_1 _) ?_)⟩) (fun hgt => ⟨vi, nm_e (nm_r (nI_1 _) ?_)⟩) (hy := efa)⟩
      · obtain ⟨I', fm⟩ := fy_upd I ha r6 rfl hp m24 r1 r2 (f := fq_v fa (25 * fd_R g (k / 25) + k % 25)) (by rw [if_pos hle])
        have := fy_upd_μ (en := en) (fa := fa) (x := x) (k := 25 * fd_R g (k / 25) + k % 25) (f := fq_v fa (25 * fd_R g (k / 25) + k % 25)) (by omega) (Nat.le_refl _) (by omega) (hm.elim Or.inl (fun z => by omega))
        exact ih (k + 1) n 1 _ _ _ _ (by omega) (by omega) I' (Or.inr ⟨rfl, by omega⟩)
      · obtain ⟨I', fm⟩ := fy_upd I ha r6 rfl hp m24 r1 r2 (f := b) (by rw [if_neg (by omega)])
        have := fy_upd_μ (en := en) (fa := fa) (x := x) (k := 25 * fd_R g (k / 25) + k % 25) (f := b) (by omega) (by omega) (by omega) (Or.inr hgt)
        exact ih (k + 1) n 1 _ _ _ _ (by omega) (by omega) I' (Or.inr ⟨rfl, by omega⟩)
    refine br_c (fun he => ⟨vi, pk_lt (fq_v fa (25 * fd_R g (k / 25) + k % 25)) b (fun hlt => more (Or.inr hlt)) (fun hge => nm_r (nI_1 _) (skip _ _ (fun _ => ⟨fun q hq => ?_, ?_⟩))) (hx := efa)⟩) (fun he => more (Or.inl he))
    · refine ⟨r6, hp, ?_⟩
      have hq32 : q < 32 := by have := fy_in_go HEF (fo_in_one hp) q hq; omega
      have := (r1 q hq32).mpr hq
      rw [← he, b_or, this, Bool.or_true]
    · rw [fy_F_in r6 hp]
      exact ((r2 _).mp hge).2
theorem fy_rea34 {post : SY → Prop} (G : fd_G g b_items b_signs b_sizes b_ruleOf b_text)
    (K : ∀ (pl be : Int32) (en fa : Nat → Int32), (∀ r p, r < 6 → p ≤ fd_m g → fb_rep (en (25 * r + p)) (fs_lE g r p) ∧ fa (25 * r + p) = nI (fs_lF g r p)) → post (nI (fd_n g), nI (fd_m g), g_known, g_counted, pl, be, g_made, g_faults, g_place, g_depth, g_much, b_ruleOf, b_sizes, b_items, b_signs, b_text, en, fa, b_empty, b_begins, b_starts, b_follow, b_derivations, b_row, b_layer, b_next, b_nodes, b_errors, b_openNode, b_openAlt, b_openItem, b_came, b_sum)) :
    ∀ n x1 pl be en fa, fy_I g en fa → ((x1 = 0 ∧ 1 ≤ n ∧ ∀ a p, a < fd_n g → p ≤ fd_m g → fy_cl g en fa a p) ∨ (x1 = 1 ∧ fy_μ en fa + 2 ≤ n)) →
      wY_reach_34 post n x1 (nI (fd_n g)) (nI (fd_m g)) g_known g_counted pl be g_made g_faults g_place g_depth g_much b_ruleOf b_sizes b_items b_signs b_text en fa b_empty b_begins b_starts b_follow b_derivations b_row b_layer b_next b_nodes b_errors b_openNode b_openAlt b_openItem b_came b_sum := by
  intro n
  induction n with
  | zero => intro x1 pl be en fa I h; omega
  | succ n ih =>
    intro x1 pl be en fa I h
    rcases h with ⟨rfl, _, h⟩ | ⟨rfl, h⟩
    · exact br_t rfl (K _ _ _ _ (fy_full G I h))
    · refine br_f (by decide) ⟨25 * fd_n g + 1, ?_⟩
      refine fy_rea42 (en0 := en) (fa0 := fa) G (fun x1 pl be en' fa' I' h' => ?_) (25 * fd_n g) 0 (25 * fd_n g + 1) 0 _ _ _ _ (by omega) (by omega) I (Or.inl ⟨rfl, rfl, rfl, fun a p _ _ z => by omega⟩)
      refine ih _ _ _ _ _ I' (h'.elim (fun z => Or.inl ⟨z.1, by omega, z.2⟩) (fun z => Or.inr ⟨z.1, by omega⟩))
theorem fy_rea2 {post : SY → Prop} (G : fd_G g b_items b_signs b_sizes b_ruleOf b_text)
    (K : ∀ (pl be : Int32) (en fa : Nat → Int32), (∀ r p, r < 6 → p ≤ fd_m g → fb_rep (en (25 * r + p)) (fs_lE g r p) ∧ fa (25 * r + p) = nI (fs_lF g r p)) → post (nI (fd_n g), nI (fd_m g), g_known, g_counted, pl, be, g_made, g_faults, g_place, g_depth, g_much, b_ruleOf, b_sizes, b_items, b_signs, b_text, en, fa, b_empty, b_begins, b_starts, b_follow, b_derivations, b_row, b_layer, b_next, b_nodes, b_errors, b_openNode, b_openAlt, b_openItem, b_came, b_sum)) :
    ∀ d k n en fa, k + d = 150 → d < n → (∀ i, i < k → en i = 0 ∧ fa i = nI (i % 25)) → wY_reach_2 post (nI (fd_n g)) (nI (fd_m g)) g_known g_counted g_places g_best g_made g_faults g_place g_depth g_much n (nI k) b_ruleOf b_sizes b_items b_signs b_text en fa b_empty b_begins b_starts b_follow b_derivations b_row b_layer b_next b_nodes b_errors b_openNode b_openAlt b_openItem b_came b_sum := by
  have m24 := fd_m24 G
  intro d
  induction d with
  | zero =>
    intro k n en fa hk hn h
    obtain ⟨n, rfl⟩ : ∃ k, n = k + 1 := ⟨n - 1, by omega⟩
    refine pk_le 150 k (fun _ => ⟨fy_μ en fa + 2, ?_⟩) (fun h => absurd h (by omega))
    have v : ∀ r p, r < 6 → p ≤ fd_m g → fa (25 * r + p) = nI p := fun r p hr hp => by rw [(h (25 * r + p) (by omega)).2, show (25 * r + p) % 25 = p from by omega]
    have w : ∀ r p, r < 6 → p ≤ fd_m g → fq_v fa (25 * r + p) = p := fun r p hr hp => by unfold fq_v; rw [v r p hr hp, nI_clamp (by omega)]
    have F : ∀ r p, fy_F g fa r p = p := fun r p => by
      unfold fy_F
      split
      · next c => exact w r p c.1 c.2
      · rfl
    have E : ∀ r p q, ¬ fy_E g en r p q := fun r p q ⟨h1, h2, h3⟩ => by rw [(h (25 * r + p) (by omega)).1, b_0] at h3; exact absurd h3 (by decide)
    refine fy_rea34 G K _ 1 _ _ _ _ ⟨fun r p q z => absurd z (E r p q), fun r p => by rw [F]; exact (fs_least g).1 r p, fun r p q z => absurd z (E r p q), fun r p => by rw [F]; exact Nat.le_refl _, fun r p hr hp => by rw [w r p hr hp, v r p hr hp]⟩ (Or.inr ⟨rfl, Nat.le_refl _⟩)
  | succ d ih =>
    intro k n en fa hk hn h
    obtain ⟨n, rfl⟩ : ∃ k, n = k + 1 := ⟨n - 1, by omega⟩
    have vi : vp_in (nI k) 150 := vp_in_nI (by omega) (by omega)
    have ec : (nI k).toNatClampNeg = k := nI_clamp (by omega)
    have r25 : nI k - nI k / 25 * 25 = nI (k % 25) := by rw [show (25 : Int32) = nI 25 from rfl]; exact pk_rem (by omega) (by omega) (by omega)
    refine pk_le 150 k (fun h => absurd h (by omega)) (fun _ => ⟨vi, nm_r (e' := upd en k 0) (by rw [ec]) ⟨by decide, vi, nm_r (e' := upd fa k (nI (k % 25))) (by rw [ec, r25]) (nm_r (nI_1 _) ?_)⟩⟩)
    refine ih (k + 1) n _ _ (by omega) (by omega) (fun i hi => ?_)
    by_cases e : i = k
    · subst e; rw [pk_us, pk_us]; exact ⟨rfl, rfl⟩
    · rw [pk_un e, pk_un e]; exact h i (by omega)
theorem fy_reach {post : SY → Prop} (G : fd_G g b_items b_signs b_sizes b_ruleOf b_text)
    (K : ∀ (pl be : Int32) (en fa : Nat → Int32), (∀ r p, r < 6 → p ≤ fd_m g → fb_rep (en (25 * r + p)) (fs_lE g r p) ∧ fa (25 * r + p) = nI (fs_lF g r p)) → post (nI (fd_n g), nI (fd_m g), g_known, g_counted, pl, be, g_made, g_faults, g_place, g_depth, g_much, b_ruleOf, b_sizes, b_items, b_signs, b_text, en, fa, b_empty, b_begins, b_starts, b_follow, b_derivations, b_row, b_layer, b_next, b_nodes, b_errors, b_openNode, b_openAlt, b_openItem, b_came, b_sum)) : wpY_reach post (nI (fd_n g), nI (fd_m g), g_known, g_counted, g_places, g_best, g_made, g_faults, g_place, g_depth, g_much, b_ruleOf, b_sizes, b_items, b_signs, b_text, b_ends, b_far, b_empty, b_begins, b_starts, b_follow, b_derivations, b_row, b_layer, b_next, b_nodes, b_errors, b_openNode, b_openAlt, b_openItem, b_came, b_sum) :=
  ⟨151, fy_rea2 G K 150 0 151 _ _ (by omega) (by omega) (fun i hi => by omega)⟩
end
end
section
section
variable {g : fd_Gr}
variable {g_known g_counted g_places g_best g_made g_faults g_place g_depth g_much : Int32} {b_ruleOf b_sizes b_items b_signs b_text b_ends b_far b_empty b_begins b_starts b_follow b_nodes b_errors b_openNode b_openAlt b_openItem b_came : Nat → Int32} {b_derivations b_row b_layer b_next b_sum : Nat → Int64}
theorem fy_isFree {post : Int32 → Prop} {a k : Nat} {N : Nat → Prop} (G : fd_G g b_items b_signs b_sizes b_ruleOf b_text) (ha : a < fd_n g) (hk : k < fd_L g a) (hN : ∀ r, r < 6 → (b_empty r = 0 ∧ ¬ N r) ∨ (b_empty r = 1 ∧ N r)) (K1 : fn_sk g N a k → post 1) (K0 : ¬ fn_sk g N a k → post 0) : wpY_isFree post (nI (fd_n g), nI (fd_m g), g_known, g_counted, g_places, g_best, g_made, g_faults, g_place, g_depth, g_much, b_ruleOf, b_sizes, b_items, b_signs, b_text, b_ends, b_far, b_empty, b_begins, b_starts, b_follow, b_derivations, b_row, b_layer, b_next, b_nodes, b_errors, b_openNode, b_openAlt, b_openItem, b_came, b_sum) (nI (5 * a + k)) := by
  have hi := fx_in G ha hk
  have hs := fd_S4 G ha hk
  have hw := fd_W14 G ha hk
  refine ⟨hi, pk_eq (fd_S g a k) 1 (fun e => K1 (Or.inl e)) (fun e1 => ⟨hi, ?_⟩) (hx := fx_sg G ha hk)⟩
  refine pk_eq (fd_S g a k) 2 (fun e => K1 (Or.inr (Or.inl e))) (fun e2 => ⟨hi, ?_⟩) (hx := fx_sg G ha hk)
  refine pk_le (fd_W g a k) 7 (fun e => ?_) (fun e3 => ⟨hi, ?_⟩) (hx := fx_wh G ha hk)
  · apply K0
    intro z
    rcases z with z | z | z <;> omega
  · rw [fx_wh G ha hk, fx_m8 (by omega)]
    refine ⟨vp_in_nI (by omega) (by omega), ?_⟩
    rw [show (nI (fd_W g a k - 8)).toNatClampNeg = fd_W g a k - 8 from nI_clamp (by omega)]
    rcases hN (fd_W g a k - 8) (by omega) with ⟨h0, h1⟩ | ⟨h0, h1⟩
    · rw [h0]
      refine br_t rfl (K0 fun z => ?_)
      rcases z with z | z | z
      · omega
      · omega
      · exact h1 z.2
    · rw [h0]
      exact br_f (by decide) (K1 (Or.inr (Or.inr ⟨e3, h1⟩)))
theorem fy_aF3 {post : Int32 → Prop} {a i j : Nat} {N : Nat → Prop} (G : fd_G g b_items b_signs b_sizes b_ruleOf b_text) (ha : a < fd_n g) (hj : j ≤ fd_L g a) (hN : ∀ r, r < 6 → (b_empty r = 0 ∧ ¬ N r) ∨ (b_empty r = 1 ∧ N r)) (K1 : fn_all g N a i j → post 1) (K0 : ¬ fn_all g N a i j → post 0) :
    ∀ d k n, k + d = j → i ≤ k → d < n → fn_all g N a i k → wY_areFree_3 post (nI a) (nI j) (nI (fd_n g)) (nI (fd_m g)) g_known g_counted g_places g_best g_made g_faults g_place g_depth g_much b_ruleOf b_sizes b_items b_signs b_text b_ends b_far b_empty b_begins b_starts b_follow b_derivations b_row b_layer b_next b_nodes b_errors b_openNode b_openAlt b_openItem b_came b_sum n (nI k) := by
  have := fd_n12 G
  have h5 := fd_L5 G ha
  intro d
  induction d with
  | zero =>
    intro k n hk hi hn h
    obtain ⟨n, rfl⟩ : ∃ k, n = k + 1 := ⟨n - 1, by omega⟩
    exact pk_le j k (fun _ => K1 (fun x h1 h2 => h x h1 (by omega))) (fun h => absurd h (by omega))
  | succ d ih =>
    intro k n hk hi hn h
    obtain ⟨n, rfl⟩ : ∃ k, n = k + 1 := ⟨n - 1, by omega⟩
    refine pk_le j k (fun h => absurd h (by omega)) (fun hl => ?_)
    rw [fx_5]
    refine fy_isFree G ha (by omega) hN (fun z => ?_) (fun z => ?_)
    · exact br_f (by decide) (nm_r (nI_1 _) (ih (k + 1) n (by omega) (by omega) (by omega) (fn_all_s h z)))
    · exact br_t rfl (K0 fun y => z (y k hi hl))
theorem fy_areFree {post : Int32 → Prop} {a i j : Nat} {N : Nat → Prop} (G : fd_G g b_items b_signs b_sizes b_ruleOf b_text) (ha : a < fd_n g) (hi : i ≤ 6) (hj : j ≤ fd_L g a) (hN : ∀ r, r < 6 → (b_empty r = 0 ∧ ¬ N r) ∨ (b_empty r = 1 ∧ N r)) (K1 : fn_all g N a i j → post 1) (K0 : ¬ fn_all g N a i j → post 0) :
    wpY_areFree post (nI (fd_n g), nI (fd_m g), g_known, g_counted, g_places, g_best, g_made, g_faults, g_place, g_depth, g_much, b_ruleOf, b_sizes, b_items, b_signs, b_text, b_ends, b_far, b_empty, b_begins, b_starts, b_follow, b_derivations, b_row, b_layer, b_next, b_nodes, b_errors, b_openNode, b_openAlt, b_openItem, b_came, b_sum) (nI a) (nI i) (nI j) := by
  have h5 := fd_L5 G ha
  rcases Nat.lt_or_ge i j with z | z
  · exact ⟨j - i + 1, fy_aF3 G ha hj hN K1 K0 (j - i) i (j - i + 1) (by omega) (Nat.le_refl _) (by omega) fn_all_0⟩
  · exact ⟨1, pk_le j i (fun _ => K1 (fun x h1 h2 => by omega)) (fun h => absurd h (by omega))⟩
/-! the empty rules -/
def fy_S1 (em : Nat → Int32) (r : Nat) : Prop := r < 6 ∧ em r = 1
def fy_01 (em : Nat → Int32) : Prop := ∀ r, r < 6 → em r = 0 ∨ em r = 1
def fy_EI (g : fd_Gr) (em0 em : Nat → Int32) (a : Nat) : Prop := fy_01 em ∧ (∀ r, fy_S1 em0 r → fy_S1 em r) ∧ (∀ T, fr_C (fn_Φ g) T → (∀ r, fy_S1 em0 r → T r) → ∀ r, fy_S1 em r → T r) ∧ (∀ b, b < a → b < fd_n g → fn_all g (fy_S1 em0) b 0 (fd_L g b) → fy_S1 em (fd_R g b))
theorem fy_01N {em : Nat → Int32} (h : fy_01 em) : ∀ r, r < 6 → (em r = 0 ∧ ¬ fy_S1 em r) ∨ (em r = 1 ∧ fy_S1 em r) := by
  intro r hr
  rcases h r hr with z | z
  · exact Or.inl ⟨z, fun y => absurd (z.symm.trans y.2) (by decide)⟩
  · exact Or.inr ⟨z, hr, z⟩
theorem fy_lea58 {post : SY → Prop} {J50 : Int32 → (Nat → Int32) → (Nat → Int32) → (Nat → Int32) → (Nat → Int32) → (Nat → Int32) → (Nat → Int32) → (Nat → Int32) → (Nat → Int32) → (Nat → Int32) → (Nat → Int32) → (Nat → Int32) → (Nat → Int64) → (Nat → Int64) → (Nat → Int64) → (Nat → Int64) → (Nat → Int32) → (Nat → Int32) → (Nat → Int32) → (Nat → Int32) → (Nat → Int32) → (Nat → Int32) → (Nat → Int64) → Prop} {z : Nat} {em0 : Nat → Int32} (G : fd_G g b_items b_signs b_sizes b_ruleOf b_text) (hz : z < 1000)
    (K : ∀ em, fy_01 em → fr_R (fn_Φ g) (fy_S1 em0) (fy_S1 em) → J50 (nI (z + 1)) b_ruleOf b_sizes b_items b_signs b_text b_ends b_far em b_begins b_starts b_follow b_derivations b_row b_layer b_next b_nodes b_errors b_openNode b_openAlt b_openItem b_came b_sum) :
    ∀ d a n em, a + d = fd_n g → d < n → fy_EI g em0 em a → wY_learn_58 post J50 (nI z) (nI (fd_n g)) (nI (fd_m g)) g_known g_counted g_places g_best g_made g_faults g_place g_depth g_much n (nI a) b_ruleOf b_sizes b_items b_signs b_text b_ends b_far em b_begins b_starts b_follow b_derivations b_row b_layer b_next b_nodes b_errors b_openNode b_openAlt b_openItem b_came b_sum := by
  have n12 := fd_n12 G
  intro d
  induction d with
  | zero =>
    intro a n em ha hn I
    obtain ⟨n, rfl⟩ : ∃ k, n = k + 1 := ⟨n - 1, by omega⟩
    refine pk_le (fd_n g) a (fun _ => nm_r (nI_1 _) (K em I.1 ⟨I.2.1, I.2.2.1, ?_⟩)) (fun h => absurd h (by omega))
    rintro r ⟨b, hb, rfl, h⟩
    exact I.2.2.2 b (by omega) hb h
  | succ d ih =>
    intro a n em ha hn I
    obtain ⟨n, rfl⟩ : ∃ k, n = k + 1 := ⟨n - 1, by omega⟩
    obtain ⟨i1, i2, i3, i4⟩ := I
    refine pk_le (fd_n g) a (fun h => absurd h (by omega)) (fun hl => ⟨vp_in_nI (by omega) (by omega), ?_⟩)
    have r6 := fd_R6 G hl
    rw [fx_le G hl]
    refine fy_areFree (i := 0) (N := fy_S1 em) G hl (by omega) (Nat.le_refl _) (fy_01N i1) (fun h => ?_) (fun h => ?_)
    · refine br_f (by decide) ⟨vp_in_nI (by omega) (by omega), ?_⟩
      rw [fx_ru G hl]
      refine ⟨vp_in_nI r6 (by omega), nm_r (e' := upd em (fd_R g a) 1) (by rw [nI_clamp (by omega), fb_b1]) (nm_r (nI_1 _) ?_)⟩
      have up : ∀ r, fy_S1 (upd em (fd_R g a) 1) r ↔ fy_S1 em r ∨ r = fd_R g a := by
        intro r
        by_cases e : r = fd_R g a
        · subst e; exact ⟨fun _ => Or.inr rfl, fun _ => ⟨r6, pk_us⟩⟩
        · unfold fy_S1; rw [pk_un e]; exact ⟨Or.inl, fun z => z.elim id (fun y => absurd y e)⟩
      refine ih (a + 1) n _ (by omega) (by omega) ⟨fun r hr => ?_, fun r y => (up r).mpr (Or.inl (i2 r y)), fun T c t r y => ?_, fun b h1 h2 h3 => ?_⟩
      · by_cases e : r = fd_R g a
        · right; rw [e, pk_us]
        · rw [pk_un e]; exact i1 r hr
      · have sub := i3 T c t
        rcases (up r).mp y with y | y
        · exact sub r y
        · rw [y]; exact c _ ⟨a, hl, rfl, fun k k1 k2 => fn_sk_m sub (h k k1 k2)⟩
      · rcases Nat.lt_or_ge b a with y | y
        · exact (up _).mpr (Or.inl (i4 b y h2 h3))
        · have e : b = a := by omega
          subst e; exact (up _).mpr (Or.inr rfl)
    · refine br_t rfl (nm_r (nI_1 _) (ih (a + 1) n _ (by omega) (by omega) ⟨i1, i2, i3, fun b h1 h2 h3 => ?_⟩))
      rcases Nat.lt_or_ge b a with y | y
      · exact i4 b y h2 h3
      · have e : b = a := by omega
        subst e
        exact absurd (fun k k1 k2 => fn_sk_m i2 (h3 k k1 k2)) h
theorem fy_lea50 {post : SY → Prop} (G : fd_G g b_items b_signs b_sizes b_ruleOf b_text)
    (K : ∀ em, (∀ r, r < 6 → (em r = 0 ∧ ¬ fn_N g r) ∨ (em r = 1 ∧ fn_N g r)) → ∃ n, wY_learn_107 post n (nI 0) (nI (fd_n g)) (nI (fd_m g)) g_known g_counted g_places g_best g_made g_faults g_place g_depth g_much b_ruleOf b_sizes b_items b_signs b_text b_ends b_far em b_begins b_starts b_follow b_derivations b_row b_layer b_next b_nodes b_errors b_openNode b_openAlt b_openItem b_came b_sum) :
    ∀ d z n em, z + d = 7 → d < n → fy_01 em → (∀ r, fy_S1 em r → fn_N g r) → (fr_C (fn_Φ g) (fy_S1 em) ∨ z ≤ fb_cn (fy_S1 em) 6) → wY_learn_50 post (nI (fd_n g)) (nI (fd_m g)) g_known g_counted g_places g_best g_made g_faults g_place g_depth g_much n (nI z) b_ruleOf b_sizes b_items b_signs b_text b_ends b_far em b_begins b_starts b_follow b_derivations b_row b_layer b_next b_nodes b_errors b_openNode b_openAlt b_openItem b_came b_sum := by
  intro d
  induction d with
  | zero =>
    intro z n em hz hn h1 h2 h3
    obtain ⟨n, rfl⟩ : ∃ k, n = k + 1 := ⟨n - 1, by omega⟩
    refine pk_le 7 z (fun _ => K em (fun r hr => ?_)) (fun h => absurd h (by omega))
    have c := fr_end (by omega : 6 < z) h3
    rcases fy_01N h1 r hr with y | y
    · exact Or.inl ⟨y.1, fun q => y.2 (q _ c (fun _ x => x.elim))⟩
    · exact Or.inr ⟨y.1, h2 r y.2⟩
  | succ d ih =>
    intro z n em hz hn h1 h2 h3
    obtain ⟨n, rfl⟩ : ∃ k, n = k + 1 := ⟨n - 1, by omega⟩
    refine pk_le 7 z (fun h => absurd h (by omega)) (fun _ => ⟨fd_n g + 1, ?_⟩)
    refine fy_lea58 (em0 := em) G (by omega) (fun em' e1 e2 => ?_) (fd_n g) 0 (fd_n g + 1) em (by omega) (by omega) ⟨h1, fun _ y => y, fun _ _ t => t, fun b hb => by omega⟩
    exact ih (z + 1) n em' (by omega) (by omega) e1 (e2.2.1 _ (fn_N_C g) h2) (fr_step (fn_Φ_m g) (fun r y => y.1) e2 h3)
/-! what rules begin with -/
def fy_FI (g : fd_Gr) (be0 st0 be st : Nat → Int32) (a k : Nat) : Prop :=
  (∀ i r, r < 6 → bt (be0 r) i = true → bt (be r) i = true) ∧ (∀ i r, r < 6 → bt (st0 r) i = true → bt (st r) i = true) ∧
  (∀ i T, fr_C (fn_ΦB g i) T → (∀ r, r < 6 → bt (be0 r) i = true → T r) → ∀ r, r < 6 → bt (be r) i = true → T r) ∧
  (∀ i T, fr_C (fn_ΦF g i) T → (∀ r, r < 6 → bt (st0 r) i = true → T r) → ∀ r, r < 6 → bt (st r) i = true → T r) ∧
  (∀ b j, b < fd_n g → j < fd_L g b → (b < a ∨ (b = a ∧ j < k)) → fn_all g (fn_N g) b 0 j →
    (7 < fd_W g b j → ∀ i, (fd_W g b j - 8 = i ∨ bt (be0 (fd_W g b j - 8)) i = true) → bt (be (fd_R g b)) i = true) ∧
    (7 < fd_W g b j → ∀ i, bt (st0 (fd_W g b j - 8)) i = true → bt (st (fd_R g b)) i = true) ∧ (fd_W g b j < 8 → bt (st (fd_R g b)) (fd_W g b j) = true))
theorem fy_fi9 {post : SY → Prop} {a : Nat} {be0 st0 : Nat → Int32} (G : fd_G g b_items b_signs b_sizes b_ruleOf b_text) (hN : ∀ r, r < 6 → (b_empty r = 0 ∧ ¬ fn_N g r) ∨ (b_empty r = 1 ∧ fn_N g r)) (ha : a < fd_n g)
    (K : ∀ be st, fy_FI g be0 st0 be st (a + 1) 0 → post (nI (fd_n g), nI (fd_m g), g_known, g_counted, g_places, g_best, g_made, g_faults, g_place, g_depth, g_much, b_ruleOf, b_sizes, b_items, b_signs, b_text, b_ends, b_far, b_empty, be, st, b_follow, b_derivations, b_row, b_layer, b_next, b_nodes, b_errors, b_openNode, b_openAlt, b_openItem, b_came, b_sum)) :
    ∀ d k n be st, k + d = fd_L g a → d < n → fy_FI g be0 st0 be st a k → wY_first_9 post (nI a) (nI (fd_R g a)) (nI (fd_n g)) (nI (fd_m g)) g_known g_counted g_places g_best g_made g_faults g_place g_depth g_much n (nI k) b_ruleOf b_sizes b_items b_signs b_text b_ends b_far b_empty be st b_follow b_derivations b_row b_layer b_next b_nodes b_errors b_openNode b_openAlt b_openItem b_came b_sum := by
  have n12 := fd_n12 G
  have l5 := fd_L5 G ha
  have r6 := fd_R6 G ha
  have out : ∀ (k : Nat) (be st : Nat → Int32), (∀ j, j < fd_L g a → k ≤ j → ¬ fn_all g (fn_N g) a 0 j) → fy_FI g be0 st0 be st a k → fy_FI g be0 st0 be st (a + 1) 0 := by
    intro k be st hk I
    obtain ⟨i1, i2, i3, i4, i5⟩ := I
    refine ⟨i1, i2, i3, i4, fun b j h1 h2 h3 h4 => ?_⟩
    rcases Nat.lt_or_ge b a with y | y
    · exact i5 b j h1 h2 (Or.inl y) h4
    · have e : b = a := by omega
      subst e
      rcases Nat.lt_or_ge j k with x | x
      · exact i5 b j h1 h2 (Or.inr ⟨rfl, x⟩) h4
      · exact absurd h4 (hk j h2 x)
  intro d
  induction d with
  | zero =>
    intro k n be st hk hn I
    obtain ⟨n, rfl⟩ : ∃ k, n = k + 1 := ⟨n - 1, by omega⟩
    exact ⟨vp_in_nI (by omega) (by omega), pk_le (fd_L g a) k (fun _ => K _ _ (out k be st (fun j h1 h2 => by omega) I)) (fun h => absurd h (by omega)) (hx := fx_le G ha)⟩
  | succ d ih =>
    intro k n be st hk hn I
    obtain ⟨n, rfl⟩ : ∃ k, n = k + 1 := ⟨n - 1, by omega⟩
    refine ⟨vp_in_nI (by omega) (by omega), pk_le (fd_L g a) k (fun h => absurd h (by omega)) (fun hkl => ?_) (hx := fx_le G ha)⟩
    refine fy_areFree (i := 0) G ha (by omega) (by omega) hN (fun hall => br_f (by decide) ?_) (fun hall => br_t rfl (K _ _ (out k be st (fun j h1 h2 h3 => hall (fun x x1 x2 => h3 x x1 (by omega))) I)))
    have w14 := fd_W14 G ha hkl
    rw [fx_5]
    refine ⟨fx_in G ha hkl, nm_r (fx_wh G ha hkl) ?_⟩
    obtain ⟨i1, i2, i3, i4, i5⟩ := I
    have vr : vp_in (nI (fd_R g a)) 6 := vp_in_nI r6 (by omega)
    have cr : (nI (fd_R g a)).toNatClampNeg = fd_R g a := nI_clamp (by omega)
    refine pk_le 8 (fd_W g a k) (fun h8 => ?_) (fun h8 => ?_)
    · have dD : fn_D g (fd_R g a) (fd_W g a k - 8) := ⟨a, k, ha, hkl, rfl, hall, by omega, rfl⟩
      have vx : vp_in (nI (fd_W g a k - 8)) 6 := vp_in_nI (by omega) (by omega)
      have cx : (nI (fd_W g a k - 8)).toNatClampNeg = fd_W g a k - 8 := nI_clamp (by omega)
      rw [fx_m8 h8]
      refine ⟨vr, vx, vr, nm_r (e' := upd be (fd_R g a) (be (fd_R g a) ||| (((1 : Int32) <<< (nI (fd_W g a k - 8) &&& 31)) ||| be (fd_W g a k - 8)))) (by rw [cr, cx]) ⟨vr, vx, vr, nm_r (e' := upd st (fd_R g a) (st (fd_R g a) ||| st (fd_W g a k - 8))) (by rw [cr, cx]) (nm_r (nI_1 _) ?_)⟩⟩
      have bb : ∀ r i, bt (upd be (fd_R g a) (be (fd_R g a) ||| (((1 : Int32) <<< (nI (fd_W g a k - 8) &&& 31)) ||| be (fd_W g a k - 8))) r) i = true ↔ bt (be r) i = true ∨ (r = fd_R g a ∧ (fd_W g a k - 8 = i ∨ bt (be (fd_W g a k - 8)) i = true)) := by
        intro r i
        by_cases e : r = fd_R g a
        · subst e
          rw [pk_us, b_or, b_or, Bool.or_eq_true, Bool.or_eq_true]
          constructor
          · rintro (z | z | z)
            · exact Or.inl z
            · rw [fb_one (by omega) (fb_lt z), decide_eq_true_eq] at z; exact Or.inr ⟨rfl, Or.inl z.symm⟩
            · exact Or.inr ⟨rfl, Or.inr z⟩
          · rintro (z | ⟨_, z | z⟩)
            · exact Or.inl z
            · right; left; rw [← z, fb_one (by omega) (by omega), decide_eq_true_eq]
            · exact Or.inr (Or.inr z)
        · rw [pk_un e]; exact ⟨Or.inl, fun z => z.elim id (fun y => absurd y.1 e)⟩
      have sb : ∀ r i, bt (upd st (fd_R g a) (st (fd_R g a) ||| st (fd_W g a k - 8)) r) i = true ↔ bt (st r) i = true ∨ (r = fd_R g a ∧ bt (st (fd_W g a k - 8)) i = true) := by
        intro r i
        by_cases e : r = fd_R g a
        · subst e
          rw [pk_us, b_or, Bool.or_eq_true]
          exact ⟨fun z => z.elim Or.inl (fun y => Or.inr ⟨rfl, y⟩), fun z => z.elim Or.inl (fun y => Or.inr y.2)⟩
        · rw [pk_un e]; exact ⟨Or.inl, fun z => z.elim id (fun y => absurd y.1 e)⟩
      refine ih (k + 1) n _ _ (by omega) (by omega) ⟨fun i r hr z => (bb r i).mpr (Or.inl (i1 i r hr z)), fun i r hr z => (sb r i).mpr (Or.inl (i2 i r hr z)), fun i T c t r hr z => ?_, fun i T c t r hr z => ?_, fun b j h1 h2 h3 h4 => ?_⟩
      · rcases (bb r i).mp z with z | ⟨rfl, z2⟩
        · exact i3 i T c t r hr z
        · exact c _ ⟨_, dD, z2.elim Or.inl (fun y => Or.inr (i3 i T c t _ (by omega) y))⟩
      · rcases (sb r i).mp z with z | ⟨rfl, z2⟩
        · exact i4 i T c t r hr z
        · exact c _ (Or.inr ⟨_, dD, i4 i T c t _ (by omega) z2⟩)
      · rcases (by omega : (b < a ∨ (b = a ∧ j < k)) ∨ (b = a ∧ j = k)) with y | ⟨rfl, rfl⟩
        · obtain ⟨j1, j2, j3⟩ := i5 b j h1 h2 y h4
          exact ⟨fun w i z => (bb _ _).mpr (Or.inl (j1 w i z)), fun w i z => (sb _ _).mpr (Or.inl (j2 w i z)), fun w => (sb _ _).mpr (Or.inl (j3 w))⟩
        · exact ⟨fun w i z => (bb _ _).mpr (Or.inr ⟨rfl, z.elim Or.inl (fun y => Or.inr (i1 i _ (by omega) y))⟩), fun w i z => (sb _ _).mpr (Or.inr ⟨rfl, i2 i _ (by omega) z⟩), fun w => by omega⟩
    · have dT : fn_T g (fd_R g a) (fd_W g a k) := ⟨a, k, ha, hkl, rfl, hall, h8, rfl⟩
      refine ⟨vr, vr, nm_r (e' := upd st (fd_R g a) (st (fd_R g a) ||| ((1 : Int32) <<< (nI (fd_W g a k) &&& 31)))) (by rw [cr]) (nm_r (nI_1 _) ?_)⟩
      have sb : ∀ r i, bt (upd st (fd_R g a) (st (fd_R g a) ||| ((1 : Int32) <<< (nI (fd_W g a k) &&& 31))) r) i = true ↔ bt (st r) i = true ∨ (r = fd_R g a ∧ i = fd_W g a k) := fun r i => fq_bit (by omega)
      refine ih (k + 1) n _ _ (by omega) (by omega) ⟨i1, fun i r hr z => (sb r i).mpr (Or.inl (i2 i r hr z)), i3, fun i T c t r hr z => ?_, fun b j h1 h2 h3 h4 => ?_⟩
      · rcases (sb r i).mp z with z | ⟨rfl, rfl⟩
        · exact i4 i T c t r hr z
        · exact c _ (Or.inl dT)
      · rcases (by omega : (b < a ∨ (b = a ∧ j < k)) ∨ (b = a ∧ j = k)) with y | ⟨rfl, rfl⟩
        · obtain ⟨j1, j2, j3⟩ := i5 b j h1 h2 y h4
          exact ⟨j1, fun w i z => (sb _ _).mpr (Or.inl (j2 w i z)), fun w => (sb _ _).mpr (Or.inl (j3 w))⟩
        · exact ⟨fun w => by omega, fun w => by omega, fun w => (sb _ _).mpr (Or.inr ⟨rfl, rfl⟩)⟩
theorem fy_first {post : SY → Prop} {a : Nat} {be0 st0 be st : Nat → Int32} (G : fd_G g b_items b_signs b_sizes b_ruleOf b_text) (hN : ∀ r, r < 6 → (b_empty r = 0 ∧ ¬ fn_N g r) ∨ (b_empty r = 1 ∧ fn_N g r)) (ha : a < fd_n g) (I : fy_FI g be0 st0 be st a 0)
    (K : ∀ be st, fy_FI g be0 st0 be st (a + 1) 0 → post (nI (fd_n g), nI (fd_m g), g_known, g_counted, g_places, g_best, g_made, g_faults, g_place, g_depth, g_much, b_ruleOf, b_sizes, b_items, b_signs, b_text, b_ends, b_far, b_empty, be, st, b_follow, b_derivations, b_row, b_layer, b_next, b_nodes, b_errors, b_openNode, b_openAlt, b_openItem, b_came, b_sum)) : wpY_first post (nI (fd_n g), nI (fd_m g), g_known, g_counted, g_places, g_best, g_made, g_faults, g_place, g_depth, g_much, b_ruleOf, b_sizes, b_items, b_signs, b_text, b_ends, b_far, b_empty, be, st, b_follow, b_derivations, b_row, b_layer, b_next, b_nodes, b_errors, b_openNode, b_openAlt, b_openItem, b_came, b_sum) (nI a) := by
  have n12 := fd_n12 G
  exact ⟨vp_in_nI (by omega) (by omega), nm_r (fx_ru G ha) ⟨fd_L g a + 1, fy_fi9 G hN ha K (fd_L g a) 0 (fd_L g a + 1) _ _ (by omega) (by omega) I⟩⟩
/-- a target's rules -/
def fy_SB (be : Nat → Int32) (i r : Nat) : Prop := r < 6 ∧ bt (be r) i = true
theorem fy_FI_R {be0 st0 be st : Nat → Int32} (G : fd_G g b_items b_signs b_sizes b_ruleOf b_text) (I : fy_FI g be0 st0 be st (fd_n g) 0) (i : Nat) : fr_R (fn_ΦB g i) (fy_SB be0 i) (fy_SB be i) ∧ fr_R (fn_ΦF g i) (fy_SB st0 i) (fy_SB st i) := by
  obtain ⟨i1, i2, i3, i4, i5⟩ := I
  refine ⟨⟨fun r z => ⟨z.1, i1 i r z.1 z.2⟩, fun T c t r z => i3 i T c (fun r hr y => t r ⟨hr, y⟩) r z.1 z.2, ?_⟩, ⟨fun r z => ⟨z.1, i2 i r z.1 z.2⟩, fun T c t r z => i4 i T c (fun r hr y => t r ⟨hr, y⟩) r z.1 z.2, ?_⟩⟩
  · rintro r ⟨x, ⟨a, k, ha, hk, rfl, h1, h2, rfl⟩, z⟩
    exact ⟨fd_R6 G ha, (i5 a k ha hk (Or.inl ha) h1).1 h2 i (z.elim Or.inl (fun y => Or.inr y.2))⟩
  · rintro r (⟨a, k, ha, hk, rfl, h1, h2, rfl⟩ | ⟨x, ⟨a, k, ha, hk, rfl, h1, h2, rfl⟩, z⟩)
    · exact ⟨fd_R6 G ha, (i5 a k ha hk (Or.inl ha) h1).2.2 h2⟩
    · exact ⟨fd_R6 G ha, (i5 a k ha hk (Or.inl ha) h1).2.1 h2 i z.2⟩
theorem fy_lea115 {post : SY → Prop} {J107 : Int32 → Int32 → Int32 → Int32 → Int32 → Int32 → Int32 → Int32 → Int32 → Int32 → Int32 → Int32 → (Nat → Int32) → (Nat → Int32) → (Nat → Int32) → (Nat → Int32) → (Nat → Int32) → (Nat → Int32) → (Nat → Int32) → (Nat → Int32) → (Nat → Int32) → (Nat → Int32) → (Nat → Int32) → (Nat → Int64) → (Nat → Int64) → (Nat → Int64) → (Nat → Int64) → (Nat → Int32) → (Nat → Int32) → (Nat → Int32) → (Nat → Int32) → (Nat → Int32) → (Nat → Int32) → (Nat → Int64) → Prop} {z : Nat} {be0 st0 : Nat → Int32} (G : fd_G g b_items b_signs b_sizes b_ruleOf b_text) (hN : ∀ r, r < 6 → (b_empty r = 0 ∧ ¬ fn_N g r) ∨ (b_empty r = 1 ∧ fn_N g r))
    (K : ∀ be st, fy_FI g be0 st0 be st (fd_n g) 0 → J107 (nI (z + 1)) (nI (fd_n g)) (nI (fd_m g)) g_known g_counted g_places g_best g_made g_faults g_place g_depth g_much b_ruleOf b_sizes b_items b_signs b_text b_ends b_far b_empty be st b_follow b_derivations b_row b_layer b_next b_nodes b_errors b_openNode b_openAlt b_openItem b_came b_sum) :
    ∀ d a n be st, a + d = fd_n g → d < n → fy_FI g be0 st0 be st a 0 → wY_learn_115 post J107 (nI z) n (nI a) (nI (fd_n g)) (nI (fd_m g)) g_known g_counted g_places g_best g_made g_faults g_place g_depth g_much b_ruleOf b_sizes b_items b_signs b_text b_ends b_far b_empty be st b_follow b_derivations b_row b_layer b_next b_nodes b_errors b_openNode b_openAlt b_openItem b_came b_sum := by
  have n12 := fd_n12 G
  intro d
  induction d with
  | zero =>
    intro a n be st ha hn I
    obtain ⟨n, rfl⟩ : ∃ k, n = k + 1 := ⟨n - 1, by omega⟩
    have e : a = fd_n g := by omega
    subst e
    exact pk_le (fd_n g) (fd_n g) (fun _ => nm_r (nI_1 _) (K _ _ I)) (fun h => absurd h (by omega))
  | succ d ih =>
    intro a n be st ha hn I
    obtain ⟨n, rfl⟩ : ∃ k, n = k + 1 := ⟨n - 1, by omega⟩
    refine pk_le (fd_n g) a (fun h => absurd h (by omega)) (fun hl => ?_)
    exact fy_first G hN hl I (fun be' st' I' => nm_r (nI_1 _) (ih (a + 1) n be' st' (by omega) (by omega) I'))
theorem fy_lea107 {post : SY → Prop} (G : fd_G g b_items b_signs b_sizes b_ruleOf b_text) (hN : ∀ r, r < 6 → (b_empty r = 0 ∧ ¬ fn_N g r) ∨ (b_empty r = 1 ∧ fn_N g r))
    (K : ∀ (pl bs : Int32) (be st en fa : Nat → Int32), fy_LO g b_empty be st en fa → post (nI (fd_n g), nI (fd_m g), g_known, g_counted, pl, bs, g_made, g_faults, g_place, g_depth, g_much, b_ruleOf, b_sizes, b_items, b_signs, b_text, en, fa, b_empty, be, st, b_follow, b_derivations, b_row, b_layer, b_next, b_nodes, b_errors, b_openNode, b_openAlt, b_openItem, b_came, b_sum)) :
    ∀ d z n be st, z + d = 7 → d < n → (∀ i r, fy_SB be i r → fn_B g r i) → (∀ i r, fy_SB st i r → fn_F g r i) → (∀ i, fr_C (fn_ΦB g i) (fy_SB be i) ∨ z ≤ fb_cn (fy_SB be i) 6) → (∀ i, fr_C (fn_ΦF g i) (fy_SB st i) ∨ z ≤ fb_cn (fy_SB st i) 6) →
      wY_learn_107 post n (nI z) (nI (fd_n g)) (nI (fd_m g)) g_known g_counted g_places g_best g_made g_faults g_place g_depth g_much b_ruleOf b_sizes b_items b_signs b_text b_ends b_far b_empty be st b_follow b_derivations b_row b_layer b_next b_nodes b_errors b_openNode b_openAlt b_openItem b_came b_sum := by
  intro d
  induction d with
  | zero =>
    intro z n be st hz hn h1 h2 h3 h4
    obtain ⟨n, rfl⟩ : ∃ k, n = k + 1 := ⟨n - 1, by omega⟩
    refine pk_le 7 z (fun _ => ?_) (fun h => absurd h (by omega))
    refine fy_reach G (fun pl bs en fa he => K _ _ _ _ _ _ ⟨hN, fun r hr i hi => ⟨fun y => h1 i r ⟨hr, y⟩, fun y => ?_⟩, fun r hr i hi => ⟨fun y => h2 i r ⟨hr, y⟩, fun y => ?_⟩, he⟩)
    · exact (y _ (fr_end (by omega : 6 < z) (h3 i)) (fun _ x => x.elim)).2
    · exact (y _ (fr_end (by omega : 6 < z) (h4 i)) (fun _ x => x.elim)).2
  | succ d ih =>
    intro z n be st hz hn h1 h2 h3 h4
    obtain ⟨n, rfl⟩ : ∃ k, n = k + 1 := ⟨n - 1, by omega⟩
    refine pk_le 7 z (fun h => absurd h (by omega)) (fun _ => ⟨fd_n g + 1, ?_⟩)
    refine fy_lea115 (be0 := be) (st0 := st) G hN (fun be' st' I => ?_) (fd_n g) 0 (fd_n g + 1) be st (by omega) (by omega) ⟨fun _ _ _ y => y, fun _ _ _ y => y, fun _ _ _ t => t, fun _ _ _ t => t, fun b j _ _ y => by omega⟩
    have R := fun i => fy_FI_R G I i
    exact ih (z + 1) n be' st' (by omega) (by omega) (fun i r y => (R i).1.2.1 (fun r => fn_B g r i) (fr_L_C (fn_ΦB_m i)) (h1 i) r y) (fun i r y => (R i).2.2.1 (fun r => fn_F g r i) (fr_L_C (fn_ΦF_m i)) (h2 i) r y) (fun i => fr_step (fn_ΦB_m i) (fun r y => y.1) (R i).1 (h3 i)) (fun i => fr_step (fn_ΦF_m i) (fun r y => y.1) (R i).2 (h4 i))
theorem fy_lea15 {post : SY → Prop} (G : fd_G g b_items b_signs b_sizes b_ruleOf b_text)
    (K : ∀ (pl bs : Int32) (em be st en fa : Nat → Int32), fy_LO g em be st en fa → post (nI (fd_n g), nI (fd_m g), g_known, g_counted, pl, bs, g_made, g_faults, g_place, g_depth, g_much, b_ruleOf, b_sizes, b_items, b_signs, b_text, en, fa, em, be, st, b_follow, b_derivations, b_row, b_layer, b_next, b_nodes, b_errors, b_openNode, b_openAlt, b_openItem, b_came, b_sum)) :
    ∀ d r n em be st, r + d = 6 → d < n → (∀ i, i < r → em i = 0 ∧ be i = 0 ∧ st i = 0) → wY_learn_15 post (nI (fd_n g)) (nI (fd_m g)) g_known g_counted g_places g_best g_made g_faults g_place g_depth g_much n (nI r) b_ruleOf b_sizes b_items b_signs b_text b_ends b_far em be st b_follow b_derivations b_row b_layer b_next b_nodes b_errors b_openNode b_openAlt b_openItem b_came b_sum := by
  intro d
  induction d with
  | zero =>
    intro r n em be st hr hn h
    obtain ⟨n, rfl⟩ : ∃ k, n = k + 1 := ⟨n - 1, by omega⟩
    refine pk_le 6 r (fun _ => ⟨8, ?_⟩) (fun h => absurd h (by omega))
    have z1 : ∀ i r, ¬ fy_SB be i r := fun i r y => by have := (h r (by have := y.1; omega)).2.1; rw [fy_SB, this, b_0] at y; exact absurd y.2 (by decide)
    have z2 : ∀ i r, ¬ fy_SB st i r := fun i r y => by have := (h r (by have := y.1; omega)).2.2; rw [fy_SB, this, b_0] at y; exact absurd y.2 (by decide)
    refine fy_lea50 G (fun em' he => ⟨8, ?_⟩) 7 0 8 em (by omega) (by omega) (fun r hr => Or.inl (h r (by omega)).1) (fun r y => ?_) (Or.inr (Nat.zero_le _))
    · exact fy_lea107 G he (fun pl bs be st en fa lo => K _ _ _ _ _ _ _ lo) 7 0 8 be st (by omega) (by omega) (fun i r y => absurd y (z1 i r)) (fun i r y => absurd y (z2 i r)) (fun i => Or.inr (Nat.zero_le _)) (fun i => Or.inr (Nat.zero_le _))
    · have := (h r (by have := y.1; omega)).1
      rw [fy_S1, this] at y; exact absurd y.2 (by decide)
  | succ d ih =>
    intro r n em be st hr hn h
    obtain ⟨n, rfl⟩ : ∃ k, n = k + 1 := ⟨n - 1, by omega⟩
    have vi : vp_in (nI r) 6 := vp_in_nI (by omega) (by omega)
    have ec : (nI r).toNatClampNeg = r := nI_clamp (by omega)
    refine pk_le 6 r (fun h => absurd h (by omega)) (fun _ => ⟨vi, nm_r (e' := upd em r 0) (by rw [ec, fb_b0]) ⟨vi, nm_r (e' := upd be r 0) (by rw [ec]) ⟨vi, nm_r (e' := upd st r 0) (by rw [ec]) (nm_r (nI_1 _) ?_)⟩⟩⟩)
    refine ih (r + 1) n _ _ _ (by omega) (by omega) (fun i hi => ?_)
    by_cases e : i = r
    · subst e; rw [pk_us, pk_us, pk_us]; exact ⟨rfl, rfl, rfl⟩
    · rw [pk_un e, pk_un e, pk_un e]; exact h i (by omega)
theorem fy_learn {post : SY → Prop} (G : fd_G g b_items b_signs b_sizes b_ruleOf b_text) (L : fy_L g g_known b_empty b_begins b_starts b_ends b_far)
    (K : ∀ (pl bs : Int32) (em be st en fa : Nat → Int32), fy_LO g em be st en fa → post (nI (fd_n g), nI (fd_m g), 1, g_counted, pl, bs, g_made, g_faults, g_place, g_depth, g_much, b_ruleOf, b_sizes, b_items, b_signs, b_text, en, fa, em, be, st, b_follow, b_derivations, b_row, b_layer, b_next, b_nodes, b_errors, b_openNode, b_openAlt, b_openItem, b_came, b_sum)) : wpY_learn post (nI (fd_n g), nI (fd_m g), g_known, g_counted, g_places, g_best, g_made, g_faults, g_place, g_depth, g_much, b_ruleOf, b_sizes, b_items, b_signs, b_text, b_ends, b_far, b_empty, b_begins, b_starts, b_follow, b_derivations, b_row, b_layer, b_next, b_nodes, b_errors, b_openNode, b_openAlt, b_openItem, b_came, b_sum) := by
  rcases L with rfl | ⟨rfl, L⟩
  · exact br_t rfl ⟨7, fy_lea15 G (fun pl bs em be st en fa lo => K _ _ _ _ _ _ _ lo) 6 0 7 _ _ _ (by omega) (by omega) (fun i hi => by omega)⟩
  · exact br_f (by decide) (K _ _ _ _ _ _ _ L)
end
end
section
theorem fb_vn8 {x : Int32} (h : ∀ i, bt x i = true → i < 6) : vp_nar .byte x.toInt8.toInt32 = x := by
  have h' : ∀ i, i < 32 → 7 ≤ i → bt x i = false := fun i _ hi => by
    cases hb : bt x i
    · rfl
    · have := h i hb; omega
  rw [fb_n8 h', vp_nar_byte, fb_n8 h']
theorem fb_vn16 {x : Int32} (h : ∀ i, bt x i = true → i < 8) : vp_nar .short x.toInt16.toInt32 = x := by
  have h' : ∀ i, i < 32 → 15 ≤ i → bt x i = false := fun i _ hi => by
    cases hb : bt x i
    · rfl
    · have := h i hb; omega
  rw [fb_n16 h', vp_nar_short, fb_n16 h']
theorem fb_or1 {x : Int32} {k i : Nat} (hk : k < 32) : bt (x ||| ((1 : Int32) <<< (nI k &&& 31))) i = true ↔ bt x i = true ∨ i = k := by
  rw [b_or, Bool.or_eq_true]
  constructor
  · rintro (h | h)
    · exact Or.inl h
    · rw [fb_one hk (fb_lt h), decide_eq_true_eq] at h; exact Or.inr h
  · rintro (h | h)
    · exact Or.inl h
    · right; rw [h, fb_one hk hk, decide_eq_true_eq]
/-- rules in a mask -/
def fx_Sm (e : Int32) (r : Nat) : Prop := r < 6 ∧ bt e r = true
/-- direct first rules and tokens up to an item -/
def fx_DI (g : fd_Gr) (be fi : Nat → Int32) (a k : Nat) : Prop := ∀ r i, r < 6 →
  (bt (be r) i = true ↔ ∃ b j, b < fd_n g ∧ j < fd_L g b ∧ (b < a ∨ (b = a ∧ j < k)) ∧ fd_R g b = r ∧ fn_all g (fn_N g) b 0 j ∧ 7 < fd_W g b j ∧ fd_W g b j - 8 = i) ∧
  (bt (fi r) i = true ↔ ∃ b j, b < fd_n g ∧ j < fd_L g b ∧ (b < a ∨ (b = a ∧ j < k)) ∧ fd_R g b = r ∧ fn_all g (fn_N g) b 0 j ∧ fd_W g b j < 8 ∧ fd_W g b j = i)
section
variable {g : fd_Gr}
variable {f_studied f_empties f_bad f_kept f_busyCount f_fartherCount f_best f_counted f_depth f_place f_nodes f_errors f_much : Int32} {a_what a_sign a_length a_ruleOf a_text a_begins a_firsts a_been a_ends a_far a_begun a_todo a_busy a_farther a_number a_now a_then a_order a_openAlternative a_openItem a_openCame a_openNode a_nodeRule a_nodeAlternative a_nodeFrom a_nodeTo a_nodeParent a_nodeParts a_errorKind a_errorPlace a_errorItem : Nat → Int32}
theorem fx_jud51 {post : SX → Prop} {J39 : Int32 → Int32 → Prop} {a : Nat} {P : Prop} (G : fd_G g a_what a_sign a_length a_ruleOf a_text) (hN : ∀ r, r < 6 → (bt f_empties r = true ↔ fn_N g r)) (ha : a < fd_n g)
    (K : ∀ (b : Int32) (P' : Prop), (b = 0 ∧ ¬ P') ∨ (b = 1 ∧ P') → (P' ↔ P ∨ ∃ k, k < fd_L g a ∧ 1 < fd_S g a k ∧ 7 < fd_W g a k ∧ fn_N g (fd_W g a k - 8)) → J39 (nI (a + 1)) b) :
    ∀ d k n b (P' : Prop), k + d = fd_L g a → d < n → ((b = 0 ∧ ¬ P') ∨ (b = 1 ∧ P')) → (P' ↔ P ∨ ∃ j, j < k ∧ 1 < fd_S g a j ∧ 7 < fd_W g a j ∧ fn_N g (fd_W g a j - 8)) →
      wX_judge_51 post J39 (nI a) (nI (fd_n g)) (nI (fd_m g)) f_studied f_empties f_kept f_busyCount f_fartherCount f_best f_counted f_depth f_place f_nodes f_errors f_much a_what a_sign a_length a_ruleOf a_text a_begins a_firsts a_been a_ends a_far a_begun a_todo a_busy a_farther a_number a_now a_then a_order a_openAlternative a_openItem a_openCame a_openNode a_nodeRule a_nodeAlternative a_nodeFrom a_nodeTo a_nodeParent a_nodeParts a_errorKind a_errorPlace a_errorItem n (nI (5 * a + k)) b := by
  have n12 := fd_n12 G
  have l5 := fd_L5 G ha
  have e5 : (5 : Int32) * nI a + a_length (nI a).toNatClampNeg = nI (5 * a + fd_L g a) := by rw [fx_le G ha, fx_5]
  intro d
  induction d with
  | zero =>
    intro k n b P' hk hn h1 h2
    obtain ⟨n, rfl⟩ : ∃ k, n = k + 1 := ⟨n - 1, by omega⟩
    have e : k = fd_L g a := by omega
    subst e
    exact ⟨vp_in_nI (by omega) (by omega), pk_le (5 * a + fd_L g a) (5 * a + fd_L g a) (fun _ => nm_r (nI_1 _) (K b P' h1 h2)) (fun h => absurd h (by omega)) (hx := e5)⟩
  | succ d ih =>
    intro k n b P' hk hn h1 h2
    obtain ⟨n, rfl⟩ : ∃ k, n = k + 1 := ⟨n - 1, by omega⟩
    have hk' : k < fd_L g a := by omega
    have s4 := fd_S4 G ha hk'
    have w14 := fd_W14 G ha hk'
    have vi := fx_in G ha hk'
    have no : ¬ (1 < fd_S g a k ∧ 7 < fd_W g a k ∧ fn_N g (fd_W g a k - 8)) → wX_judge_51 post J39 (nI a) (nI (fd_n g)) (nI (fd_m g)) f_studied f_empties f_kept f_busyCount f_fartherCount f_best f_counted f_depth f_place f_nodes f_errors f_much a_what a_sign a_length a_ruleOf a_text a_begins a_firsts a_been a_ends a_far a_begun a_todo a_busy a_farther a_number a_now a_then a_order a_openAlternative a_openItem a_openCame a_openNode a_nodeRule a_nodeAlternative a_nodeFrom a_nodeTo a_nodeParent a_nodeParts a_errorKind a_errorPlace a_errorItem n (nI (5 * a + k + 1)) b := by
      intro c
      refine ih (k + 1) n b P' (by omega) (by omega) h1 (h2.trans ⟨fun z => z.elim Or.inl (fun ⟨j, j1, j2⟩ => Or.inr ⟨j, by omega, j2⟩), fun z => z.elim Or.inl (fun ⟨j, j1, j2⟩ => Or.inr ⟨j, ?_, j2⟩)⟩)
      rcases Nat.lt_or_ge j k with y | y
      · exact y
      · rw [show j = k from by omega] at j2; exact absurd j2 c
    refine ⟨vp_in_nI (by omega) (by omega), pk_le (5 * a + fd_L g a) (5 * a + k) (fun h => absurd h (by omega)) (fun _ => ⟨vi, ?_⟩) (hx := e5)⟩
    refine pk_le (fd_S g a k) 1 (fun s1 => nm_r (nI_1 _) (no (fun c => by omega))) (fun s1 => ⟨vi, ?_⟩) (hx := fx_sg G ha hk')
    refine pk_le (fd_W g a k) 7 (fun w7 => nm_r (nI_1 _) (no (fun c => by omega))) (fun w7 => ⟨vi, ?_⟩) (hx := fx_wh G ha hk')
    rw [fx_wh G ha hk', fx_m8 (by omega)]
    refine fb_br (by omega) (fun hb => nm_r (nI_1 _) (no (fun c => ?_))) (fun hb => nm_r (nI_1 _) ?_)
    · rw [(hN _ (by omega)).mpr c.2.2] at hb; exact absurd hb (by decide)
    · have hc : P ∨ ∃ j, j < k + 1 ∧ 1 < fd_S g a j ∧ 7 < fd_W g a j ∧ fn_N g (fd_W g a j - 8) := Or.inr ⟨k, by omega, s1, w7, (hN _ (by omega)).mp hb⟩
      exact ih (k + 1) n 1 True (by omega) (by omega) (Or.inr ⟨rfl, trivial⟩) ⟨fun _ => hc, fun _ => trivial⟩
theorem fx_jud39 {post : SX → Prop} {P : Prop} (G : fd_G g a_what a_sign a_length a_ruleOf a_text) (hN : ∀ r, r < 6 → (bt f_empties r = true ↔ fn_N g r))
    (K : ∀ (b : Int32) (P' : Prop), (b = 0 ∧ ¬ P') ∨ (b = 1 ∧ P') → (P' ↔ P ∨ ∃ a k, a < fd_n g ∧ k < fd_L g a ∧ 1 < fd_S g a k ∧ 7 < fd_W g a k ∧ fn_N g (fd_W g a k - 8)) → post (nI (fd_n g), nI (fd_m g), f_studied, f_empties, b, f_kept, f_busyCount, f_fartherCount, f_best, f_counted, f_depth, f_place, f_nodes, f_errors, f_much, a_what, a_sign, a_length, a_ruleOf, a_text, a_begins, a_firsts, a_been, a_ends, a_far, a_begun, a_todo, a_busy, a_farther, a_number, a_now, a_then, a_order, a_openAlternative, a_openItem, a_openCame, a_openNode, a_nodeRule, a_nodeAlternative, a_nodeFrom, a_nodeTo, a_nodeParent, a_nodeParts, a_errorKind, a_errorPlace, a_errorItem)) :
    ∀ d a n b (P' : Prop), a + d = fd_n g → d < n → ((b = 0 ∧ ¬ P') ∨ (b = 1 ∧ P')) → (P' ↔ P ∨ ∃ c k, c < a ∧ k < fd_L g c ∧ 1 < fd_S g c k ∧ 7 < fd_W g c k ∧ fn_N g (fd_W g c k - 8)) →
      wX_judge_39 post (nI (fd_n g)) (nI (fd_m g)) f_studied f_empties f_kept f_busyCount f_fartherCount f_best f_counted f_depth f_place f_nodes f_errors f_much a_what a_sign a_length a_ruleOf a_text a_begins a_firsts a_been a_ends a_far a_begun a_todo a_busy a_farther a_number a_now a_then a_order a_openAlternative a_openItem a_openCame a_openNode a_nodeRule a_nodeAlternative a_nodeFrom a_nodeTo a_nodeParent a_nodeParts a_errorKind a_errorPlace a_errorItem n (nI a) b := by
  have n12 := fd_n12 G
  intro d
  induction d with
  | zero =>
    intro a n b P' ha hn h1 h2
    obtain ⟨n, rfl⟩ : ∃ k, n = k + 1 := ⟨n - 1, by omega⟩
    have e : a = fd_n g := by omega
    subst e
    exact pk_le (fd_n g) (fd_n g) (fun _ => K b P' h1 h2) (fun h => absurd h (by omega))
  | succ d ih =>
    intro a n b P' ha hn h1 h2
    obtain ⟨n, rfl⟩ : ∃ k, n = k + 1 := ⟨n - 1, by omega⟩
    refine pk_le (fd_n g) a (fun h => absurd h (by omega)) (fun hl => nm_r (fx_5' a) ⟨fd_L g a + 1, ?_⟩)
    refine fx_jud51 (P := P') G hN hl (fun b' P2 h3 h4 => ih (a + 1) n b' P2 (by omega) (by omega) h3 ?_) (fd_L g a) 0 (fd_L g a + 1) b P' (by omega) (by omega) h1 ⟨Or.inl, fun z => z.elim id (fun ⟨j, j1, _⟩ => by omega)⟩
    rw [h4, h2]
    constructor
    · rintro ((z | ⟨c, k, c1, c2⟩) | ⟨k, k1, k2⟩)
      · exact Or.inl z
      · exact Or.inr ⟨c, k, by omega, c2⟩
      · exact Or.inr ⟨a, k, by omega, k1, k2⟩
    · rintro (z | ⟨c, k, c1, c2, c3⟩)
      · exact Or.inl (Or.inl z)
      · rcases Nat.lt_or_ge c a with y | y
        · exact Or.inl (Or.inr ⟨c, k, y, c2, c3⟩)
        · have e : c = a := by omega
          subst e; exact Or.inr ⟨k, c2, c3⟩
theorem fx_jud7 {post : SX → Prop} (G : fd_G g a_what a_sign a_length a_ruleOf a_text) (hN : ∀ r, r < 6 → (bt f_empties r = true ↔ fn_N g r)) (hB : ∀ r, r < 6 → fb_rep (a_begins r) (fn_B g r))
    (K : ∀ (b : Int32), (b = 0 ∧ ¬ fn_bad g) ∨ (b = 1 ∧ fn_bad g) → post (nI (fd_n g), nI (fd_m g), f_studied, f_empties, b, f_kept, f_busyCount, f_fartherCount, f_best, f_counted, f_depth, f_place, f_nodes, f_errors, f_much, a_what, a_sign, a_length, a_ruleOf, a_text, a_begins, a_firsts, a_been, a_ends, a_far, a_begun, a_todo, a_busy, a_farther, a_number, a_now, a_then, a_order, a_openAlternative, a_openItem, a_openCame, a_openNode, a_nodeRule, a_nodeAlternative, a_nodeFrom, a_nodeTo, a_nodeParent, a_nodeParts, a_errorKind, a_errorPlace, a_errorItem)) :
    ∀ d r n b (P' : Prop), r + d = 6 → d < n → ((b = 0 ∧ ¬ P') ∨ (b = 1 ∧ P')) → (P' ↔ ∃ i, i < r ∧ fn_B g i i) →
      wX_judge_7 post (nI (fd_n g)) (nI (fd_m g)) f_studied f_empties f_kept f_busyCount f_fartherCount f_best f_counted f_depth f_place f_nodes f_errors f_much a_what a_sign a_length a_ruleOf a_text a_begins a_firsts a_been a_ends a_far a_begun a_todo a_busy a_farther a_number a_now a_then a_order a_openAlternative a_openItem a_openCame a_openNode a_nodeRule a_nodeAlternative a_nodeFrom a_nodeTo a_nodeParent a_nodeParts a_errorKind a_errorPlace a_errorItem n (nI r) b := by
  intro d
  induction d with
  | zero =>
    intro r n b P' hr hn h1 h2
    obtain ⟨n, rfl⟩ : ∃ k, n = k + 1 := ⟨n - 1, by omega⟩
    have e : r = 6 := by omega
    subst e
    refine pk_le 6 6 (fun _ => ⟨fd_n g + 1, ?_⟩) (fun h => absurd h (by omega))
    refine fx_jud39 (P := P') G hN (fun b' P2 h3 h4 => K b' ?_) (fd_n g) 0 (fd_n g + 1) b P' (by omega) (by omega) h1 ⟨Or.inl, fun z => z.elim id (fun ⟨c, k, c1, _⟩ => by omega)⟩
    have e : P2 ↔ fn_bad g := by rw [h4, h2]; exact Iff.rfl
    rw [← e]; exact h3
  | succ d ih =>
    intro r n b P' hr hn h1 h2
    obtain ⟨n, rfl⟩ : ∃ k, n = k + 1 := ⟨n - 1, by omega⟩
    refine pk_le 6 r (fun h => absurd h (by omega)) (fun _ => ⟨vp_in_nI (by omega) (by omega), ?_⟩)
    rw [show (nI r).toNatClampNeg = r from nI_clamp (by omega)]
    refine fb_br (by omega) (fun hb => nm_r (nI_1 _) ?_) (fun hb => nm_r (nI_1 _) ?_)
    · refine ih (r + 1) n b P' (by omega) (by omega) h1 (h2.trans ⟨fun ⟨i, i1, i2⟩ => ⟨i, by omega, i2⟩, fun ⟨i, i1, i2⟩ => ⟨i, ?_, i2⟩⟩)
      rcases Nat.lt_or_ge i r with y | y
      · exact y
      · have e : i = r := by omega
        subst e
        rw [(hB i (by omega) i (by omega)).mpr i2] at hb; exact absurd hb (by decide)
    · exact ih (r + 1) n 1 True (by omega) (by omega) (Or.inr ⟨rfl, trivial⟩) ⟨fun _ => ⟨r, by omega, (hB r (by omega) r (by omega)).mp hb⟩, fun _ => trivial⟩
/-! spread -/
theorem fx_spr36 {post : SX → Prop} {J28 : Int32 → (Nat → Int32) → (Nat → Int32) → (Nat → Int32) → (Nat → Int32) → (Nat → Int32) → (Nat → Int32) → (Nat → Int32) → (Nat → Int32) → (Nat → Int32) → (Nat → Int32) → (Nat → Int32) → (Nat → Int32) → (Nat → Int32) → (Nat → Int32) → (Nat → Int32) → (Nat → Int32) → (Nat → Int32) → (Nat → Int32) → (Nat → Int32) → (Nat → Int32) → (Nat → Int32) → (Nat → Int32) → (Nat → Int32) → (Nat → Int32) → (Nat → Int32) → (Nat → Int32) → (Nat → Int32) → (Nat → Int32) → (Nat → Int32) → (Nat → Int32) → (Nat → Int32) → Prop} {r : Nat} {fi0 : Nat → Int32} (G : fd_G g a_what a_sign a_length a_ruleOf a_text) (hr : r < 6) (hB : ∀ r, r < 6 → fb_rep (a_begins r) (fn_B g r)) (h8 : ∀ r i, r < 6 → bt (fi0 r) i = true → i < 8) (hth : ∀ r, r < 6 → a_then r = fi0 r)
    (K : ∀ fi, (∀ q, q ≠ r → fi q = a_firsts q) → (∀ t, bt (fi r) t = true ↔ bt (fi0 r) t = true ∨ ∃ m, m < 6 ∧ fn_B g r m ∧ bt (fi0 m) t = true) → J28 (nI (r + 1)) a_what a_sign a_length a_ruleOf a_text a_begins fi a_been a_ends a_far a_begun a_todo a_busy a_farther a_number a_now a_then a_order a_openAlternative a_openItem a_openCame a_openNode a_nodeRule a_nodeAlternative a_nodeFrom a_nodeTo a_nodeParent a_nodeParts a_errorKind a_errorPlace a_errorItem) :
    ∀ d m n fi, m + d = 6 → d < n → (∀ q, q ≠ r → fi q = a_firsts q) → (∀ t, bt (fi r) t = true ↔ bt (fi0 r) t = true ∨ ∃ k, k < m ∧ fn_B g r k ∧ bt (fi0 k) t = true) →
      wX_spread_36 post J28 (nI r) (nI (fd_n g)) (nI (fd_m g)) f_studied f_empties f_bad f_kept f_busyCount f_fartherCount f_best f_counted f_depth f_place f_nodes f_errors f_much n (nI m) a_what a_sign a_length a_ruleOf a_text a_begins fi a_been a_ends a_far a_begun a_todo a_busy a_farther a_number a_now a_then a_order a_openAlternative a_openItem a_openCame a_openNode a_nodeRule a_nodeAlternative a_nodeFrom a_nodeTo a_nodeParent a_nodeParts a_errorKind a_errorPlace a_errorItem := by
  intro d
  induction d with
  | zero =>
    intro m n fi hm hn h1 h2
    obtain ⟨n, rfl⟩ : ∃ k, n = k + 1 := ⟨n - 1, by omega⟩
    have e : m = 6 := by omega
    subst e
    exact pk_le 6 6 (fun _ => nm_r (nI_1 _) (K fi h1 h2)) (fun h => absurd h (by omega))
  | succ d ih =>
    intro m n fi hm hn h1 h2
    obtain ⟨n, rfl⟩ : ∃ k, n = k + 1 := ⟨n - 1, by omega⟩
    refine pk_le 6 m (fun h => absurd h (by omega)) (fun _ => ⟨vp_in_nI (by omega) (by omega), ?_⟩)
    rw [show (nI r).toNatClampNeg = r from nI_clamp (by omega)]
    refine fb_br (by omega) (fun hb => nm_r (nI_1 _) ?_) (fun hb => ⟨vp_in_nI (by omega) (by omega), vp_in_nI (by omega) (by omega), vp_in_nI (by omega) (by omega), ?_⟩)
    · refine ih (m + 1) n fi (by omega) (by omega) h1 (fun t => (h2 t).trans ⟨fun z => z.elim Or.inl (fun ⟨k, k1, k2⟩ => Or.inr ⟨k, by omega, k2⟩), fun z => z.elim Or.inl (fun ⟨k, k1, k2, k3⟩ => Or.inr ⟨k, ?_, k2, k3⟩)⟩)
      rcases Nat.lt_or_ge k m with y | y
      · exact y
      · have e : k = m := by omega
        subst e
        rw [(hB r hr k (by omega)).mpr k2] at hb; exact absurd hb (by decide)
    · rw [show (nI m).toNatClampNeg = m from nI_clamp (by omega)]
      have hm6 : m < 6 := by omega
      have bb : ∀ t, bt (fi r ||| a_then m) t = true ↔ bt (fi0 r) t = true ∨ ∃ k, k < m + 1 ∧ fn_B g r k ∧ bt (fi0 k) t = true := by
        intro t
        rw [b_or, Bool.or_eq_true, h2 t, hth m hm6]
        constructor
        · rintro ((z | ⟨k, k1, k2⟩) | z)
          · exact Or.inl z
          · exact Or.inr ⟨k, by omega, k2⟩
          · exact Or.inr ⟨m, by omega, (hB r hr m (by omega)).mp hb, z⟩
        · rintro (z | ⟨k, k1, k2, k3⟩)
          · exact Or.inl (Or.inl z)
          · rcases Nat.lt_or_ge k m with y | y
            · exact Or.inl (Or.inr ⟨k, y, k2, k3⟩)
            · have e : k = m := by omega
              subst e; exact Or.inr k3
      have nar : vp_nar .short (fi r ||| a_then m).toInt16.toInt32 = fi r ||| a_then m := by
        refine fb_vn16 (fun t z => ?_)
        rcases (bb t).mp z with z | ⟨k, k1, k2, k3⟩
        · exact h8 r t hr z
        · exact h8 k t (by omega) k3
      refine nm_r (e' := upd fi r (fi r ||| a_then m)) (by rw [nar]) (nm_r (nI_1 _) ?_)
      exact ih (m + 1) n _ (by omega) (by omega) (fun q hq => by rw [pk_un hq]; exact h1 q hq) (fun t => by rw [pk_us]; exact bb t)
theorem fx_spr28 {post : SX → Prop} {fi0 : Nat → Int32} (G : fd_G g a_what a_sign a_length a_ruleOf a_text) (hB : ∀ r, r < 6 → fb_rep (a_begins r) (fn_B g r)) (h8 : ∀ r i, r < 6 → bt (fi0 r) i = true → i < 8) (hth : ∀ r, r < 6 → a_then r = fi0 r)
    (K : ∀ fi, (∀ r, r < 6 → ∀ t, bt (fi r) t = true ↔ bt (fi0 r) t = true ∨ ∃ m, m < 6 ∧ fn_B g r m ∧ bt (fi0 m) t = true) → post (nI (fd_n g), nI (fd_m g), f_studied, f_empties, f_bad, f_kept, f_busyCount, f_fartherCount, f_best, f_counted, f_depth, f_place, f_nodes, f_errors, f_much, a_what, a_sign, a_length, a_ruleOf, a_text, a_begins, fi, a_been, a_ends, a_far, a_begun, a_todo, a_busy, a_farther, a_number, a_now, a_then, a_order, a_openAlternative, a_openItem, a_openCame, a_openNode, a_nodeRule, a_nodeAlternative, a_nodeFrom, a_nodeTo, a_nodeParent, a_nodeParts, a_errorKind, a_errorPlace, a_errorItem)) :
    ∀ d r n fi, r + d = 6 → d < n → (∀ q, r ≤ q → fi q = fi0 q) → (∀ q, q < r → ∀ t, bt (fi q) t = true ↔ bt (fi0 q) t = true ∨ ∃ m, m < 6 ∧ fn_B g q m ∧ bt (fi0 m) t = true) →
      wX_spread_28 post (nI (fd_n g)) (nI (fd_m g)) f_studied f_empties f_bad f_kept f_busyCount f_fartherCount f_best f_counted f_depth f_place f_nodes f_errors f_much n (nI r) a_what a_sign a_length a_ruleOf a_text a_begins fi a_been a_ends a_far a_begun a_todo a_busy a_farther a_number a_now a_then a_order a_openAlternative a_openItem a_openCame a_openNode a_nodeRule a_nodeAlternative a_nodeFrom a_nodeTo a_nodeParent a_nodeParts a_errorKind a_errorPlace a_errorItem := by
  intro d
  induction d with
  | zero =>
    intro r n fi hr hn h1 h2
    obtain ⟨n, rfl⟩ : ∃ k, n = k + 1 := ⟨n - 1, by omega⟩
    have e : r = 6 := by omega
    subst e
    exact pk_le 6 6 (fun _ => K fi h2) (fun h => absurd h (by omega))
  | succ d ih =>
    intro r n fi hr hn h1 h2
    obtain ⟨n, rfl⟩ : ∃ k, n = k + 1 := ⟨n - 1, by omega⟩
    refine pk_le 6 r (fun h => absurd h (by omega)) (fun _ => ⟨7, ?_⟩)
    refine fx_spr36 (a_firsts := fi) G (by omega) hB h8 hth (fun fi' h3 h4 => ?_) 6 0 7 fi (by omega) (by omega) (fun _ _ => rfl) (fun t => by rw [h1 r (Nat.le_refl _)]; exact ⟨Or.inl, fun z => z.elim id (fun ⟨k, k1, _⟩ => by omega)⟩)
    refine ih (r + 1) n fi' (by omega) (by omega) (fun q hq => by rw [h3 q (by omega)]; exact h1 q (by omega)) (fun q hq => ?_)
    rcases Nat.lt_or_ge q r with y | y
    · rw [h3 q (by omega)]; exact h2 q y
    · rw [show q = r from by omega]; exact h4
theorem fx_spr2 {post : SX → Prop} (G : fd_G g a_what a_sign a_length a_ruleOf a_text) (hB : ∀ r, r < 6 → fb_rep (a_begins r) (fn_B g r)) (h8 : ∀ r i, r < 6 → bt (a_firsts r) i = true → i < 8)
    (K : ∀ fi th, (∀ r, r < 6 → ∀ t, bt (fi r) t = true ↔ bt (a_firsts r) t = true ∨ ∃ m, m < 6 ∧ fn_B g r m ∧ bt (a_firsts m) t = true) → post (nI (fd_n g), nI (fd_m g), f_studied, f_empties, f_bad, f_kept, f_busyCount, f_fartherCount, f_best, f_counted, f_depth, f_place, f_nodes, f_errors, f_much, a_what, a_sign, a_length, a_ruleOf, a_text, a_begins, fi, a_been, a_ends, a_far, a_begun, a_todo, a_busy, a_farther, a_number, a_now, th, a_order, a_openAlternative, a_openItem, a_openCame, a_openNode, a_nodeRule, a_nodeAlternative, a_nodeFrom, a_nodeTo, a_nodeParent, a_nodeParts, a_errorKind, a_errorPlace, a_errorItem)) :
    ∀ d r n th, r + d = 6 → d < n → (∀ q, q < r → th q = a_firsts q) → wX_spread_2 post (nI (fd_n g)) (nI (fd_m g)) f_studied f_empties f_bad f_kept f_busyCount f_fartherCount f_best f_counted f_depth f_place f_nodes f_errors f_much n (nI r) a_what a_sign a_length a_ruleOf a_text a_begins a_firsts a_been a_ends a_far a_begun a_todo a_busy a_farther a_number a_now th a_order a_openAlternative a_openItem a_openCame a_openNode a_nodeRule a_nodeAlternative a_nodeFrom a_nodeTo a_nodeParent a_nodeParts a_errorKind a_errorPlace a_errorItem := by
  intro d
  induction d with
  | zero =>
    intro r n th hr hn h1
    obtain ⟨n, rfl⟩ : ∃ k, n = k + 1 := ⟨n - 1, by omega⟩
    have e : r = 6 := by omega
    subst e
    refine pk_le 6 6 (fun _ => ⟨7, ?_⟩) (fun h => absurd h (by omega))
    exact fx_spr28 (fi0 := a_firsts) (a_then := th) G hB h8 h1 (fun fi h => K fi th h) 6 0 7 _ (by omega) (by omega) (fun _ _ => rfl) (fun q hq => by omega)
  | succ d ih =>
    intro r n th hr hn h1
    obtain ⟨n, rfl⟩ : ∃ k, n = k + 1 := ⟨n - 1, by omega⟩
    refine pk_le 6 r (fun h => absurd h (by omega)) (fun _ => ⟨vp_in_nI (by omega) (by omega), vp_in_nI (by omega) (by omega), nm_r (e' := upd th r (a_firsts r)) (by rw [nI_clamp (by omega)]) (nm_r (nI_1 _) ?_)⟩)
    refine ih (r + 1) n _ (by omega) (by omega) (fun q hq => ?_)
    by_cases e : q = r
    · rw [e, pk_us]
    · rw [pk_un e]; exact h1 q (by omega)
end
end
section
section
variable {g : fd_Gr}
variable {f_studied f_empties f_bad f_kept f_busyCount f_fartherCount f_best f_counted f_depth f_place f_nodes f_errors f_much : Int32} {a_what a_sign a_length a_ruleOf a_text a_begins a_firsts a_been a_ends a_far a_begun a_todo a_busy a_farther a_number a_now a_then a_order a_openAlternative a_openItem a_openCame a_openNode a_nodeRule a_nodeAlternative a_nodeFrom a_nodeTo a_nodeParent a_nodeParts a_errorKind a_errorPlace a_errorItem : Nat → Int32}
/-! Warshall -/
theorem fx_stu233 {post : SX → Prop} {J225 : Int32 → (Nat → Int32) → (Nat → Int32) → (Nat → Int32) → (Nat → Int32) → (Nat → Int32) → (Nat → Int32) → (Nat → Int32) → (Nat → Int32) → (Nat → Int32) → (Nat → Int32) → (Nat → Int32) → (Nat → Int32) → (Nat → Int32) → (Nat → Int32) → (Nat → Int32) → (Nat → Int32) → (Nat → Int32) → (Nat → Int32) → (Nat → Int32) → (Nat → Int32) → (Nat → Int32) → (Nat → Int32) → (Nat → Int32) → (Nat → Int32) → (Nat → Int32) → (Nat → Int32) → (Nat → Int32) → (Nat → Int32) → (Nat → Int32) → (Nat → Int32) → (Nat → Int32) → Prop} {m : Nat} {be0 : Nat → Int32} (G : fd_G g a_what a_sign a_length a_ruleOf a_text) (hm : m < 6) (h6 : ∀ r i, r < 6 → bt (be0 r) i = true → i < 6)
    (K : ∀ be, (∀ r, r < 6 → ∀ i, bt (be r) i = true ↔ bt (be0 r) i = true ∨ (bt (be0 r) m = true ∧ bt (be0 m) i = true)) → J225 (nI (m + 1)) a_what a_sign a_length a_ruleOf a_text be a_firsts a_been a_ends a_far a_begun a_todo a_busy a_farther a_number a_now a_then a_order a_openAlternative a_openItem a_openCame a_openNode a_nodeRule a_nodeAlternative a_nodeFrom a_nodeTo a_nodeParent a_nodeParts a_errorKind a_errorPlace a_errorItem) :
    ∀ d r n be, r + d = 6 → d < n → (∀ q, r ≤ q → be q = be0 q) → (∀ q, q < r → ∀ i, bt (be q) i = true ↔ bt (be0 q) i = true ∨ (bt (be0 q) m = true ∧ bt (be0 m) i = true)) →
      wX_study_233 post J225 (nI m) (nI (fd_n g)) (nI (fd_m g)) f_studied f_empties f_bad f_kept f_busyCount f_fartherCount f_best f_counted f_depth f_place f_nodes f_errors f_much n (nI r) a_what a_sign a_length a_ruleOf a_text be a_firsts a_been a_ends a_far a_begun a_todo a_busy a_farther a_number a_now a_then a_order a_openAlternative a_openItem a_openCame a_openNode a_nodeRule a_nodeAlternative a_nodeFrom a_nodeTo a_nodeParent a_nodeParts a_errorKind a_errorPlace a_errorItem := by
  intro d
  induction d with
  | zero =>
    intro r n be hr hn h1 h2
    obtain ⟨n, rfl⟩ : ∃ k, n = k + 1 := ⟨n - 1, by omega⟩
    have e : r = 6 := by omega
    subst e
    exact pk_le 6 6 (fun _ => nm_r (nI_1 _) (K be h2)) (fun h => absurd h (by omega))
  | succ d ih =>
    intro r n be hr hn h1 h2
    obtain ⟨n, rfl⟩ : ∃ k, n = k + 1 := ⟨n - 1, by omega⟩
    have vr : vp_in (nI r) 6 := vp_in_nI (by omega) (by omega)
    refine pk_le 6 r (fun h => absurd h (by omega)) (fun _ => ⟨vr, ?_⟩)
    rw [show (nI r).toNatClampNeg = r from nI_clamp (by omega)]
    have er := h1 r (Nat.le_refl _)
    have bm : ∀ i, bt (be m) i = true ↔ bt (be0 m) i = true := by
      intro i
      rcases Nat.lt_or_ge m r with y | y
      · exact (h2 m y i).trans ⟨fun z => z.elim id (fun x => x.2), Or.inl⟩
      · rw [h1 m y]
    refine fb_br (by omega) (fun hb => nm_r (nI_1 _) ?_) (fun hb => ⟨vr, vp_in_nI (by omega) (by omega), vr, ?_⟩)
    · refine ih (r + 1) n be (by omega) (by omega) (fun q hq => h1 q (by omega)) (fun q hq i => ?_)
      rcases Nat.lt_or_ge q r with y | y
      · exact h2 q y i
      · have e : q = r := by omega
        subst e
        rw [er] at hb
        rw [er]
        exact ⟨Or.inl, fun z => z.elim id (fun x => by rw [hb] at x; exact absurd x.1 (by decide))⟩
    · rw [show (nI m).toNatClampNeg = m from nI_clamp (by omega)]
      rw [er] at hb
      have bb : ∀ i, bt (be r ||| be m) i = true ↔ bt (be0 r) i = true ∨ (bt (be0 r) m = true ∧ bt (be0 m) i = true) := by
        intro i
        rw [b_or, Bool.or_eq_true, bm i, er]
        exact ⟨fun z => z.elim Or.inl (fun y => Or.inr ⟨hb, y⟩), fun z => z.elim Or.inl (fun y => Or.inr y.2)⟩
      have nar : vp_nar .byte (be r ||| be m).toInt8.toInt32 = be r ||| be m := by
        refine fb_vn8 (fun i z => ?_)
        rcases (bb i).mp z with z | z
        · exact h6 r i (by omega) z
        · exact h6 m i hm z.2
      refine nm_r (e' := upd be r (be r ||| be m)) (by rw [nar]) (nm_r (nI_1 _) ?_)
      refine ih (r + 1) n _ (by omega) (by omega) (fun q hq => by rw [pk_un (by omega)]; exact h1 q (by omega)) (fun q hq i => ?_)
      rcases Nat.lt_or_ge q r with y | y
      · rw [pk_un (by omega)]; exact h2 q y i
      · have e : q = r := by omega
        subst e
        rw [pk_us]; exact bb i
theorem fx_stu225 {post : SX → Prop} (G : fd_G g a_what a_sign a_length a_ruleOf a_text) (hN : ∀ r, r < 6 → (bt f_empties r = true ↔ fn_N g r)) (hF : ∀ r, r < 6 → ∀ i, bt (a_firsts r) i = true ↔ fn_T g r i)
    (K : ∀ (b : Int32) (be fi th : Nat → Int32), fx_SO g f_empties b be fi → post (nI (fd_n g), nI (fd_m g), f_studied, f_empties, b, f_kept, f_busyCount, f_fartherCount, f_best, f_counted, f_depth, f_place, f_nodes, f_errors, f_much, a_what, a_sign, a_length, a_ruleOf, a_text, be, fi, a_been, a_ends, a_far, a_begun, a_todo, a_busy, a_farther, a_number, a_now, th, a_order, a_openAlternative, a_openItem, a_openCame, a_openNode, a_nodeRule, a_nodeAlternative, a_nodeFrom, a_nodeTo, a_nodeParent, a_nodeParts, a_errorKind, a_errorPlace, a_errorItem)) :
    ∀ d m n be, m + d = 6 → d < n → (∀ r i, r < 6 → bt (be r) i = true → fn_B g r i) → (∀ r x, fn_D g r x → bt (be r) x = true) → (∀ r k i, r < 6 → k < m → bt (be r) k = true → bt (be k) i = true → bt (be r) i = true) →
      wX_study_225 post (nI (fd_n g)) (nI (fd_m g)) f_studied f_empties f_bad f_kept f_busyCount f_fartherCount f_best f_counted f_depth f_place f_nodes f_errors f_much n (nI m) a_what a_sign a_length a_ruleOf a_text be a_firsts a_been a_ends a_far a_begun a_todo a_busy a_farther a_number a_now a_then a_order a_openAlternative a_openItem a_openCame a_openNode a_nodeRule a_nodeAlternative a_nodeFrom a_nodeTo a_nodeParent a_nodeParts a_errorKind a_errorPlace a_errorItem := by
  intro d
  induction d with
  | zero =>
    intro m n be hm hn h1 h2 h3
    obtain ⟨n, rfl⟩ : ∃ k, n = k + 1 := ⟨n - 1, by omega⟩
    have e : m = 6 := by omega
    subst e
    have hB : ∀ r, r < 6 → fb_rep (be r) (fn_B g r) := by
      intro r hr i hi
      refine ⟨h1 r i hr, fun z => ?_⟩
      have := fn_B_in (R := fun r i => bt (be r) i = true) h2 (fun r x y d z1 z2 => h3 r x y (fn_D6 G d).1 (fn_D6 G d).2 z1 z2) z
      exact this
    have h8 : ∀ r i, r < 6 → bt (a_firsts r) i = true → i < 8 := fun r i hr z => (fn_T8 G ((hF r hr i).mp z)).2
    refine pk_le 6 6 (fun _ => ⟨7, ?_⟩) (fun h => absurd h (by omega))
    refine fx_spr2 (a_begins := be) G hB h8 (fun fi th h4 => ?_) 6 0 7 _ (by omega) (by omega) (fun q hq => by omega)
    refine ⟨7, fx_jud7 (a_begins := be) (a_firsts := fi) (a_then := th) G hN hB (fun b hb => K b be fi th ⟨hN, hB, fun r hr i hi => ?_, hb⟩) 6 0 7 0 False (by omega) (by omega) (Or.inl ⟨rfl, fun z => z⟩) ⟨fun z => z.elim, fun ⟨i, i1, _⟩ => by omega⟩⟩
    rw [h4 r hr i, hF r hr i, fn_F_iff]
    exact ⟨fun z => z.elim Or.inl (fun ⟨x, x1, x2, x3⟩ => Or.inr ⟨x, x2, (hF x x1 i).mp x3⟩), fun z => z.elim Or.inl (fun ⟨x, x2, x3⟩ => Or.inr ⟨x, (fn_B6 G x2).2, x2, (hF x (fn_B6 G x2).2 i).mpr x3⟩)⟩
  | succ d ih =>
    intro m n be hm hn h1 h2 h3
    obtain ⟨n, rfl⟩ : ∃ k, n = k + 1 := ⟨n - 1, by omega⟩
    have hm6 : m < 6 := by omega
    refine pk_le 6 m (fun h => absurd h (by omega)) (fun _ => ⟨7, ?_⟩)
    refine fx_stu233 (be0 := be) G hm6 (fun r i hr z => (fn_B6 G (h1 r i hr z)).2) (fun be' h4 => ?_) 6 0 7 be (by omega) (by omega) (fun _ _ => rfl) (fun q hq => by omega)
    refine ih (m + 1) n be' (by omega) (by omega) (fun r i hr z => ?_) (fun r x dx => (h4 r (fn_D6 G dx).1 x).mpr (Or.inl (h2 r x dx))) (fun r k i hr hk z1 z2 => ?_)
    · rcases (h4 r hr i).mp z with z | z
      · exact h1 r i hr z
      · exact fn_B_t (h1 r m hr z.1) (h1 m i hm6 z.2)
    · have z1' := (h4 r hr k).mp z1
      have z2' := (h4 k (by omega) i).mp z2
      apply (h4 r hr i).mpr
      rcases Nat.lt_or_ge k m with y | y
      · rcases z1' with a1 | a1
        · rcases z2' with b1 | b1
          · exact Or.inl (h3 r k i hr y a1 b1)
          · exact Or.inr ⟨h3 r k m hr y a1 b1.1, b1.2⟩
        · rcases z2' with b1 | b1
          · exact Or.inr ⟨a1.1, h3 m k i hm6 y a1.2 b1⟩
          · exact Or.inr ⟨a1.1, b1.2⟩
      · have e : k = m := by omega
        subst e
        have a1 : bt (be r) k = true := z1'.elim id (fun x => x.1)
        rcases z2' with b1 | b1
        · exact Or.inr ⟨a1, b1⟩
        · exact Or.inr ⟨a1, b1.2⟩
/-! direct ones -/
theorem fx_stu129 {post : SX → Prop} {J108 : Int32 → (Nat → Int32) → (Nat → Int32) → (Nat → Int32) → (Nat → Int32) → (Nat → Int32) → (Nat → Int32) → (Nat → Int32) → (Nat → Int32) → (Nat → Int32) → (Nat → Int32) → (Nat → Int32) → (Nat → Int32) → (Nat → Int32) → (Nat → Int32) → (Nat → Int32) → (Nat → Int32) → (Nat → Int32) → (Nat → Int32) → (Nat → Int32) → (Nat → Int32) → (Nat → Int32) → (Nat → Int32) → (Nat → Int32) → (Nat → Int32) → (Nat → Int32) → (Nat → Int32) → (Nat → Int32) → (Nat → Int32) → (Nat → Int32) → (Nat → Int32) → (Nat → Int32) → Prop} {a : Nat} (G : fd_G g a_what a_sign a_length a_ruleOf a_text) (hN : ∀ r, r < 6 → (bt f_empties r = true ↔ fn_N g r)) (ha : a < fd_n g)
    (K : ∀ be fi, fx_DI g be fi (a + 1) 0 → J108 (nI (a + 1)) a_what a_sign a_length a_ruleOf a_text be fi a_been a_ends a_far a_begun a_todo a_busy a_farther a_number a_now a_then a_order a_openAlternative a_openItem a_openCame a_openNode a_nodeRule a_nodeAlternative a_nodeFrom a_nodeTo a_nodeParent a_nodeParts a_errorKind a_errorPlace a_errorItem) :
    ∀ d k n x4 be fi, k + d = fd_L g a → d < n → ((x4 = 1 ∧ fn_all g (fn_N g) a 0 k) ∨ (x4 = 0 ∧ ¬ fn_all g (fn_N g) a 0 k)) → fx_DI g be fi a k →
      wX_study_129 post J108 (nI a) (nI (fd_R g a)) (nI (fd_n g)) (nI (fd_m g)) f_studied f_empties f_bad f_kept f_busyCount f_fartherCount f_best f_counted f_depth f_place f_nodes f_errors f_much n x4 (nI k) a_what a_sign a_length a_ruleOf a_text be fi a_been a_ends a_far a_begun a_todo a_busy a_farther a_number a_now a_then a_order a_openAlternative a_openItem a_openCame a_openNode a_nodeRule a_nodeAlternative a_nodeFrom a_nodeTo a_nodeParent a_nodeParts a_errorKind a_errorPlace a_errorItem := by
  have n12 := fd_n12 G
  have l5 := fd_L5 G ha
  have r6 := fd_R6 G ha
  have out : ∀ (k : Nat) (be fi : Nat → Int32), (∀ j, j < fd_L g a → k ≤ j → ¬ fn_all g (fn_N g) a 0 j) → fx_DI g be fi a k → fx_DI g be fi (a + 1) 0 := by
    intro k be fi hk I r i hr
    obtain ⟨i1, i2⟩ := I r i hr
    have cond : ∀ b j, j < fd_L g b → fn_all g (fn_N g) b 0 j → ((b < a ∨ (b = a ∧ j < k)) ↔ (b < a + 1 ∨ (b = a + 1 ∧ j < 0))) := by
      intro b j h1 h2
      refine ⟨fun z => by omega, fun z => ?_⟩
      rcases Nat.lt_or_ge b a with y | y
      · exact Or.inl y
      · have e : b = a := by omega
        subst e
        rcases Nat.lt_or_ge j k with x | x
        · exact Or.inr ⟨rfl, x⟩
        · exact absurd h2 (hk j h1 x)
    refine ⟨i1.trans ⟨fun ⟨b, j, h1, h2, h3, h4, h5, h6⟩ => ⟨b, j, h1, h2, (cond b j h2 h5).mp h3, h4, h5, h6⟩, fun ⟨b, j, h1, h2, h3, h4, h5, h6⟩ => ⟨b, j, h1, h2, (cond b j h2 h5).mpr h3, h4, h5, h6⟩⟩, i2.trans ⟨fun ⟨b, j, h1, h2, h3, h4, h5, h6⟩ => ⟨b, j, h1, h2, (cond b j h2 h5).mp h3, h4, h5, h6⟩, fun ⟨b, j, h1, h2, h3, h4, h5, h6⟩ => ⟨b, j, h1, h2, (cond b j h2 h5).mpr h3, h4, h5, h6⟩⟩⟩
  intro d
  induction d with
  | zero =>
    intro k n x4 be fi hk hn h1 I
    obtain ⟨n, rfl⟩ : ∃ k, n = k + 1 := ⟨n - 1, by omega⟩
    exact ⟨vp_in_nI (by omega) (by omega), pk_le (fd_L g a) k (fun _ => nm_r (nI_1 _) (K _ _ (out k be fi (fun j h1 h2 => by omega) I))) (fun h => absurd h (by omega)) (hx := fx_le G ha)⟩
  | succ d ih =>
    intro k n x4 be fi hk hn h1 I
    obtain ⟨n, rfl⟩ : ∃ k, n = k + 1 := ⟨n - 1, by omega⟩
    refine ⟨vp_in_nI (by omega) (by omega), pk_le (fd_L g a) k (fun h => absurd h (by omega)) (fun hkl => ?_) (hx := fx_le G ha)⟩
    rcases h1 with ⟨rfl, hall⟩ | ⟨rfl, hall⟩
    · refine br_f (by decide) ?_
      have w14 := fd_W14 G ha hkl
      rw [fx_5]
      refine ⟨fx_in G ha hkl, nm_r (fx_wh G ha hkl) ?_⟩
      have vr : vp_in (nI (fd_R g a)) 6 := vp_in_nI r6 (by omega)
      have cr : (nI (fd_R g a)).toNatClampNeg = fd_R g a := nI_clamp (by omega)
      have cond : ∀ b j, (b < a ∨ (b = a ∧ j < k + 1)) ↔ (b < a ∨ (b = a ∧ j < k)) ∨ (b = a ∧ j = k) := by intro b j; omega
      have next : ∀ (be' fi' : Nat → Int32), fx_DI g be' fi' a (k + 1) → wX_study_199 post J108 (wX_study_129 post J108 (nI a) (nI (fd_R g a)) (nI (fd_n g)) (nI (fd_m g)) f_studied f_empties f_bad f_kept f_busyCount f_fartherCount f_best f_counted f_depth f_place f_nodes f_errors f_much n) (nI a) (nI (fd_R g a)) (nI k) (nI (fd_n g)) (nI (fd_m g)) f_studied f_empties f_bad f_kept f_busyCount f_fartherCount f_best f_counted f_depth f_place f_nodes f_errors f_much a_what a_sign a_length a_ruleOf a_text be' fi' a_been a_ends a_far a_begun a_todo a_busy a_farther a_number a_now a_then a_order a_openAlternative a_openItem a_openCame a_openNode a_nodeRule a_nodeAlternative a_nodeFrom a_nodeTo a_nodeParent a_nodeParts a_errorKind a_errorPlace a_errorItem := by
        intro be' fi' I'
        unfold wX_study_199
        rw [fx_5]
        refine fx_skips G ha hkl hN (fun z => nm_r (nI_1 _) (ih (k + 1) n 1 _ _ (by omega) (by omega) (Or.inl ⟨rfl, fn_all_s hall z⟩) I')) (fun z => nm_r (nI_1 _) (ih (k + 1) n 0 _ _ (by omega) (by omega) (Or.inr ⟨rfl, fun y => z (y k (Nat.zero_le _) (by omega))⟩) I'))
      refine pk_le (fd_W g a k) 7 (fun h7 => ?_) (fun h7 => ?_)
      · have ob : ∀ i, bt (fi (fd_R g a) ||| ((1 : Int32) <<< (nI (fd_W g a k) &&& 31))) i = true ↔ bt (fi (fd_R g a)) i = true ∨ i = fd_W g a k := fun i => fb_or1 (by omega)
        have nar : vp_nar .short (fi (fd_R g a) ||| ((1 : Int32) <<< (nI (fd_W g a k) &&& 31))).toInt16.toInt32 = fi (fd_R g a) ||| ((1 : Int32) <<< (nI (fd_W g a k) &&& 31)) := by
          refine fb_vn16 (fun i z => ?_)
          rcases (ob i).mp z with z | z
          · obtain ⟨b, j, _, _, _, _, _, h8, e⟩ := (I _ i r6).2.mp z; omega
          · omega
        refine ⟨vr, vr, nm_r (e' := upd fi (fd_R g a) (fi (fd_R g a) ||| ((1 : Int32) <<< (nI (fd_W g a k) &&& 31)))) (by rw [cr, nar]) (next _ _ (fun r i hr => ⟨(I r i hr).1.trans ⟨fun ⟨b, j, h1, h2, h3, h4⟩ => ⟨b, j, h1, h2, (cond b j).mpr (Or.inl h3), h4⟩, fun ⟨b, j, h1, h2, h3, h4⟩ => ?_⟩, ?_⟩))⟩
        · rcases (cond b j).mp h3 with y | ⟨rfl, rfl⟩
          · exact ⟨b, j, h1, h2, y, h4⟩
          · omega
        · by_cases e : r = fd_R g a
          · subst e
            rw [pk_us, ob i, (I _ i r6).2]
            constructor
            · rintro (⟨b, j, h1, h2, h3, h4⟩ | z)
              · exact ⟨b, j, h1, h2, (cond b j).mpr (Or.inl h3), h4⟩
              · exact ⟨a, k, ha, hkl, (cond a k).mpr (Or.inr ⟨rfl, rfl⟩), rfl, hall, by omega, z.symm⟩
            · rintro ⟨b, j, h1, h2, h3, h4⟩
              rcases (cond b j).mp h3 with y | ⟨rfl, rfl⟩
              · exact Or.inl ⟨b, j, h1, h2, y, h4⟩
              · exact Or.inr h4.2.2.2.symm
          · rw [pk_un e]
            refine (I r i hr).2.trans ⟨fun ⟨b, j, h1, h2, h3, h4⟩ => ⟨b, j, h1, h2, (cond b j).mpr (Or.inl h3), h4⟩, fun ⟨b, j, h1, h2, h3, h4⟩ => ?_⟩
            rcases (cond b j).mp h3 with y | ⟨rfl, rfl⟩
            · exact ⟨b, j, h1, h2, y, h4⟩
            · exact absurd h4.1.symm e
      · rw [fx_m8 (by omega)]
        have ob : ∀ i, bt (be (fd_R g a) ||| ((1 : Int32) <<< (nI (fd_W g a k - 8) &&& 31))) i = true ↔ bt (be (fd_R g a)) i = true ∨ i = fd_W g a k - 8 := fun i => fb_or1 (by omega)
        have nar : vp_nar .byte (be (fd_R g a) ||| ((1 : Int32) <<< (nI (fd_W g a k - 8) &&& 31))).toInt8.toInt32 = be (fd_R g a) ||| ((1 : Int32) <<< (nI (fd_W g a k - 8) &&& 31)) := by
          refine fb_vn8 (fun i z => ?_)
          rcases (ob i).mp z with z | z
          · obtain ⟨b, j, h1, h2, _, _, _, h8, e⟩ := (I _ i r6).1.mp z
            have := fd_W14 G h1 h2
            omega
          · omega
        refine ⟨vr, vr, nm_r (e' := upd be (fd_R g a) (be (fd_R g a) ||| ((1 : Int32) <<< (nI (fd_W g a k - 8) &&& 31)))) (by rw [cr, nar]) (next _ _ (fun r i hr => ⟨?_, (I r i hr).2.trans ⟨fun ⟨b, j, h1, h2, h3, h4⟩ => ⟨b, j, h1, h2, (cond b j).mpr (Or.inl h3), h4⟩, fun ⟨b, j, h1, h2, h3, h4⟩ => ?_⟩⟩))⟩
        · by_cases e : r = fd_R g a
          · subst e
            rw [pk_us, ob i, (I _ i r6).1]
            constructor
            · rintro (⟨b, j, h1, h2, h3, h4⟩ | z)
              · exact ⟨b, j, h1, h2, (cond b j).mpr (Or.inl h3), h4⟩
              · exact ⟨a, k, ha, hkl, (cond a k).mpr (Or.inr ⟨rfl, rfl⟩), rfl, hall, by omega, z.symm⟩
            · rintro ⟨b, j, h1, h2, h3, h4⟩
              rcases (cond b j).mp h3 with y | ⟨rfl, rfl⟩
              · exact Or.inl ⟨b, j, h1, h2, y, h4⟩
              · exact Or.inr h4.2.2.2.symm
          · rw [pk_un e]
            refine (I r i hr).1.trans ⟨fun ⟨b, j, h1, h2, h3, h4⟩ => ⟨b, j, h1, h2, (cond b j).mpr (Or.inl h3), h4⟩, fun ⟨b, j, h1, h2, h3, h4⟩ => ?_⟩
            rcases (cond b j).mp h3 with y | ⟨rfl, rfl⟩
            · exact ⟨b, j, h1, h2, y, h4⟩
            · exact absurd h4.1.symm e
        · rcases (cond b j).mp h3 with y | ⟨rfl, rfl⟩
          · exact ⟨b, j, h1, h2, y, h4⟩
          · omega
    · exact br_t rfl (nm_r (nI_1 _) (K _ _ (out k be fi (fun j h1 h2 h3 => hall (fun x x1 x2 => h3 x x1 (by omega))) I)))
theorem fx_stu108 {post : SX → Prop} (G : fd_G g a_what a_sign a_length a_ruleOf a_text) (hN : ∀ r, r < 6 → (bt f_empties r = true ↔ fn_N g r))
    (K : ∀ (b : Int32) (be fi th : Nat → Int32), fx_SO g f_empties b be fi → post (nI (fd_n g), nI (fd_m g), f_studied, f_empties, b, f_kept, f_busyCount, f_fartherCount, f_best, f_counted, f_depth, f_place, f_nodes, f_errors, f_much, a_what, a_sign, a_length, a_ruleOf, a_text, be, fi, a_been, a_ends, a_far, a_begun, a_todo, a_busy, a_farther, a_number, a_now, th, a_order, a_openAlternative, a_openItem, a_openCame, a_openNode, a_nodeRule, a_nodeAlternative, a_nodeFrom, a_nodeTo, a_nodeParent, a_nodeParts, a_errorKind, a_errorPlace, a_errorItem)) :
    ∀ d a n be fi, a + d = fd_n g → d < n → fx_DI g be fi a 0 → wX_study_108 post (nI (fd_n g)) (nI (fd_m g)) f_studied f_empties f_bad f_kept f_busyCount f_fartherCount f_best f_counted f_depth f_place f_nodes f_errors f_much n (nI a) a_what a_sign a_length a_ruleOf a_text be fi a_been a_ends a_far a_begun a_todo a_busy a_farther a_number a_now a_then a_order a_openAlternative a_openItem a_openCame a_openNode a_nodeRule a_nodeAlternative a_nodeFrom a_nodeTo a_nodeParent a_nodeParts a_errorKind a_errorPlace a_errorItem := by
  have n12 := fd_n12 G
  intro d
  induction d with
  | zero =>
    intro a n be fi ha hn I
    obtain ⟨n, rfl⟩ : ∃ k, n = k + 1 := ⟨n - 1, by omega⟩
    have e : a = fd_n g := by omega
    subst e
    refine pk_le (fd_n g) (fd_n g) (fun _ => ⟨7, ?_⟩) (fun h => absurd h (by omega))
    have hD : ∀ r i, r < 6 → (bt (be r) i = true ↔ fn_D g r i) := fun r i hr => (I r i hr).1.trans ⟨fun ⟨b, j, h1, h2, _, h4⟩ => ⟨b, j, h1, h2, h4⟩, fun ⟨b, j, h1, h2, h4⟩ => ⟨b, j, h1, h2, Or.inl h1, h4⟩⟩
    have hT : ∀ r, r < 6 → ∀ i, (bt (fi r) i = true ↔ fn_T g r i) := fun r hr i => (I r i hr).2.trans ⟨fun ⟨b, j, h1, h2, _, h4⟩ => ⟨b, j, h1, h2, h4⟩, fun ⟨b, j, h1, h2, h4⟩ => ⟨b, j, h1, h2, Or.inl h1, h4⟩⟩
    exact fx_stu225 (a_firsts := fi) G hN hT K 6 0 7 be (by omega) (by omega) (fun r i hr z => fn_B_d ((hD r i hr).mp z)) (fun r x dx => (hD r x (fn_D6 G dx).1).mpr dx) (fun r k i _ hk => by omega)
  | succ d ih =>
    intro a n be fi ha hn I
    obtain ⟨n, rfl⟩ : ∃ k, n = k + 1 := ⟨n - 1, by omega⟩
    refine pk_le (fd_n g) a (fun h => absurd h (by omega)) (fun hl => ⟨vp_in_nI (by omega) (by omega), nm_r (fx_ru G hl) ⟨fd_L g a + 1, ?_⟩⟩)
    exact fx_stu129 G hN hl (fun be' fi' I' => ih (a + 1) n be' fi' (by omega) (by omega) I') (fd_L g a) 0 (fd_L g a + 1) 1 be fi (by omega) (by omega) (Or.inl ⟨rfl, fn_all_0⟩) I
theorem fx_stu80 {post : SX → Prop} (G : fd_G g a_what a_sign a_length a_ruleOf a_text) (hN : ∀ r, r < 6 → (bt f_empties r = true ↔ fn_N g r))
    (K : ∀ (b : Int32) (be fi th : Nat → Int32), fx_SO g f_empties b be fi → post (nI (fd_n g), nI (fd_m g), f_studied, f_empties, b, f_kept, f_busyCount, f_fartherCount, f_best, f_counted, f_depth, f_place, f_nodes, f_errors, f_much, a_what, a_sign, a_length, a_ruleOf, a_text, be, fi, a_been, a_ends, a_far, a_begun, a_todo, a_busy, a_farther, a_number, a_now, th, a_order, a_openAlternative, a_openItem, a_openCame, a_openNode, a_nodeRule, a_nodeAlternative, a_nodeFrom, a_nodeTo, a_nodeParent, a_nodeParts, a_errorKind, a_errorPlace, a_errorItem)) :
    ∀ d r n be fi, r + d = 6 → d < n → (∀ q, q < r → be q = 0 ∧ fi q = 0) → wX_study_80 post (nI (fd_n g)) (nI (fd_m g)) f_studied f_empties f_bad f_kept f_busyCount f_fartherCount f_best f_counted f_depth f_place f_nodes f_errors f_much n (nI r) a_what a_sign a_length a_ruleOf a_text be fi a_been a_ends a_far a_begun a_todo a_busy a_farther a_number a_now a_then a_order a_openAlternative a_openItem a_openCame a_openNode a_nodeRule a_nodeAlternative a_nodeFrom a_nodeTo a_nodeParent a_nodeParts a_errorKind a_errorPlace a_errorItem := by
  intro d
  induction d with
  | zero =>
    intro r n be fi hr hn h
    obtain ⟨n, rfl⟩ : ∃ k, n = k + 1 := ⟨n - 1, by omega⟩
    have e : r = 6 := by omega
    subst e
    refine pk_le 6 6 (fun _ => ⟨fd_n g + 1, ?_⟩) (fun h => absurd h (by omega))
    refine fx_stu108 G hN K (fd_n g) 0 (fd_n g + 1) be fi (by omega) (by omega) (fun r i hr => ?_)
    rw [(h r hr).1, (h r hr).2, b_0]
    exact ⟨⟨fun z => absurd z (by decide), fun ⟨b, j, _, _, z, _⟩ => by omega⟩, ⟨fun z => absurd z (by decide), fun ⟨b, j, _, _, z, _⟩ => by omega⟩⟩
  | succ d ih =>
    intro r n be fi hr hn h
    obtain ⟨n, rfl⟩ : ∃ k, n = k + 1 := ⟨n - 1, by omega⟩
    have vi : vp_in (nI r) 6 := vp_in_nI (by omega) (by omega)
    have ec : (nI r).toNatClampNeg = r := nI_clamp (by omega)
    refine pk_le 6 r (fun h => absurd h (by omega)) (fun _ => ⟨vi, nm_r (e' := upd be r 0) (by rw [ec, fb_v0]) ⟨vi, nm_r (e' := upd fi r 0) (by rw [ec, fb_vs0]) (nm_r (nI_1 _) ?_)⟩⟩)
    refine ih (r + 1) n _ _ (by omega) (by omega) (fun i hi => ?_)
    by_cases e : i = r
    · subst e; rw [pk_us, pk_us]; exact ⟨rfl, rfl⟩
    · rw [pk_un e, pk_un e]; exact h i (by omega)
/-! the empty rules -/
theorem fx_stu35 {post : SX → Prop} {J20 : Int32 → Int32 → Prop} {e0 x1 : Int32} (G : fd_G g a_what a_sign a_length a_ruleOf a_text)
    (K : ∀ e, fr_R (fn_Φ g) (fx_Sm e0) (fx_Sm e) → (e = e0 ∨ nf_M e < nf_M e0) → J20 x1 e) :
    ∀ d a n e, a + d = fd_n g → d < n → (∀ r, fx_Sm e0 r → fx_Sm e r) → (∀ T, fr_C (fn_Φ g) T → (∀ r, fx_Sm e0 r → T r) → ∀ r, fx_Sm e r → T r) → (∀ b, b < a → b < fd_n g → fn_all g (fx_Sm e0) b 0 (fd_L g b) → fx_Sm e (fd_R g b)) → (e = e0 ∨ nf_M e < nf_M e0) →
      wX_study_35 post J20 x1 (nI (fd_n g)) (nI (fd_m g)) f_studied f_bad f_kept f_busyCount f_fartherCount f_best f_counted f_depth f_place f_nodes f_errors f_much a_what a_sign a_length a_ruleOf a_text a_begins a_firsts a_been a_ends a_far a_begun a_todo a_busy a_farther a_number a_now a_then a_order a_openAlternative a_openItem a_openCame a_openNode a_nodeRule a_nodeAlternative a_nodeFrom a_nodeTo a_nodeParent a_nodeParts a_errorKind a_errorPlace a_errorItem n (nI a) e := by
  have n12 := fd_n12 G
  intro d
  induction d with
  | zero =>
    intro a n e ha hn h1 h2 h3 h4
    obtain ⟨n, rfl⟩ : ∃ k, n = k + 1 := ⟨n - 1, by omega⟩
    refine pk_le (fd_n g) a (fun _ => K e ⟨h1, h2, ?_⟩ h4) (fun h => absurd h (by omega))
    rintro r ⟨b, hb, rfl, h⟩
    exact h3 b (by omega) hb h
  | succ d ih =>
    intro a n e ha hn h1 h2 h3 h4
    obtain ⟨n, rfl⟩ : ∃ k, n = k + 1 := ⟨n - 1, by omega⟩
    refine pk_le (fd_n g) a (fun h => absurd h (by omega)) (fun hl => ?_)
    have r6 := fd_R6 G hl
    refine fx_skipsAll (f_empties := e) (N := fx_Sm e) G hl (fun r hr => ⟨fun z => ⟨hr, z⟩, fun z => z.2⟩) (fun h => ?_) (fun h => ?_)
    · refine br_f (by decide) ⟨vp_in_nI (by omega) (by omega), ?_⟩
      rw [fx_ru G hl]
      have up : ∀ r, fx_Sm (e ||| ((1 : Int32) <<< (nI (fd_R g a) &&& 31))) r ↔ fx_Sm e r ∨ r = fd_R g a := by
        intro r
        unfold fx_Sm
        rw [fb_or1 (by omega)]
        exact ⟨fun z => z.2.elim (fun y => Or.inl ⟨z.1, y⟩) Or.inr, fun z => z.elim (fun y => ⟨y.1, Or.inl y.2⟩) (fun y => ⟨by omega, Or.inr y⟩)⟩
      refine nm_e (nm_r (nI_1 _) (ih (a + 1) n _ (by omega) (by omega) (fun r z => (up r).mpr (Or.inl (h1 r z))) (fun T c t r y => ?_) (fun b b1 b2 b3 => ?_) ?_))
      · have sub := h2 T c t
        rcases (up r).mp y with y | y
        · exact sub r y
        · rw [y]; exact c _ ⟨a, hl, rfl, fun k k1 k2 => fn_sk_m sub (h k k1 k2)⟩
      · rcases Nat.lt_or_ge b a with y | y
        · exact (up _).mpr (Or.inl (h3 b y b2 b3))
        · have e : b = a := by omega
          subst e; exact (up _).mpr (Or.inr rfl)
      · have l := nf_le e ((1 : Int32) <<< (nI (fd_R g a) &&& 31))
        by_cases c : (e ||| ((1 : Int32) <<< (nI (fd_R g a) &&& 31))) = e
        · rw [c]; exact h4
        · have := l.2 c
          rcases h4 with rfl | h4
          · exact Or.inr this
          · exact Or.inr (by omega)
    · refine br_t rfl (nm_r (nI_1 _) (ih (a + 1) n e (by omega) (by omega) h1 h2 (fun b b1 b2 b3 => ?_) h4))
      rcases Nat.lt_or_ge b a with y | y
      · exact h3 b y b2 b3
      · have e : b = a := by omega
        subst e
        exact absurd (fun k k1 k2 => fn_sk_m h1 (b3 k k1 k2)) h
theorem fx_stu20 {post : SX → Prop} (G : fd_G g a_what a_sign a_length a_ruleOf a_text)
    (K : ∀ (e b : Int32) (be fi th : Nat → Int32), fx_SO g e b be fi → post (nI (fd_n g), nI (fd_m g), f_studied, e, b, f_kept, f_busyCount, f_fartherCount, f_best, f_counted, f_depth, f_place, f_nodes, f_errors, f_much, a_what, a_sign, a_length, a_ruleOf, a_text, be, fi, a_been, a_ends, a_far, a_begun, a_todo, a_busy, a_farther, a_number, a_now, th, a_order, a_openAlternative, a_openItem, a_openCame, a_openNode, a_nodeRule, a_nodeAlternative, a_nodeFrom, a_nodeTo, a_nodeParent, a_nodeParts, a_errorKind, a_errorPlace, a_errorItem)) :
    ∀ n x1 e, (∀ r, fx_Sm e r → fn_N g r) → ((x1 = e ∧ fr_C (fn_Φ g) (fx_Sm e) ∧ 1 ≤ n) ∨ (¬ x1 = e ∧ nf_M e + 2 ≤ n)) → wX_study_20 post (nI (fd_n g)) (nI (fd_m g)) f_studied f_bad f_kept f_busyCount f_fartherCount f_best f_counted f_depth f_place f_nodes f_errors f_much a_what a_sign a_length a_ruleOf a_text a_begins a_firsts a_been a_ends a_far a_begun a_todo a_busy a_farther a_number a_now a_then a_order a_openAlternative a_openItem a_openCame a_openNode a_nodeRule a_nodeAlternative a_nodeFrom a_nodeTo a_nodeParent a_nodeParts a_errorKind a_errorPlace a_errorItem n x1 e := by
  intro n
  induction n with
  | zero => intro x1 e h1 h2; omega
  | succ n ih =>
    intro x1 e h1 h2
    rcases h2 with ⟨rfl, c, _⟩ | ⟨hne, hn⟩
    · refine br_t rfl ⟨7, ?_⟩
      refine fx_stu80 (f_empties := x1) G (fun r hr => ⟨fun z => h1 r ⟨hr, z⟩, fun z => ?_⟩) (fun b be fi th h => K x1 b be fi th h) 6 0 7 _ _ (by omega) (by omega) (fun q hq => by omega)
      exact (z _ c (fun _ y => y.elim)).2
    · refine br_f hne ⟨fd_n g + 1, ?_⟩
      refine fx_stu35 (e0 := e) G (fun e' h3 h4 => ih e e' (h3.2.1 _ (fn_N_C g) h1) ?_) (fd_n g) 0 (fd_n g + 1) e (by omega) (by omega) (fun _ z => z) (fun _ _ t => t) (fun b hb => by omega) (Or.inl rfl)
      by_cases ee : e = e'
      · subst ee
        left
        exact ⟨rfl, fun r z => h3.2.2 r z, by omega⟩
      · right
        refine ⟨ee, ?_⟩
        rcases h4 with h4 | h4
        · exact absurd h4.symm ee
        · omega
theorem fx_study {post : SX → Prop} (G : fd_G g a_what a_sign a_length a_ruleOf a_text) (S : fx_S g f_studied f_empties f_bad a_begins a_firsts)
    (K : ∀ (e b : Int32) (be fi th : Nat → Int32), fx_SO g e b be fi → post (nI (fd_n g), nI (fd_m g), 1, e, b, f_kept, f_busyCount, f_fartherCount, f_best, f_counted, f_depth, f_place, f_nodes, f_errors, f_much, a_what, a_sign, a_length, a_ruleOf, a_text, be, fi, a_been, a_ends, a_far, a_begun, a_todo, a_busy, a_farther, a_number, a_now, th, a_order, a_openAlternative, a_openItem, a_openCame, a_openNode, a_nodeRule, a_nodeAlternative, a_nodeFrom, a_nodeTo, a_nodeParent, a_nodeParts, a_errorKind, a_errorPlace, a_errorItem)) : wpX_study post (nI (fd_n g), nI (fd_m g), f_studied, f_empties, f_bad, f_kept, f_busyCount, f_fartherCount, f_best, f_counted, f_depth, f_place, f_nodes, f_errors, f_much, a_what, a_sign, a_length, a_ruleOf, a_text, a_begins, a_firsts, a_been, a_ends, a_far, a_begun, a_todo, a_busy, a_farther, a_number, a_now, a_then, a_order, a_openAlternative, a_openItem, a_openCame, a_openNode, a_nodeRule, a_nodeAlternative, a_nodeFrom, a_nodeTo, a_nodeParent, a_nodeParts, a_errorKind, a_errorPlace, a_errorItem) := by
  rcases S with rfl | ⟨rfl, S⟩
  · refine br_t rfl ⟨nf_M 0 + 2, fx_stu20 (f_studied := 1) G K _ (-1) 0 (fun r z => ?_) (Or.inr ⟨by decide, Nat.le_refl _⟩)⟩
    unfold fx_Sm at z
    rw [b_0] at z; exact absurd z.2 (by decide)
  · exact br_f (by decide) (K _ _ _ _ _ S)
end
end
section
def fx_hμ (th : Nat → Int32) (led : Int32) : Nat := fc_sum (fun r => nf_M (th r)) 6 + nf_M led
def fx_HI (g : fd_Gr) (st : Nat) (th0 : Nat → Int32) (led0 : Int32) (th : Nat → Int32) (led x4 : Int32) (a k : Nat) : Prop :=
  (∀ r t, r < 6 → bt (th0 r) t = true → bt (th r) t = true) ∧ (∀ r, bt led0 r = true → bt led r = true) ∧ (∀ r, r < 6 → bt led r = true → fw_R g st r) ∧ (∀ r t, r < 6 → bt (th r) t = true → fw_O g st r t) ∧
  (∀ b j, b < fd_n g → j < fd_L g b → (b < a ∨ (b = a ∧ k ≤ j)) → bt led0 (fd_R g b) = true → 7 < fd_W g b j → bt led (fd_W g b j - 8) = true ∧ ∀ t, fw_ad g b j t (bt (th0 (fd_R g b)) t = true) → bt (th (fd_W g b j - 8)) t = true) ∧
  ((x4 = 0 ∧ (∀ r, r < 6 → th r = th0 r) ∧ led = led0) ∨ (x4 = 1 ∧ fx_hμ th led < fx_hμ th0 led0))
section
variable {g : fd_Gr}
variable {f_studied f_empties f_bad f_kept f_busyCount f_fartherCount f_best f_counted f_depth f_place f_nodes f_errors f_much : Int32} {a_what a_sign a_length a_ruleOf a_text a_begins a_firsts a_been a_ends a_far a_begun a_todo a_busy a_farther a_number a_now a_then a_order a_openAlternative a_openItem a_openCame a_openNode a_nodeRule a_nodeAlternative a_nodeFrom a_nodeTo a_nodeParent a_nodeParts a_errorKind a_errorPlace a_errorItem : Nat → Int32}
theorem fx_firstOf {post : Int32 → Prop} {a k : Nat} (G : fd_G g a_what a_sign a_length a_ruleOf a_text) (hF : ∀ r, r < 6 → fb_rep (a_firsts r) (fn_F g r)) (ha : a < fd_n g) (hk : k < fd_L g a) (K : ∀ x, fb_rep x (fw_I g a k) → post x) : wpX_firstOf post (nI (fd_n g), nI (fd_m g), f_studied, f_empties, f_bad, f_kept, f_busyCount, f_fartherCount, f_best, f_counted, f_depth, f_place, f_nodes, f_errors, f_much, a_what, a_sign, a_length, a_ruleOf, a_text, a_begins, a_firsts, a_been, a_ends, a_far, a_begun, a_todo, a_busy, a_farther, a_number, a_now, a_then, a_order, a_openAlternative, a_openItem, a_openCame, a_openNode, a_nodeRule, a_nodeAlternative, a_nodeFrom, a_nodeTo, a_nodeParent, a_nodeParts, a_errorKind, a_errorPlace, a_errorItem) (nI (5 * a + k)) := by
  have w14 := fd_W14 G ha hk
  refine ⟨fx_in G ha hk, nm_r (fx_wh G ha hk) (pk_le (fd_W g a k) 7 (fun h => K _ ?_) (fun h => ?_))⟩
  · refine fb_rep_e (fb_rep_one (by omega)) fun t => ⟨fun z => Or.inl ⟨by omega, z.symm⟩, fun z => ?_⟩
    rcases z with z | z
    · exact z.2.symm
    · omega
  · rw [fx_m8 (by omega)]
    refine ⟨vp_in_nI (by omega) (by omega), K _ ?_⟩
    rw [nI_clamp (by omega)]
    refine fb_rep_e (hF _ (by omega)) fun t => ⟨fun z => Or.inr ⟨h, z⟩, fun z => ?_⟩
    rcases z with z | z
    · omega
    · exact z.2
theorem fx_m1lt {x : Nat} (h : x < 2 ^ 30) : nI x - 1 < nI x := by
  cases x with
  | zero => decide
  | succ x => rw [nI_pred]; exact nI_lt (by omega) (by omega)
/-- one item from the right -/
theorem fx_beh130 {post : Int32 → SX → Prop} {J63 : Int32 → Int32 → (Nat → Int32) → (Nat → Int32) → (Nat → Int32) → (Nat → Int32) → (Nat → Int32) → (Nat → Int32) → (Nat → Int32) → (Nat → Int32) → (Nat → Int32) → (Nat → Int32) → (Nat → Int32) → (Nat → Int32) → (Nat → Int32) → (Nat → Int32) → (Nat → Int32) → (Nat → Int32) → (Nat → Int32) → (Nat → Int32) → (Nat → Int32) → (Nat → Int32) → (Nat → Int32) → (Nat → Int32) → (Nat → Int32) → (Nat → Int32) → (Nat → Int32) → (Nat → Int32) → (Nat → Int32) → (Nat → Int32) → (Nat → Int32) → (Nat → Int32) → (Nat → Int32) → Prop} {J74 : Int32 → Int32 → Int32 → (Nat → Int32) → (Nat → Int32) → (Nat → Int32) → (Nat → Int32) → (Nat → Int32) → (Nat → Int32) → (Nat → Int32) → (Nat → Int32) → (Nat → Int32) → (Nat → Int32) → (Nat → Int32) → (Nat → Int32) → (Nat → Int32) → (Nat → Int32) → (Nat → Int32) → (Nat → Int32) → (Nat → Int32) → (Nat → Int32) → (Nat → Int32) → (Nat → Int32) → (Nat → Int32) → (Nat → Int32) → (Nat → Int32) → (Nat → Int32) → (Nat → Int32) → (Nat → Int32) → (Nat → Int32) → (Nat → Int32) → (Nat → Int32) → (Nat → Int32) → (Nat → Int32) → Prop} {st a : Nat} {x1 ρ led0 : Int32} {th0 : Nat → Int32} (G : fd_G g a_what a_sign a_length a_ruleOf a_text) (hN : ∀ r, r < 6 → (bt f_empties r = true ↔ fn_N g r)) (hF : ∀ r, r < 6 → fb_rep (a_firsts r) (fn_F g r)) (hst : st < 6) (ha : a < fd_n g) (hR : fw_R g st (fd_R g a))
    (h0 : ∀ t, bt (th0 (fd_R g a)) t = true → bt ρ t = true) (hρ : ∀ t, bt ρ t = true → fw_O g st (fd_R g a) t)
    (K : ∀ th led x4, fx_HI g st th0 led0 th led x4 a 0 → J74 led x4 (nI (a + 1)) a_what a_sign a_length a_ruleOf a_text a_begins a_firsts a_been a_ends a_far a_begun a_todo a_busy a_farther a_number a_now th a_order a_openAlternative a_openItem a_openCame a_openNode a_nodeRule a_nodeAlternative a_nodeFrom a_nodeTo a_nodeParent a_nodeParts a_errorKind a_errorPlace a_errorItem) :
    ∀ k n x3 x4 x6 th, k < n → k ≤ fd_L g a → fx_HI g st th0 led0 th x3 x4 a k → fb_rep x6 (fun t => fw_rs g a k t ∨ (fn_all g (fn_N g) a k (fd_L g a) ∧ bt ρ t = true)) →
      wX_behind_130 post J63 J74 x1 (nI a) (nI (fd_n g)) (nI (fd_m g)) f_studied f_empties f_bad f_kept f_busyCount f_fartherCount f_best f_counted f_depth f_place f_nodes f_errors f_much n x3 x4 x6 (nI (5 * a + k) - 1) a_what a_sign a_length a_ruleOf a_text a_begins a_firsts a_been a_ends a_far a_begun a_todo a_busy a_farther a_number a_now th a_order a_openAlternative a_openItem a_openCame a_openNode a_nodeRule a_nodeAlternative a_nodeFrom a_nodeTo a_nodeParent a_nodeParts a_errorKind a_errorPlace a_errorItem := by
  have n12 := fd_n12 G
  have l5 := fd_L5 G ha
  have r6 := fd_R6 G ha
  intro k
  induction k with
  | zero =>
    intro n x3 x4 x6 th hn hk I hx
    obtain ⟨n, rfl⟩ : ∃ k, n = k + 1 := ⟨n - 1, by omega⟩
    rw [Nat.add_zero]
    refine br_t (by rw [fx_5']; exact fx_m1lt (by omega)) (nm_r (nI_1 _) (K _ _ _ I))
  | succ k ih =>
    intro n x3 x4 x6 th hn hk I hx
    obtain ⟨n, rfl⟩ : ∃ k, n = k + 1 := ⟨n - 1, by omega⟩
    have hkl : k < fd_L g a := by omega
    have w14 := fd_W14 G ha hkl
    have s4 := fd_S4 G ha hkl
    have vi := fx_in G ha hkl
    rw [show 5 * a + (k + 1) = 5 * a + k + 1 from by omega, nI_pred]
    refine br_f (by rw [fx_5']; exact nI_nlt (by omega) (by omega)) ?_
    refine fx_firstOf G hF ha hkl (fun mine hm => ⟨vi, ?_⟩)
    have fin : ∀ (th' : Nat → Int32) (x3' x4' : Int32), fx_HI g st th0 led0 th' x3' x4' a k → wX_behind_245 post J63 J74 (wX_behind_130 post J63 J74 x1 (nI a) (nI (fd_n g)) (nI (fd_m g)) f_studied f_empties f_bad f_kept f_busyCount f_fartherCount f_best f_counted f_depth f_place f_nodes f_errors f_much n) x1 x3' x4' (nI a) x6 (nI (5 * a + k)) mine (nI (fd_n g)) (nI (fd_m g)) f_studied f_empties f_bad f_kept f_busyCount f_fartherCount f_best f_counted f_depth f_place f_nodes f_errors f_much a_what a_sign a_length a_ruleOf a_text a_begins a_firsts a_been a_ends a_far a_begun a_todo a_busy a_farther a_number a_now th' a_order a_openAlternative a_openItem a_openCame a_openNode a_nodeRule a_nodeAlternative a_nodeFrom a_nodeTo a_nodeParent a_nodeParts a_errorKind a_errorPlace a_errorItem := by
      intro th' x3' x4' I'
      refine fx_skips G ha hkl hN (fun z => br_f (by decide) (nm_e (nm_r (e' := nI (5 * a + k) - 1) (by rw [Int32.sub_eq_add_neg]) (ih n _ _ _ _ (by omega) (by omega) I' ?_)))) (fun z => br_t rfl (nm_r (e' := nI (5 * a + k) - 1) (by rw [Int32.sub_eq_add_neg]) (ih n _ _ _ _ (by omega) (by omega) I' ?_)))
      · refine fb_rep_e (fb_rep_or hx hm) fun t => ?_
        rw [fw_rs_s hkl, fn_all_c hkl]
        constructor
        · rintro ((y | y) | y)
          · exact Or.inl (Or.inr ⟨z, y⟩)
          · exact Or.inr ⟨⟨z, y.1⟩, y.2⟩
          · exact Or.inl (Or.inl y)
        · rintro ((y | y) | y)
          · exact Or.inr y
          · exact Or.inl (Or.inl y.2)
          · exact Or.inl (Or.inr ⟨y.1.2, y.2⟩)
      · refine fb_rep_e hm fun t => ?_
        rw [fw_rs_s hkl, fn_all_c hkl]
        exact ⟨fun y => Or.inl (Or.inl y), fun y => by
          rcases y with (y | y) | y
          · exact y
          · exact absurd y.1 z
          · exact absurd y.1.1 z⟩
    rw [fx_wh G ha hkl]
    obtain ⟨i1, i2, i3, i4, i5, i6⟩ := I
    by_cases h7 : 7 < fd_W g a k
    · refine nm_r (fx_m8 (by omega)) (br_f (nI_pos (by omega)) ⟨vi, ?_⟩)
      have vw : vp_in (nI (fd_W g a k - 8)) 25 := vp_in_nI (by omega) (by omega)
      have cw : (nI (fd_W g a k - 8)).toNatClampNeg = fd_W g a k - 8 := nI_clamp (by omega)
      have main : ∀ z0, fb_rep z0 (fun t => fw_ad g a k t (bt ρ t = true)) → wX_behind_185 post J63 J74 (wX_behind_130 post J63 J74 x1 (nI a) (nI (fd_n g)) (nI (fd_m g)) f_studied f_empties f_bad f_kept f_busyCount f_fartherCount f_best f_counted f_depth f_place f_nodes f_errors f_much n) x1 x3 x4 (nI a) x6 (nI (5 * a + k)) mine (nI (fd_W g a k - 8)) z0 (nI (fd_n g)) (nI (fd_m g)) f_studied f_empties f_bad f_kept f_busyCount f_fartherCount f_best f_counted f_depth f_place f_nodes f_errors f_much a_what a_sign a_length a_ruleOf a_text a_begins a_firsts a_been a_ends a_far a_begun a_todo a_busy a_farther a_number a_now th a_order a_openAlternative a_openItem a_openCame a_openNode a_nodeRule a_nodeAlternative a_nodeFrom a_nodeTo a_nodeParent a_nodeParts a_errorKind a_errorPlace a_errorItem := by
        intro z0 hz
        have hz' : ∀ t, bt z0 t = true → fw_O g st (fd_W g a k - 8) t := fun t y => by
          have y' := (hz t (fb_lt y)).mp y
          exact fr_L_C (fw_Φ_m st t) _ ⟨a, k, ha, hkl, hR, h7, rfl, fw_ad_m (hρ t) y'⟩
        have tb : ∀ r t, bt (upd th (fd_W g a k - 8) (th (fd_W g a k - 8) ||| z0) r) t = true ↔ bt (th r) t = true ∨ (r = fd_W g a k - 8 ∧ bt z0 t = true) := by
          intro r t
          by_cases e : r = fd_W g a k - 8
          · subst e
            rw [pk_us, b_or, Bool.or_eq_true]
            exact ⟨fun y => y.elim Or.inl (fun x => Or.inr ⟨rfl, x⟩), fun y => y.elim Or.inl (fun x => Or.inr x.2)⟩
          · rw [pk_un e]; exact ⟨Or.inl, fun y => y.elim id (fun x => absurd x.1 e)⟩
        have lb : ∀ r, bt (x3 ||| ((1 : Int32) <<< (nI (fd_W g a k - 8) &&& 31))) r = true ↔ bt x3 r = true ∨ r = fd_W g a k - 8 := fun r => fb_or1 (by omega)
        have hw6 : fd_W g a k - 8 < 6 := by omega
        have wr : fw_R g st (fd_W g a k - 8) := fr_L_C (fw_ΦR_m g) _ ⟨a, k, ha, hkl, hR, h7, rfl⟩
        have new : ∀ x4', ((x4' = 0 ∧ (∀ r, r < 6 → upd th (fd_W g a k - 8) (th (fd_W g a k - 8) ||| z0) r = th0 r) ∧ (x3 ||| ((1 : Int32) <<< (nI (fd_W g a k - 8) &&& 31))) = led0) ∨ (x4' = 1 ∧ fx_hμ (upd th (fd_W g a k - 8) (th (fd_W g a k - 8) ||| z0)) (x3 ||| ((1 : Int32) <<< (nI (fd_W g a k - 8) &&& 31))) < fx_hμ th0 led0)) →
            fx_HI g st th0 led0 (upd th (fd_W g a k - 8) (th (fd_W g a k - 8) ||| z0)) (x3 ||| ((1 : Int32) <<< (nI (fd_W g a k - 8) &&& 31))) x4' a k := by
          intro x4' h6
          refine ⟨fun r t hr y => (tb r t).mpr (Or.inl (i1 r t hr y)), fun r y => (lb r).mpr (Or.inl (i2 r y)), fun r hr y => ?_, fun r t hr y => ?_, fun b j b1 b2 b3 b4 b5 => ?_, h6⟩
          · rcases (lb r).mp y with y | y
            · exact i3 r hr y
            · rw [y]; exact wr
          · rcases (tb r t).mp y with y | ⟨rfl, y2⟩
            · exact i4 r t hr y
            · exact hz' t y2
          · rcases (by omega : (b < a ∨ (b = a ∧ k + 1 ≤ j)) ∨ (b = a ∧ j = k)) with y | ⟨rfl, rfl⟩
            · obtain ⟨j1, j2⟩ := i5 b j b1 b2 y b4 b5
              exact ⟨(lb _).mpr (Or.inl j1), fun t y => (tb _ _).mpr (Or.inl (j2 t y))⟩
            · refine ⟨(lb _).mpr (Or.inr rfl), fun t y => (tb _ _).mpr (Or.inr ⟨rfl, ?_⟩)⟩
              have t9 : t < 32 := by
                rcases y with y | y | y
                · have := (fn_F8 G y.2).2; omega
                · have := fw_rs8 G y; omega
                · exact fb_lt y.2
              exact (hz t t9).mpr (fw_ad_m (h0 t) y)
        have μt := nf_le (th (fd_W g a k - 8)) z0
        have μl := nf_le x3 ((1 : Int32) <<< (nI (fd_W g a k - 8) &&& 31))
        have sumd : ∀ d, nf_M (th (fd_W g a k - 8) ||| z0) + d ≤ nf_M (th (fd_W g a k - 8)) → fc_sum (fun r => nf_M (upd th (fd_W g a k - 8) (th (fd_W g a k - 8) ||| z0) r)) 6 + d ≤ fc_sum (fun r => nf_M (th r)) 6 := fun d hd => fq_sum1 6 hw6 (by show nf_M (upd th (fd_W g a k - 8) (th (fd_W g a k - 8) ||| z0) (fd_W g a k - 8)) + d ≤ nf_M (th (fd_W g a k - 8)); rw [pk_us]; exact hd) (fun i hn => by show nf_M (upd th (fd_W g a k - 8) (th (fd_W g a k - 8) ||| z0) i) = nf_M (th i); rw [pk_un hn])
        have μ0 : fx_hμ th x3 ≤ fx_hμ th0 led0 := by
          rcases i6 with ⟨_, e1, e2⟩ | ⟨_, h⟩
          · unfold fx_hμ
            rw [e2, fc_sum_e 6 (fun r hr => by show nf_M (th r) = nf_M (th0 r); rw [e1 r hr])]
            exact Nat.le_refl _
          · omega
        have more : (¬ (th (fd_W g a k - 8) ||| z0) = th (fd_W g a k - 8) ∨ bt x3 (fd_W g a k - 8) = false) → fx_HI g st th0 led0 (upd th (fd_W g a k - 8) (th (fd_W g a k - 8) ||| z0)) (x3 ||| ((1 : Int32) <<< (nI (fd_W g a k - 8) &&& 31))) 1 a k := by
          intro hm
          refine new 1 (Or.inr ⟨rfl, ?_⟩)
          have : fx_hμ (upd th (fd_W g a k - 8) (th (fd_W g a k - 8) ||| z0)) (x3 ||| ((1 : Int32) <<< (nI (fd_W g a k - 8) &&& 31))) < fx_hμ th x3 := by
            unfold fx_hμ
            rcases hm with hm | hm
            · have := sumd 1 (μt.2 hm)
              omega
            · have := sumd 0 (by omega)
              have := μl.2 (fun e => by
                have := (lb (fd_W g a k - 8)).mpr (Or.inr rfl)
                rw [e, hm] at this; exact absurd this (by decide))
              omega
          omega
        have or1 : ∀ x : Int32, (x = 0 ∨ x = 1) → x ||| 1 = 1 := fun x hx => by rcases hx with rfl | rfl <;> decide
        have x401 : x4 = 0 ∨ x4 = 1 := i6.elim (fun y => Or.inl y.1) (fun y => Or.inr y.1)
        have go1 : (¬ (th (fd_W g a k - 8) ||| z0) = th (fd_W g a k - 8) ∨ bt x3 (fd_W g a k - 8) = false) → wX_behind_218 post J63 J74 (wX_behind_130 post J63 J74 x1 (nI a) (nI (fd_n g)) (nI (fd_m g)) f_studied f_empties f_bad f_kept f_busyCount f_fartherCount f_best f_counted f_depth f_place f_nodes f_errors f_much n) x1 x3 (nI a) x6 (nI (5 * a + k)) mine (nI (fd_W g a k - 8)) z0 x4 (nI (fd_n g)) (nI (fd_m g)) f_studied f_empties f_bad f_kept f_busyCount f_fartherCount f_best f_counted f_depth f_place f_nodes f_errors f_much a_what a_sign a_length a_ruleOf a_text a_begins a_firsts a_been a_ends a_far a_begun a_todo a_busy a_farther a_number a_now th a_order a_openAlternative a_openItem a_openCame a_openNode a_nodeRule a_nodeAlternative a_nodeFrom a_nodeTo a_nodeParent a_nodeParts a_errorKind a_errorPlace a_errorItem := by
          intro hm
          refine nm_r (or1 x4 x401) ⟨vw, vw, ?_⟩
          rw [cw]
          exact nm_e (nm_e (fin _ _ _ (more hm)))
        refine ⟨vw, vw, ?_⟩
        rw [cw]
        refine br_c (fun he => fb_br (by omega) (fun hb => go1 (Or.inr hb)) (fun hb => ?_)) (fun he => go1 (Or.inl he))
        have hor0 : x4 ||| 0 = x4 := by
          apply b_ext
          intro i hi
          rw [b_or, b_0, Bool.or_false]
        refine nm_r hor0 ⟨vw, vw, ?_⟩
        rw [cw]
        refine nm_e (nm_e (fin _ _ _ (new x4 ?_)))
        have eth : upd th (fd_W g a k - 8) (th (fd_W g a k - 8) ||| z0) = th := by
          funext i
          by_cases e : i = fd_W g a k - 8
          · rw [e, pk_us, he]
          · rw [pk_un e]
        have ele : (x3 ||| ((1 : Int32) <<< (nI (fd_W g a k - 8) &&& 31))) = x3 := by
          apply b_ext
          intro i hi
          rw [b_or, fb_one (by omega) hi]
          by_cases e : i = fd_W g a k - 8
          · rw [e, hb]; rfl
          · rw [decide_eq_false e, Bool.or_false]
        rw [eth, ele]
        exact i6
      refine pk_le (fd_S g a k) 1 (fun s1 => main x6 ?_) (fun s1 => main (x6 ||| mine) ?_) (hx := fx_sg G ha hkl)
      · refine fb_rep_e hx fun t => ⟨fun y => y.elim (fun z => Or.inr (Or.inl z)) (fun z => Or.inr (Or.inr z)), fun y => ?_⟩
        rcases y with y | y | y
        · omega
        · exact Or.inl y
        · exact Or.inr y
      · refine fb_rep_e (fb_rep_or hx hm) fun t => ⟨fun y => ?_, fun y => ?_⟩
        · rcases y with (y | y) | y
          · exact Or.inr (Or.inl y)
          · exact Or.inr (Or.inr y)
          · rcases y with y | y
            · omega
            · exact Or.inl ⟨s1, y.2⟩
        · rcases y with y | y | y
          · exact Or.inr (Or.inr ⟨h7, y.2⟩)
          · exact Or.inl (Or.inl y)
          · exact Or.inl (Or.inr y)
    · have neg : nI (fd_W g a k) - 8 < 0 := pk_sneg (b := 8) (by omega) (by omega)
      refine nm_e (br_t neg (fin _ _ _ ⟨i1, i2, i3, i4, fun b j b1 b2 b3 b4 b5 => ?_, i6⟩))
      rcases (by omega : (b < a ∨ (b = a ∧ k + 1 ≤ j)) ∨ (b = a ∧ j = k)) with y | ⟨rfl, rfl⟩
      · exact i5 b j b1 b2 y b4 b5
      · omega
theorem fx_beh74 {post : Int32 → SX → Prop} {J63 : Int32 → Int32 → (Nat → Int32) → (Nat → Int32) → (Nat → Int32) → (Nat → Int32) → (Nat → Int32) → (Nat → Int32) → (Nat → Int32) → (Nat → Int32) → (Nat → Int32) → (Nat → Int32) → (Nat → Int32) → (Nat → Int32) → (Nat → Int32) → (Nat → Int32) → (Nat → Int32) → (Nat → Int32) → (Nat → Int32) → (Nat → Int32) → (Nat → Int32) → (Nat → Int32) → (Nat → Int32) → (Nat → Int32) → (Nat → Int32) → (Nat → Int32) → (Nat → Int32) → (Nat → Int32) → (Nat → Int32) → (Nat → Int32) → (Nat → Int32) → (Nat → Int32) → (Nat → Int32) → Prop} {st : Nat} {x1 led0 : Int32} {th0 : Nat → Int32} (G : fd_G g a_what a_sign a_length a_ruleOf a_text) (hN : ∀ r, r < 6 → (bt f_empties r = true ↔ fn_N g r)) (hF : ∀ r, r < 6 → fb_rep (a_firsts r) (fn_F g r)) (hst : st < 6)
    (K : ∀ th led x4, fx_HI g st th0 led0 th led x4 (fd_n g) 5 → J63 led x4 a_what a_sign a_length a_ruleOf a_text a_begins a_firsts a_been a_ends a_far a_begun a_todo a_busy a_farther a_number a_now th a_order a_openAlternative a_openItem a_openCame a_openNode a_nodeRule a_nodeAlternative a_nodeFrom a_nodeTo a_nodeParent a_nodeParts a_errorKind a_errorPlace a_errorItem) :
    ∀ d a n x3 x4 th, a + d = fd_n g → d < n → fx_HI g st th0 led0 th x3 x4 a 5 → wX_behind_74 post J63 x1 (nI (fd_n g)) (nI (fd_m g)) f_studied f_empties f_bad f_kept f_busyCount f_fartherCount f_best f_counted f_depth f_place f_nodes f_errors f_much n x3 x4 (nI a) a_what a_sign a_length a_ruleOf a_text a_begins a_firsts a_been a_ends a_far a_begun a_todo a_busy a_farther a_number a_now th a_order a_openAlternative a_openItem a_openCame a_openNode a_nodeRule a_nodeAlternative a_nodeFrom a_nodeTo a_nodeParent a_nodeParts a_errorKind a_errorPlace a_errorItem := by
  have n12 := fd_n12 G
  intro d
  induction d with
  | zero =>
    intro a n x3 x4 th ha hn I
    obtain ⟨n, rfl⟩ : ∃ k, n = k + 1 := ⟨n - 1, by omega⟩
    have e : a = fd_n g := by omega
    subst e
    exact pk_le (fd_n g) (fd_n g) (fun _ => K _ _ _ I) (fun h => absurd h (by omega))
  | succ d ih =>
    intro a n x3 x4 th ha hn I
    obtain ⟨n, rfl⟩ : ∃ k, n = k + 1 := ⟨n - 1, by omega⟩
    refine pk_le (fd_n g) a (fun h => absurd h (by omega)) (fun hl => ⟨vp_in_nI (by omega) (by omega), ?_⟩)
    have r6 := fd_R6 G hl
    have l5 := fd_L5 G hl
    rw [fx_ru G hl]
    obtain ⟨i1, i2, i3, i4, i5, i6⟩ := I
    refine fb_br (by omega) (fun hb => nm_r (nI_1 _) (ih (a + 1) n _ _ _ (by omega) (by omega) ⟨i1, i2, i3, i4, fun b j b1 b2 b3 b4 b5 => ?_, i6⟩)) (fun hb => ⟨vp_in_nI (by omega) (by omega), vp_in_nI (by omega) (by omega), ?_⟩)
    · rcases Nat.lt_or_ge b a with y | y
      · exact i5 b j b1 b2 (Or.inl y) b4 b5
      · have := fd_L5 G b1
        have e : b = a := by omega
        subst e
        rw [i2 _ b4] at hb; exact absurd hb (by decide)
    · rw [show (nI (fd_R g a)).toNatClampNeg = fd_R g a from nI_clamp (by omega)]
      refine nm_e ⟨vp_in_nI (by omega) (by omega), ?_⟩
      rw [fx_le G hl, fx_5]
      refine nm_e ⟨fd_L g a + 1, ?_⟩
      refine fx_beh130 (th0 := th0) (led0 := led0) (ρ := th (fd_R g a)) G hN hF hst hl (i3 _ r6 hb) (fun t y => i1 _ t r6 y) (fun t y => i4 _ t r6 y) (fun th' led' x4' I' => ih (a + 1) n _ _ _ (by omega) (by omega) ?_) (fd_L g a) (fd_L g a + 1) _ _ _ _ (by omega) (Nat.le_refl _) ⟨i1, i2, i3, i4, fun b j b1 b2 b3 b4 b5 => ?_, i6⟩ ?_
      · obtain ⟨k1, k2, k3, k4, k5, k6⟩ := I'
        refine ⟨k1, k2, k3, k4, fun b j b1 b2 b3 b4 b5 => k5 b j b1 b2 ?_ b4 b5, k6⟩
        have := fd_L5 G b1
        omega
      · refine i5 b j b1 b2 ?_ b4 b5
        rcases b3 with y | y
        · exact Or.inl y
        · have e := y.1
          subst e
          omega
      · intro t ht
        exact ⟨fun y => Or.inr ⟨fn_all_0, y⟩, fun y => y.elim (fun z => absurd z (fw_rs_0 (Nat.le_refl _))) (fun z => z.2)⟩
theorem fx_beh63 {post : Int32 → SX → Prop} {st r : Nat} (G : fd_G g a_what a_sign a_length a_ruleOf a_text) (hN : ∀ r, r < 6 → (bt f_empties r = true ↔ fn_N g r)) (hF : ∀ r, r < 6 → fb_rep (a_firsts r) (fn_F g r)) (hst : st < 6) (hr : r < 6)
    (K : ∀ th x, fb_rep x (fw_O g st r) → post x (nI (fd_n g), nI (fd_m g), f_studied, f_empties, f_bad, f_kept, f_busyCount, f_fartherCount, f_best, f_counted, f_depth, f_place, f_nodes, f_errors, f_much, a_what, a_sign, a_length, a_ruleOf, a_text, a_begins, a_firsts, a_been, a_ends, a_far, a_begun, a_todo, a_busy, a_farther, a_number, a_now, th, a_order, a_openAlternative, a_openItem, a_openCame, a_openNode, a_nodeRule, a_nodeAlternative, a_nodeFrom, a_nodeTo, a_nodeParent, a_nodeParts, a_errorKind, a_errorPlace, a_errorItem)) :
    ∀ n x3 x4 th, (∀ r, r < 6 → bt x3 r = true → fw_R g st r) → (∀ r t, r < 6 → bt (th r) t = true → fw_O g st r t) → bt x3 st = true → bt (th st) 8 = true →
      ((x4 = 0 ∧ 1 ≤ n ∧ ∃ th0 led0, fx_HI g st th0 led0 th x3 x4 (fd_n g) 5) ∨ (x4 = 1 ∧ fx_hμ th x3 + 2 ≤ n)) →
      wX_behind_63 post (nI r) (nI (fd_n g)) (nI (fd_m g)) f_studied f_empties f_bad f_kept f_busyCount f_fartherCount f_best f_counted f_depth f_place f_nodes f_errors f_much n x3 x4 a_what a_sign a_length a_ruleOf a_text a_begins a_firsts a_been a_ends a_far a_begun a_todo a_busy a_farther a_number a_now th a_order a_openAlternative a_openItem a_openCame a_openNode a_nodeRule a_nodeAlternative a_nodeFrom a_nodeTo a_nodeParent a_nodeParts a_errorKind a_errorPlace a_errorItem := by
  intro n
  induction n with
  | zero => intro x3 x4 th _ _ _ _ h; omega
  | succ n ih =>
    intro x3 x4 th h1 h2 h3 h4 h
    rcases h with ⟨rfl, _, th0, led0, I⟩ | ⟨rfl, hn⟩
    · refine br_t rfl ⟨vp_in_nI (by omega) (by omega), ?_⟩
      rw [show (nI r).toNatClampNeg = r from nI_clamp (by omega)]
      obtain ⟨i1, i2, i3, i4, i5, i6⟩ := I
      obtain ⟨_, e1, e2⟩ : (0 : Int32) = 0 ∧ (∀ r, r < 6 → th r = th0 r) ∧ x3 = led0 := by
        rcases i6 with y | y
        · exact y
        · exact absurd y.1 (by decide)
      subst e2
      refine K th _ (fun t ht => ⟨h2 r t hr, fun z => ?_⟩)
      have lc : ∀ q, fw_R g st q → q < 6 ∧ bt x3 q = true := by
        intro q z
        refine z (fun q => q < 6 ∧ bt x3 q = true) (fun q y => ?_) (fun q y => by rw [show q = st from y]; exact ⟨hst, h3⟩)
        obtain ⟨a, k, ha, hk, hq, h7, e⟩ := y
        have w14 := fd_W14 G ha hk
        rw [← e]
        exact ⟨by omega, (i5 a k ha hk (Or.inl ha) hq.2 h7).1⟩
      refine (z (fun q => q < 6 ∧ bt (th q) t = true) (fun q y => ?_) (fun q y => by rw [show q = st from y.2, y.1]; exact ⟨hst, h4⟩)).2
      obtain ⟨a, k, ha, hk, hq, h7, e, ad⟩ := y
      have w14 := fd_W14 G ha hk
      have r6 := fd_R6 G ha
      rw [← e]
      refine ⟨by omega, (i5 a k ha hk (Or.inl ha) (lc _ hq).2 h7).2 t (fw_ad_m (fun y => ?_) ad)⟩
      rw [← e1 _ r6]; exact y.2
    · refine br_f (by decide) ⟨fd_n g + 1, ?_⟩
      refine fx_beh74 (th0 := th) (led0 := x3) G hN hF hst (fun th' led' x4' I' => ?_) (fd_n g) 0 (fd_n g + 1) _ _ _ (by omega) (by omega) ⟨fun _ _ _ y => y, fun _ y => y, h1, h2, fun b j b1 b2 b3 => ?_, Or.inl ⟨rfl, fun _ _ => rfl, rfl⟩⟩
      · have I2 := I'
        obtain ⟨i1, i2, i3, i4, i5, i6⟩ := I'
        refine ih _ _ _ i3 i4 (i2 _ h3) (i1 _ _ hst h4) ?_
        rcases i6 with y | y
        · exact Or.inl ⟨y.1, by omega, _, _, I2⟩
        · exact Or.inr ⟨y.1, by omega⟩
      · have := fd_L5 G b1
        omega
theorem fx_beh26 {post : Int32 → SX → Prop} {st r : Nat} (G : fd_G g a_what a_sign a_length a_ruleOf a_text) (hN : ∀ r, r < 6 → (bt f_empties r = true ↔ fn_N g r)) (hF : ∀ r, r < 6 → fb_rep (a_firsts r) (fn_F g r)) (hst : st < 6) (hr : r < 6)
    (K : ∀ th x, fb_rep x (fw_O g st r) → post x (nI (fd_n g), nI (fd_m g), f_studied, f_empties, f_bad, f_kept, f_busyCount, f_fartherCount, f_best, f_counted, f_depth, f_place, f_nodes, f_errors, f_much, a_what, a_sign, a_length, a_ruleOf, a_text, a_begins, a_firsts, a_been, a_ends, a_far, a_begun, a_todo, a_busy, a_farther, a_number, a_now, th, a_order, a_openAlternative, a_openItem, a_openCame, a_openNode, a_nodeRule, a_nodeAlternative, a_nodeFrom, a_nodeTo, a_nodeParent, a_nodeParts, a_errorKind, a_errorPlace, a_errorItem)) :
    ∀ d q n th, q + d = 6 → d < n → (∀ i, i < q → th i = if i = st then 256 else 0) → wX_behind_26 post (nI r) (nI st) (nI (fd_n g)) (nI (fd_m g)) f_studied f_empties f_bad f_kept f_busyCount f_fartherCount f_best f_counted f_depth f_place f_nodes f_errors f_much n (nI q) a_what a_sign a_length a_ruleOf a_text a_begins a_firsts a_been a_ends a_far a_begun a_todo a_busy a_farther a_number a_now th a_order a_openAlternative a_openItem a_openCame a_openNode a_nodeRule a_nodeAlternative a_nodeFrom a_nodeTo a_nodeParent a_nodeParts a_errorKind a_errorPlace a_errorItem := by
  intro d
  induction d with
  | zero =>
    intro q n th hq hn h
    obtain ⟨n, rfl⟩ : ∃ k, n = k + 1 := ⟨n - 1, by omega⟩
    refine pk_le 6 q (fun _ => nm_e ⟨fx_hμ th ((1 : Int32) <<< (nI st &&& 31)) + 2, ?_⟩) (fun h => absurd h (by omega))
    have t8 : bt (th st) 8 = true := by rw [h st (by omega), if_pos rfl, fb_256 8 (by decide)]; rfl
    refine fx_beh63 G hN hF hst hr K _ _ _ _ (fun i hi y => ?_) (fun i t hi y => ?_) (by rw [fb_one (by omega) (by omega), decide_eq_true_eq]) t8 (Or.inr ⟨rfl, Nat.le_refl _⟩)
    · rw [fb_one (by omega) (by omega), decide_eq_true_eq] at y
      exact fr_L_I y
    · rw [h i (by omega)] at y
      by_cases e : i = st
      · rw [if_pos e, fb_256 t (by have := fb_lt y; exact this), decide_eq_true_eq] at y
        exact fr_L_I ⟨y, e⟩
      · rw [if_neg e, b_0] at y; exact absurd y (by decide)
  | succ d ih =>
    intro q n th hq hn h
    obtain ⟨n, rfl⟩ : ∃ k, n = k + 1 := ⟨n - 1, by omega⟩
    have vq : vp_in (nI q) 25 := vp_in_nI (by omega) (by omega)
    have cq : (nI q).toNatClampNeg = q := nI_clamp (by omega)
    refine pk_le 6 q (fun h => absurd h (by omega)) (fun _ => pk_eq q st (fun e => ⟨vq, nm_r (e' := upd th q 256) (by rw [cq]) (nm_r (nI_1 _) (ih (q + 1) n _ (by omega) (by omega) (fun i hi => ?_)))⟩) (fun e => ⟨vq, nm_r (e' := upd th q 0) (by rw [cq]) (nm_r (nI_1 _) (ih (q + 1) n _ (by omega) (by omega) (fun i hi => ?_)))⟩))
    · by_cases c : i = q
      · rw [c, pk_us, if_pos e]
      · rw [pk_un c]; exact h i (by omega)
    · by_cases c : i = q
      · rw [c, pk_us, if_neg e]
      · rw [pk_un c]; exact h i (by omega)
end
end
section
def fy_PI (g : fd_Gr) (st : Nat) (fo0 fo : Nat → Int32) (a k : Nat) : Prop :=
  (∀ r t, r < 6 → bt (fo0 r) t = true → bt (fo r) t = true) ∧ (∀ t T, fr_C (fw_Φ g st t) T → (∀ r, r < 6 → bt (fo0 r) t = true → T r) → ∀ r, r < 6 → bt (fo r) t = true → T r) ∧
  (∀ b j, b < fd_n g → j < fd_L g b → (b < a ∨ (b = a ∧ j < k)) → fw_R g st (fd_R g b) → 7 < fd_W g b j → ∀ t, fw_ad g b j t (bt (fo0 (fd_R g b)) t = true) → bt (fo (fd_W g b j - 8)) t = true)
section
variable {g : fd_Gr}
variable {g_known g_counted g_places g_best g_made g_faults g_place g_depth g_much : Int32} {b_ruleOf b_sizes b_items b_signs b_text b_ends b_far b_empty b_begins b_starts b_follow b_nodes b_errors b_openNode b_openAlt b_openItem b_came : Nat → Int32} {b_derivations b_row b_layer b_next b_sum : Nat → Int64}
theorem fy_startsOf {post : Int32 → Prop} {a k : Nat} (G : fd_G g b_items b_signs b_sizes b_ruleOf b_text) (hF : ∀ r, r < 6 → fb_rep (b_starts r) (fn_F g r)) (ha : a < fd_n g) (hk : k < fd_L g a) (K : ∀ x, fb_rep x (fw_I g a k) → post x) : wpY_startsOf post (nI (fd_n g), nI (fd_m g), g_known, g_counted, g_places, g_best, g_made, g_faults, g_place, g_depth, g_much, b_ruleOf, b_sizes, b_items, b_signs, b_text, b_ends, b_far, b_empty, b_begins, b_starts, b_follow, b_derivations, b_row, b_layer, b_next, b_nodes, b_errors, b_openNode, b_openAlt, b_openItem, b_came, b_sum) (nI (fd_W g a k)) := by
  have w14 := fd_W14 G ha hk
  refine pk_le 8 (fd_W g a k) (fun h => ?_) (fun h => K _ ?_)
  · rw [fx_m8 h]
    refine ⟨vp_in_nI (by omega) (by omega), K _ ?_⟩
    rw [nI_clamp (by omega)]
    refine fb_rep_e (hF _ (by omega)) fun t => ⟨fun z => Or.inr ⟨by omega, z⟩, fun z => ?_⟩
    rcases z with z | z
    · omega
    · exact z.2
  · refine fb_rep_e (fb_rep_one (by omega)) fun t => ⟨fun z => Or.inl ⟨h, z.symm⟩, fun z => ?_⟩
    rcases z with z | z
    · exact z.2.symm
    · omega
theorem fy_pas71 {post : SY → Prop} {J9 : Int32 → (Nat → Int32) → (Nat → Int32) → (Nat → Int32) → (Nat → Int32) → (Nat → Int32) → (Nat → Int32) → (Nat → Int32) → (Nat → Int32) → (Nat → Int32) → (Nat → Int32) → (Nat → Int32) → (Nat → Int64) → (Nat → Int64) → (Nat → Int64) → (Nat → Int64) → (Nat → Int32) → (Nat → Int32) → (Nat → Int32) → (Nat → Int32) → (Nat → Int32) → (Nat → Int32) → (Nat → Int64) → Prop} {a k : Nat} (G : fd_G g b_items b_signs b_sizes b_ruleOf b_text) (hN : ∀ r, r < 6 → (b_empty r = 0 ∧ ¬ fn_N g r) ∨ (b_empty r = 1 ∧ fn_N g r)) (hF : ∀ r, r < 6 → fb_rep (b_starts r) (fn_F g r)) (ha : a < fd_n g) (hk : k < fd_L g a) (h7 : 7 < fd_W g a k)
    (K : ∀ x, fb_rep x (fun t => fw_ad g a k t (bt (b_follow (fd_R g a)) t = true)) → J9 (nI (k + 1)) b_ruleOf b_sizes b_items b_signs b_text b_ends b_far b_empty b_begins b_starts (upd b_follow (fd_W g a k - 8) (b_follow (fd_W g a k - 8) ||| x)) b_derivations b_row b_layer b_next b_nodes b_errors b_openNode b_openAlt b_openItem b_came b_sum) :
    ∀ d j n x, j + d = fd_L g a → k < j → d < n → fb_rep x (fun t => (1 < fd_S g a k ∧ fn_F g (fd_W g a k - 8) t) ∨ ∃ i, k + 1 ≤ i ∧ i < j ∧ fn_all g (fn_N g) a (k + 1) i ∧ fw_I g a i t) →
      wY_pass_71 post J9 (nI a) (nI (fd_L g a)) (nI k) (nI (fd_W g a k)) (nI (fd_n g)) (nI (fd_m g)) g_known g_counted g_places g_best g_made g_faults g_place g_depth g_much b_ruleOf b_sizes b_items b_signs b_text b_ends b_far b_empty b_begins b_starts b_follow b_derivations b_row b_layer b_next b_nodes b_errors b_openNode b_openAlt b_openItem b_came b_sum n x (nI j) := by
  have n12 := fd_n12 G
  have l5 := fd_L5 G ha
  have r6 := fd_R6 G ha
  have w14 := fd_W14 G ha hk
  have fin : ∀ x, fb_rep x (fun t => fw_ad g a k t (bt (b_follow (fd_R g a)) t = true)) → wY_pass_144 post J9 (nI a) (nI (fd_L g a)) (nI k) (nI (fd_W g a k)) x (nI (fd_n g)) (nI (fd_m g)) g_known g_counted g_places g_best g_made g_faults g_place g_depth g_much b_ruleOf b_sizes b_items b_signs b_text b_ends b_far b_empty b_begins b_starts b_follow b_derivations b_row b_layer b_next b_nodes b_errors b_openNode b_openAlt b_openItem b_came b_sum := by
    intro x hx
    unfold wY_pass_144
    rw [fx_m8 (by omega)]
    have vi : vp_in (nI (fd_W g a k - 8)) 6 := vp_in_nI (by omega) (by omega)
    refine ⟨vi, vi, ?_⟩
    rw [show (nI (fd_W g a k - 8)).toNatClampNeg = fd_W g a k - 8 from nI_clamp (by omega)]
    exact nm_e (nm_r (nI_1 _) (K x hx))
  intro d
  induction d with
  | zero =>
    intro j n x hj hkj hn hx
    obtain ⟨n, rfl⟩ : ∃ k, n = k + 1 := ⟨n - 1, by omega⟩
    have e : j = fd_L g a := by omega
    subst e
    refine pk_le (fd_L g a) (fd_L g a) (fun _ => ?_) (fun h => absurd h (by omega))
    rw [nI_1]
    refine fy_areFree G ha (by omega) (Nat.le_refl _) hN (fun h => br_f (by decide) ⟨vp_in_nI (by omega) (by omega), ?_⟩) (fun h => br_t rfl (fin x ?_))
    · rw [fx_ru G ha]
      refine ⟨vp_in_nI r6 (by omega), ?_⟩
      rw [show (nI (fd_R g a)).toNatClampNeg = fd_R g a from nI_clamp (by omega)]
      refine nm_e (fin _ ?_)
      intro t ht
      rw [b_or, Bool.or_eq_true, hx t ht]
      constructor
      · rintro ((z | ⟨i, i1, i2, i3, i4⟩) | z)
        · exact Or.inl z
        · exact Or.inr (Or.inl ⟨i, i1, i2, i3, i4⟩)
        · exact Or.inr (Or.inr ⟨h, z⟩)
      · rintro (z | ⟨i, i1, i2, i3, i4⟩ | z)
        · exact Or.inl (Or.inl z)
        · exact Or.inl (Or.inr ⟨i, i1, i2, i3, i4⟩)
        · exact Or.inr z.2
    · intro t ht
      rw [hx t ht]
      constructor
      · rintro (z | ⟨i, i1, i2, i3, i4⟩)
        · exact Or.inl z
        · exact Or.inr (Or.inl ⟨i, i1, i2, i3, i4⟩)
      · rintro (z | ⟨i, i1, i2, i3, i4⟩ | z)
        · exact Or.inl z
        · exact Or.inr ⟨i, i1, i2, i3, i4⟩
        · exact absurd z.1 h
  | succ d ih =>
    intro j n x hj hkj hn hx
    obtain ⟨n, rfl⟩ : ∃ k, n = k + 1 := ⟨n - 1, by omega⟩
    have hjl : j < fd_L g a := by omega
    refine pk_le (fd_L g a) j (fun h => absurd h (by omega)) (fun _ => ?_)
    rw [nI_1 k]
    refine fy_areFree G ha (by omega) (by omega) hN (fun h => br_f (by decide) ?_) (fun h => br_t rfl (nm_r (nI_1 _) (ih (j + 1) n x (by omega) (by omega) (by omega) (fb_rep_e hx fun t => ⟨fun z => z.elim Or.inl (fun ⟨i, i1, i2, i3⟩ => Or.inr ⟨i, i1, by omega, i3⟩), fun z => z.elim Or.inl (fun ⟨i, i1, i2, i3, i4⟩ => Or.inr ⟨i, i1, ?_, i3, i4⟩)⟩))))
    · rw [fx_5]
      refine ⟨fx_in G ha hjl, ?_⟩
      rw [fx_wh G ha hjl]
      refine fy_startsOf G hF ha hjl (fun y hy => nm_e (nm_r (nI_1 _) (ih (j + 1) n _ (by omega) (by omega) (by omega) (fb_rep_e (fb_rep_or hx hy) fun t => ⟨fun z => ?_, fun z => ?_⟩))))
      · rcases z with (z | ⟨i, i1, i2, i3⟩) | z
        · exact Or.inl z
        · exact Or.inr ⟨i, i1, by omega, i3⟩
        · exact Or.inr ⟨j, by omega, by omega, h, z⟩
      · rcases z with z | ⟨i, i1, i2, i3, i4⟩
        · exact Or.inl (Or.inl z)
        · rcases Nat.lt_or_ge i j with y | y
          · exact Or.inl (Or.inr ⟨i, i1, y, i3, i4⟩)
          · have e : i = j := by omega
            subst e; exact Or.inr i4
    · rcases Nat.lt_or_ge i j with y | y
      · exact y
      · have e : i = j := by omega
        subst e; exact absurd i3 h
theorem fy_pas9 {post : SY → Prop} {st a : Nat} {fo0 : Nat → Int32} (G : fd_G g b_items b_signs b_sizes b_ruleOf b_text) (hN : ∀ r, r < 6 → (b_empty r = 0 ∧ ¬ fn_N g r) ∨ (b_empty r = 1 ∧ fn_N g r)) (hF : ∀ r, r < 6 → fb_rep (b_starts r) (fn_F g r)) (ha : a < fd_n g) (hR : fw_R g st (fd_R g a))
    (K : ∀ fo, fy_PI g st fo0 fo (a + 1) 0 → post (nI (fd_n g), nI (fd_m g), g_known, g_counted, g_places, g_best, g_made, g_faults, g_place, g_depth, g_much, b_ruleOf, b_sizes, b_items, b_signs, b_text, b_ends, b_far, b_empty, b_begins, b_starts, fo, b_derivations, b_row, b_layer, b_next, b_nodes, b_errors, b_openNode, b_openAlt, b_openItem, b_came, b_sum)) :
    ∀ d k n fo, k + d = fd_L g a → d < n → fy_PI g st fo0 fo a k → wY_pass_9 post (nI a) (nI (fd_L g a)) (nI (fd_n g)) (nI (fd_m g)) g_known g_counted g_places g_best g_made g_faults g_place g_depth g_much n (nI k) b_ruleOf b_sizes b_items b_signs b_text b_ends b_far b_empty b_begins b_starts fo b_derivations b_row b_layer b_next b_nodes b_errors b_openNode b_openAlt b_openItem b_came b_sum := by
  have n12 := fd_n12 G
  have l5 := fd_L5 G ha
  have r6 := fd_R6 G ha
  intro d
  induction d with
  | zero =>
    intro k n fo hk hn I
    obtain ⟨n, rfl⟩ : ∃ k, n = k + 1 := ⟨n - 1, by omega⟩
    refine pk_le (fd_L g a) k (fun _ => K fo ⟨I.1, I.2.1, fun b j b1 b2 b3 => I.2.2 b j b1 b2 ?_⟩) (fun h => absurd h (by omega))
    rcases Nat.lt_or_ge b a with y | y
    · exact Or.inl y
    · have e : b = a := by omega
      subst e; exact Or.inr ⟨rfl, by omega⟩
  | succ d ih =>
    intro k n fo hk hn I
    obtain ⟨n, rfl⟩ : ∃ k, n = k + 1 := ⟨n - 1, by omega⟩
    have hkl : k < fd_L g a := by omega
    have w14 := fd_W14 G ha hkl
    have s4 := fd_S4 G ha hkl
    have vi := fx_in G ha hkl
    refine pk_le (fd_L g a) k (fun h => absurd h (by omega)) (fun _ => ?_)
    rw [fx_5]
    refine ⟨vi, nm_r (fx_wh G ha hkl) ?_⟩
    obtain ⟨i1, i2, i3⟩ := I
    refine pk_le 8 (fd_W g a k) (fun h8 => ⟨vi, ?_⟩) (fun h8 => nm_r (nI_1 _) (ih (k + 1) n fo (by omega) (by omega) ⟨i1, i2, fun b j b1 b2 b3 b4 b5 => ?_⟩))
    · have main : ∀ x, fb_rep x (fun t => fw_ad g a k t (bt (fo (fd_R g a)) t = true)) → wY_pass_9 post (nI a) (nI (fd_L g a)) (nI (fd_n g)) (nI (fd_m g)) g_known g_counted g_places g_best g_made g_faults g_place g_depth g_much n (nI (k + 1)) b_ruleOf b_sizes b_items b_signs b_text b_ends b_far b_empty b_begins b_starts (upd fo (fd_W g a k - 8) (fo (fd_W g a k - 8) ||| x)) b_derivations b_row b_layer b_next b_nodes b_errors b_openNode b_openAlt b_openItem b_came b_sum := by
        intro x hx
        have fb : ∀ r t, bt (upd fo (fd_W g a k - 8) (fo (fd_W g a k - 8) ||| x) r) t = true ↔ bt (fo r) t = true ∨ (r = fd_W g a k - 8 ∧ bt x t = true) := by
          intro r t
          by_cases e : r = fd_W g a k - 8
          · subst e
            rw [pk_us, b_or, Bool.or_eq_true]
            exact ⟨fun y => y.elim Or.inl (fun x => Or.inr ⟨rfl, x⟩), fun y => y.elim Or.inl (fun x => Or.inr x.2)⟩
          · rw [pk_un e]; exact ⟨Or.inl, fun y => y.elim id (fun x => absurd x.1 e)⟩
        refine ih (k + 1) n _ (by omega) (by omega) ⟨fun r t hr y => (fb r t).mpr (Or.inl (i1 r t hr y)), fun t T c t0 r hr y => ?_, fun b j b1 b2 b3 b4 b5 t y => ?_⟩
        · rcases (fb r t).mp y with y | ⟨rfl, y2⟩
          · exact i2 t T c t0 r hr y
          · have ad := (hx t (fb_lt y2)).mp y2
            exact c _ ⟨a, k, ha, hkl, hR, by omega, rfl, fw_ad_m (fun z => i2 t T c t0 _ r6 z) ad⟩
        · rcases (by omega : (b < a ∨ (b = a ∧ j < k)) ∨ (b = a ∧ j = k)) with z | ⟨rfl, rfl⟩
          · exact (fb _ _).mpr (Or.inl (i3 b j b1 b2 z b4 b5 t y))
          · refine (fb _ _).mpr (Or.inr ⟨rfl, ?_⟩)
            have t9 : t < 32 := by
              rcases y with y | y | y
              · have := (fn_F8 G y.2).2; omega
              · have := fw_rs8 G y; omega
              · exact fb_lt y.2
            exact (hx t t9).mpr (fw_ad_m (fun z => i1 _ t r6 z) y)
      refine pk_lt (fd_S g a k) 2 (fun s2 => nm_r (nI_1 _) ⟨fd_L g a - (k + 1) + 1, ?_⟩) (fun s2 => ?_) (hx := fx_sg G ha hkl)
      · refine fy_pas71 (b_follow := fo) G hN hF ha hkl (by omega) main (fd_L g a - (k + 1)) (k + 1) _ 0 (by omega) (by omega) (by omega) (fb_rep_e fb_rep_0 fun t => ⟨fun z => z.elim, fun z => ?_⟩)
        rcases z with z | ⟨i, z1, z2, _⟩ <;> omega
      · rw [fx_m8 h8]
        refine ⟨vp_in_nI (by omega) (by omega), ?_⟩
        rw [show (nI (fd_W g a k - 8)).toNatClampNeg = fd_W g a k - 8 from nI_clamp (by omega)]
        refine nm_e (nm_r (nI_1 _) ⟨fd_L g a - (k + 1) + 1, ?_⟩)
        refine fy_pas71 (b_follow := fo) G hN hF ha hkl (by omega) main (fd_L g a - (k + 1)) (k + 1) _ _ (by omega) (by omega) (by omega) (fb_rep_e (hF _ (by omega)) fun t => ⟨fun z => Or.inl ⟨by omega, z⟩, fun z => ?_⟩)
        rcases z with z | ⟨i, z1, z2, _⟩
        · exact z.2
        · omega
    · rcases (by omega : (b < a ∨ (b = a ∧ j < k)) ∨ (b = a ∧ j = k)) with z | ⟨rfl, rfl⟩
      · exact i3 b j b1 b2 z b4 b5
      · omega
theorem fy_beh175 {post : Int32 → SY → Prop} {J165 : Int32 → Int32 → Int32 → Int32 → Int32 → Int32 → Int32 → Int32 → Int32 → Int32 → Int32 → Int32 → (Nat → Int32) → (Nat → Int32) → (Nat → Int32) → (Nat → Int32) → (Nat → Int32) → (Nat → Int32) → (Nat → Int32) → (Nat → Int32) → (Nat → Int32) → (Nat → Int32) → (Nat → Int32) → (Nat → Int64) → (Nat → Int64) → (Nat → Int64) → (Nat → Int64) → (Nat → Int32) → (Nat → Int32) → (Nat → Int32) → (Nat → Int32) → (Nat → Int32) → (Nat → Int32) → (Nat → Int64) → Prop} {st z : Nat} {x1 x3 : Int32} {fo0 : Nat → Int32} (G : fd_G g b_items b_signs b_sizes b_ruleOf b_text) (hN : ∀ r, r < 6 → (b_empty r = 0 ∧ ¬ fn_N g r) ∨ (b_empty r = 1 ∧ fn_N g r)) (hF : ∀ r, r < 6 → fb_rep (b_starts r) (fn_F g r)) (hL : ∀ r, r < 6 → (bt x3 r = true ↔ fw_R g st r))
    (K : ∀ fo, fy_PI g st fo0 fo (fd_n g) 0 → J165 (nI (z + 1)) (nI (fd_n g)) (nI (fd_m g)) g_known g_counted g_places g_best g_made g_faults g_place g_depth g_much b_ruleOf b_sizes b_items b_signs b_text b_ends b_far b_empty b_begins b_starts fo b_derivations b_row b_layer b_next b_nodes b_errors b_openNode b_openAlt b_openItem b_came b_sum) :
    ∀ d a n fo, a + d = fd_n g → d < n → fy_PI g st fo0 fo a 0 → wY_behind_175 post J165 x1 x3 (nI z) n (nI a) (nI (fd_n g)) (nI (fd_m g)) g_known g_counted g_places g_best g_made g_faults g_place g_depth g_much b_ruleOf b_sizes b_items b_signs b_text b_ends b_far b_empty b_begins b_starts fo b_derivations b_row b_layer b_next b_nodes b_errors b_openNode b_openAlt b_openItem b_came b_sum := by
  have n12 := fd_n12 G
  intro d
  induction d with
  | zero =>
    intro a n fo ha hn I
    obtain ⟨n, rfl⟩ : ∃ k, n = k + 1 := ⟨n - 1, by omega⟩
    have e : a = fd_n g := by omega
    subst e
    exact pk_le (fd_n g) (fd_n g) (fun _ => nm_r (nI_1 _) (K _ I)) (fun h => absurd h (by omega))
  | succ d ih =>
    intro a n fo ha hn I
    obtain ⟨n, rfl⟩ : ∃ k, n = k + 1 := ⟨n - 1, by omega⟩
    refine pk_le (fd_n g) a (fun h => absurd h (by omega)) (fun hl => ⟨vp_in_nI (by omega) (by omega), ?_⟩)
    have r6 := fd_R6 G hl
    rw [fx_ru G hl]
    refine fb_br1 (by omega) (fun hb => ⟨vp_in_nI (by omega) (by omega), nm_r (fx_le G hl) ⟨fd_L g a + 1, ?_⟩⟩) (fun hb => nm_r (nI_1 _) (ih (a + 1) n fo (by omega) (by omega) ⟨I.1, I.2.1, fun b j b1 b2 b3 b4 b5 => ?_⟩))
    · exact fy_pas9 G hN hF hl ((hL _ r6).mp hb) (fun fo' I' => nm_r (nI_1 _) (ih (a + 1) n fo' (by omega) (by omega) I')) (fd_L g a) 0 (fd_L g a + 1) fo (by omega) (by omega) I
    · rcases Nat.lt_or_ge b a with y | y
      · exact I.2.2 b j b1 b2 (Or.inl y) b4 b5
      · have e : b = a := by omega
        subst e
        rw [(hL _ r6).mpr b4] at hb; exact absurd hb (by decide)
theorem fy_beh165 {post : Int32 → SY → Prop} {st r : Nat} {x3 : Int32} (G : fd_G g b_items b_signs b_sizes b_ruleOf b_text) (hN : ∀ r, r < 6 → (b_empty r = 0 ∧ ¬ fn_N g r) ∨ (b_empty r = 1 ∧ fn_N g r)) (hF : ∀ r, r < 6 → fb_rep (b_starts r) (fn_F g r)) (hst : st < 6) (hr : r < 6) (hL : ∀ r, r < 6 → (bt x3 r = true ↔ fw_R g st r))
    (K : ∀ fo x, fb_rep x (fw_O g st r) → post x (nI (fd_n g), nI (fd_m g), g_known, g_counted, g_places, g_best, g_made, g_faults, g_place, g_depth, g_much, b_ruleOf, b_sizes, b_items, b_signs, b_text, b_ends, b_far, b_empty, b_begins, b_starts, fo, b_derivations, b_row, b_layer, b_next, b_nodes, b_errors, b_openNode, b_openAlt, b_openItem, b_came, b_sum)) :
    ∀ d z n fo, z + d = 40 → d < n → (∀ q t, q < 6 → bt (fo q) t = true → fw_O g st q t) → bt (fo st) 8 = true → (∀ t, fr_C (fw_Φ g st t) (fy_SB fo t) ∨ z ≤ fb_cn (fy_SB fo t) 6) →
      wY_behind_165 post (nI r) x3 n (nI z) (nI (fd_n g)) (nI (fd_m g)) g_known g_counted g_places g_best g_made g_faults g_place g_depth g_much b_ruleOf b_sizes b_items b_signs b_text b_ends b_far b_empty b_begins b_starts fo b_derivations b_row b_layer b_next b_nodes b_errors b_openNode b_openAlt b_openItem b_came b_sum := by
  intro d
  induction d with
  | zero =>
    intro z n fo hz hn h1 h2 h3
    obtain ⟨n, rfl⟩ : ∃ k, n = k + 1 := ⟨n - 1, by omega⟩
    refine pk_le 40 z (fun _ => ⟨vp_in_nI hr (by omega), ?_⟩) (fun h => absurd h (by omega))
    rw [show (nI r).toNatClampNeg = r from nI_clamp (by omega)]
    refine K fo _ (fun t ht => ⟨h1 r t hr, fun y => ?_⟩)
    exact (y _ (fr_end (by omega : 6 < z) (h3 t)) (fun q e => by rw [show q = st from e.2, e.1]; exact ⟨hst, h2⟩)).2
  | succ d ih =>
    intro z n fo hz hn h1 h2 h3
    obtain ⟨n, rfl⟩ : ∃ k, n = k + 1 := ⟨n - 1, by omega⟩
    refine pk_le 40 z (fun h => absurd h (by omega)) (fun _ => ⟨fd_n g + 1, ?_⟩)
    refine fy_beh175 (st := st) (fo0 := fo) G hN hF hL (fun fo' I => ?_) (fd_n g) 0 (fd_n g + 1) fo (by omega) (by omega) ⟨fun _ _ _ y => y, fun _ _ _ t => t, fun b j _ _ y => by omega⟩
    obtain ⟨i1, i2, i3⟩ := I
    refine ih (z + 1) n fo' (by omega) (by omega) (fun q t hq y => i2 t (fun q => fw_O g st q t) (fr_L_C (fw_Φ_m st t)) (fun q hq y => h1 q t hq y) q hq y) (i1 _ _ hst h2) (fun t => fr_step (S0 := fy_SB fo t) (fw_Φ_m st t) (fun q y => y.1) ⟨fun q y => ⟨y.1, i1 q t y.1 y.2⟩, fun T c t0 q y => i2 t T c (fun q hq x => t0 q ⟨hq, x⟩) q y.1 y.2, ?_⟩ (h3 t))
    rintro q ⟨a, k, ha, hk, hR, h7, rfl, ad⟩
    have w14 := fd_W14 G ha hk
    exact ⟨by omega, i3 a k ha hk (Or.inl ha) hR h7 t (fw_ad_m (fun y => y.2) ad)⟩
/-! the rules that are led to -/
theorem fy_beh88 {post : Int32 → SY → Prop} {J61 J73 : Int32 → Int32 → Prop} {a : Nat} {x1 x4 e0 : Int32} (G : fd_G g b_items b_signs b_sizes b_ruleOf b_text) (ha : a < fd_n g)
    (K : ∀ e, (∀ r, fx_Sm e0 r → fx_Sm e r) → (∀ T, fr_C (fw_ΦR g) T → (∀ r, fx_Sm e0 r → T r) → ∀ r, fx_Sm e r → T r) → (∀ k, k < fd_L g a → fx_Sm e0 (fd_R g a) → 7 < fd_W g a k → fx_Sm e (fd_W g a k - 8)) → nf_M e ≤ nf_M e0 → (e = e0 ∨ nf_M e < nf_M e0) → J73 e (nI (a + 1))) :
    ∀ d k n e, k + d = fd_L g a → d < n → (∀ r, fx_Sm e0 r → fx_Sm e r) → (∀ T, fr_C (fw_ΦR g) T → (∀ r, fx_Sm e0 r → T r) → ∀ r, fx_Sm e r → T r) → (∀ j, j < k → fx_Sm e0 (fd_R g a) → 7 < fd_W g a j → fx_Sm e (fd_W g a j - 8)) → (e = e0 ∨ nf_M e < nf_M e0) →
      wY_behind_88 post J61 J73 x1 x4 (nI a) (nI (fd_n g)) (nI (fd_m g)) g_known g_counted g_places g_best g_made g_faults g_place g_depth g_much b_ruleOf b_sizes b_items b_signs b_text b_ends b_far b_empty b_begins b_starts b_follow b_derivations b_row b_layer b_next b_nodes b_errors b_openNode b_openAlt b_openItem b_came b_sum n e (nI (5 * a + k)) := by
  have n12 := fd_n12 G
  have l5 := fd_L5 G ha
  have r6 := fd_R6 G ha
  have e5 : (5 : Int32) * nI a + b_sizes (nI a).toNatClampNeg = nI (5 * a + fd_L g a) := by rw [fx_le G ha, fx_5]
  have le0 : ∀ e : Int32, (e = e0 ∨ nf_M e < nf_M e0) → nf_M e ≤ nf_M e0 := by
    intro e h
    rcases h with rfl | h <;> omega
  intro d
  induction d with
  | zero =>
    intro k n e hk hn h1 h2 h3 h4
    obtain ⟨n, rfl⟩ : ∃ k, n = k + 1 := ⟨n - 1, by omega⟩
    exact ⟨vp_in_nI (by omega) (by omega), pk_le (5 * a + fd_L g a) (5 * a + k) (fun _ => nm_r (nI_1 _) (K e h1 h2 (fun j hj => h3 j (by omega)) (le0 e h4) h4)) (fun h => absurd h (by omega)) (hx := e5)⟩
  | succ d ih =>
    intro k n e hk hn h1 h2 h3 h4
    obtain ⟨n, rfl⟩ : ∃ k, n = k + 1 := ⟨n - 1, by omega⟩
    have hkl : k < fd_L g a := by omega
    have w14 := fd_W14 G ha hkl
    have vi := fx_in G ha hkl
    refine ⟨vp_in_nI (by omega) (by omega), pk_le (5 * a + fd_L g a) (5 * a + k) (fun h => absurd h (by omega)) (fun _ => ⟨vp_in_nI (by omega) (by omega), ?_⟩) (hx := e5)⟩
    rw [fx_ru G ha]
    refine fb_br1 (by omega) (fun hb => ⟨vi, ?_⟩) (fun hb => nm_r (nI_1 _) (K e h1 h2 (fun j hj z => ?_) (le0 e h4) h4))
    · refine pk_le (fd_W g a k) 7 (fun w7 => nm_r (nI_1 _) (ih (k + 1) n e (by omega) (by omega) h1 h2 (fun j hj z y => ?_) h4)) (fun w7 => ⟨vi, ?_⟩) (hx := fx_wh G ha hkl)
      · rcases Nat.lt_or_ge j k with x | x
        · exact h3 j x z y
        · rw [show j = k from by omega] at y; omega
      · rw [fx_wh G ha hkl, fx_m8 (by omega)]
        have up : ∀ r, fx_Sm (e ||| ((1 : Int32) <<< (nI (fd_W g a k - 8) &&& 31))) r ↔ fx_Sm e r ∨ r = fd_W g a k - 8 := by
          intro r
          unfold fx_Sm
          rw [fb_or1 (by omega)]
          exact ⟨fun z => z.2.elim (fun y => Or.inl ⟨z.1, y⟩) Or.inr, fun z => z.elim (fun y => ⟨y.1, Or.inl y.2⟩) (fun y => ⟨by omega, Or.inr y⟩)⟩
        refine nm_e (nm_r (nI_1 _) (ih (k + 1) n _ (by omega) (by omega) (fun r z => (up r).mpr (Or.inl (h1 r z))) (fun T c t r y => ?_) (fun j hj z y => ?_) ?_))
        · have sub := h2 T c t
          rcases (up r).mp y with y | y
          · exact sub r y
          · rw [y]; exact c _ ⟨a, k, ha, hkl, sub _ ⟨r6, hb⟩, w7, rfl⟩
        · rcases Nat.lt_or_ge j k with x | x
          · exact (up _).mpr (Or.inl (h3 j x z y))
          · rw [show j = k from by omega]; exact (up _).mpr (Or.inr rfl)
        · have l := nf_le e ((1 : Int32) <<< (nI (fd_W g a k - 8) &&& 31))
          by_cases c : (e ||| ((1 : Int32) <<< (nI (fd_W g a k - 8) &&& 31))) = e
          · rw [c]; exact h4
          · have := l.2 c
            have := le0 e h4
            exact Or.inr (by omega)
    · have := (h1 _ z).2
      rw [hb] at this; exact absurd this (by decide)
theorem fy_beh73 {post : Int32 → SY → Prop} {J61 : Int32 → Int32 → Prop} {x1 x4 e0 : Int32} (G : fd_G g b_items b_signs b_sizes b_ruleOf b_text)
    (K : ∀ e, fr_R (fw_ΦR g) (fx_Sm e0) (fx_Sm e) → (e = e0 ∨ nf_M e < nf_M e0) → J61 e x4) :
    ∀ d a n e, a + d = fd_n g → d < n → (∀ r, fx_Sm e0 r → fx_Sm e r) → (∀ T, fr_C (fw_ΦR g) T → (∀ r, fx_Sm e0 r → T r) → ∀ r, fx_Sm e r → T r) → (∀ b k, b < a → b < fd_n g → k < fd_L g b → fx_Sm e0 (fd_R g b) → 7 < fd_W g b k → fx_Sm e (fd_W g b k - 8)) → (e = e0 ∨ nf_M e < nf_M e0) →
      wY_behind_73 post J61 x1 x4 (nI (fd_n g)) (nI (fd_m g)) g_known g_counted g_places g_best g_made g_faults g_place g_depth g_much b_ruleOf b_sizes b_items b_signs b_text b_ends b_far b_empty b_begins b_starts b_follow b_derivations b_row b_layer b_next b_nodes b_errors b_openNode b_openAlt b_openItem b_came b_sum n e (nI a) := by
  have n12 := fd_n12 G
  intro d
  induction d with
  | zero =>
    intro a n e ha hn h1 h2 h3 h4
    obtain ⟨n, rfl⟩ : ∃ k, n = k + 1 := ⟨n - 1, by omega⟩
    refine pk_le (fd_n g) a (fun _ => K e ⟨h1, h2, ?_⟩ h4) (fun h => absurd h (by omega))
    rintro r ⟨b, k, hb, hk, hs, h7, rfl⟩
    exact h3 b k (by omega) hb hk hs h7
  | succ d ih =>
    intro a n e ha hn h1 h2 h3 h4
    obtain ⟨n, rfl⟩ : ∃ k, n = k + 1 := ⟨n - 1, by omega⟩
    refine pk_le (fd_n g) a (fun h => absurd h (by omega)) (fun hl => nm_r (fx_5' a) ⟨fd_L g a + 1, ?_⟩)
    refine fy_beh88 (e0 := e) G hl (fun e' k1 k2 k3 k4 k5 => ih (a + 1) n e' (by omega) (by omega) (fun r z => k1 r (h1 r z)) (fun T c t => k2 T c (h2 T c t)) (fun b k b1 b2 b3 b4 b5 => ?_) ?_) (fd_L g a) 0 (fd_L g a + 1) e (by omega) (by omega) (fun _ z => z) (fun _ _ t => t) (fun j hj => by omega) (Or.inl rfl)
    · rcases Nat.lt_or_ge b a with y | y
      · exact k1 _ (h3 b k y b2 b3 b4 b5)
      · have e : b = a := by omega
        subst e
        exact k3 k b3 (h1 _ b4) b5
    · rcases k5 with rfl | k5
      · exact h4
      · rcases h4 with rfl | h4
        · exact Or.inr k5
        · exact Or.inr (by omega)
theorem fy_beh61 {post : Int32 → SY → Prop} {st r : Nat} (G : fd_G g b_items b_signs b_sizes b_ruleOf b_text) (hN : ∀ r, r < 6 → (b_empty r = 0 ∧ ¬ fn_N g r) ∨ (b_empty r = 1 ∧ fn_N g r)) (hF : ∀ r, r < 6 → fb_rep (b_starts r) (fn_F g r)) (hst : st < 6) (hr : r < 6) (h0 : ∀ q t, q < 6 → bt (b_follow q) t = true → fw_O g st q t) (h8 : bt (b_follow st) 8 = true)
    (K : ∀ fo x, fb_rep x (fw_O g st r) → post x (nI (fd_n g), nI (fd_m g), g_known, g_counted, g_places, g_best, g_made, g_faults, g_place, g_depth, g_much, b_ruleOf, b_sizes, b_items, b_signs, b_text, b_ends, b_far, b_empty, b_begins, b_starts, fo, b_derivations, b_row, b_layer, b_next, b_nodes, b_errors, b_openNode, b_openAlt, b_openItem, b_came, b_sum)) :
    ∀ n x3 x4, (∀ r, fx_Sm x3 r → fw_R g st r) → bt x3 st = true → ((x4 = x3 ∧ fr_C (fw_ΦR g) (fx_Sm x3) ∧ 1 ≤ n) ∨ (¬ x4 = x3 ∧ nf_M x3 + 2 ≤ n)) → wY_behind_61 post (nI r) (nI (fd_n g)) (nI (fd_m g)) g_known g_counted g_places g_best g_made g_faults g_place g_depth g_much b_ruleOf b_sizes b_items b_signs b_text b_ends b_far b_empty b_begins b_starts b_follow b_derivations b_row b_layer b_next b_nodes b_errors b_openNode b_openAlt b_openItem b_came b_sum n x3 x4 := by
  intro n
  induction n with
  | zero => intro x3 x4 h1 h2 h3; omega
  | succ n ih =>
    intro x3 x4 h1 h2 h3
    rcases h3 with ⟨rfl, c, _⟩ | ⟨hne, hn⟩
    · refine br_t rfl ⟨41, ?_⟩
      refine fy_beh165 G hN hF hst hr (fun q hq => ⟨fun z => h1 q ⟨hq, z⟩, fun z => ?_⟩) K 40 0 41 _ (by omega) (by omega) h0 h8 (fun t => Or.inr (Nat.zero_le _))
      exact (z _ c (fun q e => by rw [show q = st from e]; exact ⟨hst, h2⟩)).2
    · refine br_f hne ⟨fd_n g + 1, ?_⟩
      refine fy_beh73 (e0 := x3) G (fun e' k1 k2 => ih e' x3 (k1.2.1 _ (fr_L_C (fw_ΦR_m g)) h1) (k1.1 st ⟨hst, h2⟩).2 ?_) (fd_n g) 0 (fd_n g + 1) x3 (by omega) (by omega) (fun _ z => z) (fun _ _ t => t) (fun b k hb => by omega) (Or.inl rfl)
      by_cases ee : x3 = e'
      · subst ee
        exact Or.inl ⟨rfl, fun q z => k1.2.2 q z, by omega⟩
      · refine Or.inr ⟨ee, ?_⟩
        rcases k2 with k2 | k2
        · exact absurd k2.symm ee
        · omega
theorem fy_beh26 {post : Int32 → SY → Prop} {st r : Nat} (G : fd_G g b_items b_signs b_sizes b_ruleOf b_text) (hN : ∀ r, r < 6 → (b_empty r = 0 ∧ ¬ fn_N g r) ∨ (b_empty r = 1 ∧ fn_N g r)) (hF : ∀ r, r < 6 → fb_rep (b_starts r) (fn_F g r)) (hst : st < 6) (hr : r < 6)
    (K : ∀ fo x, fb_rep x (fw_O g st r) → post x (nI (fd_n g), nI (fd_m g), g_known, g_counted, g_places, g_best, g_made, g_faults, g_place, g_depth, g_much, b_ruleOf, b_sizes, b_items, b_signs, b_text, b_ends, b_far, b_empty, b_begins, b_starts, fo, b_derivations, b_row, b_layer, b_next, b_nodes, b_errors, b_openNode, b_openAlt, b_openItem, b_came, b_sum)) :
    ∀ d q n fo, q + d = 6 → d < n → (∀ i, i < q → fo i = 0) → wY_behind_26 post (nI r) (nI st) (nI (fd_n g)) (nI (fd_m g)) g_known g_counted g_places g_best g_made g_faults g_place g_depth g_much n (nI q) b_ruleOf b_sizes b_items b_signs b_text b_ends b_far b_empty b_begins b_starts fo b_derivations b_row b_layer b_next b_nodes b_errors b_openNode b_openAlt b_openItem b_came b_sum := by
  intro d
  induction d with
  | zero =>
    intro q n fo hq hn h
    obtain ⟨n, rfl⟩ : ∃ k, n = k + 1 := ⟨n - 1, by omega⟩
    refine pk_le 6 q (fun _ => ⟨vp_in_nI hst (by omega), nm_r (e' := upd fo st 256) (by rw [nI_clamp (by omega)]) (nm_e ⟨nf_M ((1 : Int32) <<< (nI st &&& 31)) + 2, ?_⟩)⟩) (fun h => absurd h (by omega))
    refine fy_beh61 (st := st) (b_follow := upd fo st 256) G hN hF hst hr (fun i t hi y => ?_) (by rw [pk_us, fb_256 8 (by decide)]; rfl) K _ _ _ (fun i y => ?_) (by rw [fb_one (by omega) (by omega), decide_eq_true_eq]) (Or.inr ⟨?_, Nat.le_refl _⟩)
    · by_cases e : i = st
      · rw [e, pk_us, fb_256 t (by have := fb_lt y; exact this), decide_eq_true_eq] at y
        exact fr_L_I ⟨y, e⟩
      · rw [pk_un e, h i (by omega), b_0] at y; exact absurd y (by decide)
    · have y2 := y.2
      rw [fb_one (by omega) (by have := y.1; omega), decide_eq_true_eq] at y2
      exact fr_L_I y2
    · intro e
      have : bt ((1 : Int32) <<< (nI st &&& 31)) st = true := by rw [fb_one (by omega) (by omega), decide_eq_true_eq]
      rw [← e, b_0] at this; exact absurd this (by decide)
  | succ d ih =>
    intro q n fo hq hn h
    obtain ⟨n, rfl⟩ : ∃ k, n = k + 1 := ⟨n - 1, by omega⟩
    refine pk_le 6 q (fun h => absurd h (by omega)) (fun _ => ⟨vp_in_nI (by omega) (by omega), nm_r (e' := upd fo q 0) (by rw [nI_clamp (by omega)]) (nm_r (nI_1 _) (ih (q + 1) n _ (by omega) (by omega) (fun i hi => ?_)))⟩)
    by_cases e : i = q
    · rw [e, pk_us]
    · rw [pk_un e]; exact h i (by omega)
end
end
section
/-! tables that solve the equations, and that there is but one, up to the cap -/
def fc_Sol (g : fd_Gr) (M : Nat) (D : Nat → Nat → Nat → Nat) : Prop :=
  (∀ r p q, r < 6 → p ≤ q → q ≤ fd_m g → fc_cg M (D r p q) (fc_to g D r p q)) ∧ (∀ r p, p ≤ fd_m g → D r p p ≠ 0 → fn_N g r)
section
variable {g : fd_Gr} {wh sg le ru tx : Nat → Int32}
theorem fc_uniq {M : Nat} {D D' : Nat → Nat → Nat → Nat} (G : fd_G g wh sg le ru tx) (hb : ¬ fn_bad g) (hM : 0 < M) (s1 : fc_Sol g M D) (s2 : fc_Sol g M D') :
    ∀ d k r p q, fd_m g - p ≤ d → fc_rk g r ≤ k → r < 6 → p ≤ q → q ≤ fd_m g → fc_cg M (D r p q) (D' r p q) := by
  intro d
  induction d with
  | zero =>
    intro k
    induction k with
    | zero =>
      intro r p q hp hk hr hpq hq
      refine fc_tr (s1.1 r p q hr hpq hq) (fc_tr (fc_to_cg hM (fun w _ z => s1.2 w p (by omega) z) ?_ hq) (fc_sy (s2.1 r p q hr hpq hq)))
      intro a j ha hR hj h7 p' q' h1 h2 h3 h4
      have := fc_rk_lt G hb (h4 (by omega))
      omega
    | succ k ihk =>
      intro r p q hp hk hr hpq hq
      refine fc_tr (s1.1 r p q hr hpq hq) (fc_tr (fc_to_cg hM (fun w _ z => s1.2 w p (by omega) z) ?_ hq) (fc_sy (s2.1 r p q hr hpq hq)))
      intro a j ha hR hj h7 p' q' h1 h2 h3 h4
      have h := fc_rk_lt G hb (h4 (by omega))
      exact ihk _ p' q' (by omega) (by omega) (fn_D6 G (h4 (by omega))).2 h2 h3
  | succ d ihd =>
    intro k
    induction k with
    | zero =>
      intro r p q hp hk hr hpq hq
      refine fc_tr (s1.1 r p q hr hpq hq) (fc_tr (fc_to_cg hM (fun w _ z => s1.2 w p (by omega) z) ?_ hq) (fc_sy (s2.1 r p q hr hpq hq)))
      intro a j ha hR hj h7 p' q' h1 h2 h3 h4
      rcases Nat.eq_or_lt_of_le h1 with y | y
      · have := fc_rk_lt G hb (h4 y.symm)
        omega
      · have w14 := fd_W14 G ha hj
        exact ihd 6 _ p' q' (by omega) (Nat.le_of_lt (fc_rk_6 hb (by omega))) (by omega) h2 h3
    | succ k ihk =>
      intro r p q hp hk hr hpq hq
      refine fc_tr (s1.1 r p q hr hpq hq) (fc_tr (fc_to_cg hM (fun w _ z => s1.2 w p (by omega) z) ?_ hq) (fc_sy (s2.1 r p q hr hpq hq)))
      intro a j ha hR hj h7 p' q' h1 h2 h3 h4
      have w14 := fd_W14 G ha hj
      rcases Nat.eq_or_lt_of_le h1 with y | y
      · have h := fc_rk_lt G hb (h4 y.symm)
        exact ihk _ p' q' (by omega) (by omega) (by omega) h2 h3
      · exact ihd 6 _ p' q' (by omega) (Nat.le_of_lt (fc_rk_6 hb (by omega))) (by omega) h2 h3
theorem fc_Sol_w {M M' : Nat} {D : Nat → Nat → Nat → Nat} (h : M ≤ M') (s : fc_Sol g M' D) : fc_Sol g M D := ⟨fun r p q h1 h2 h3 => fc_w h (s.1 r p q h1 h2 h3), s.2⟩
/-- items over rows that agree -/
theorem fc_it_cg {M : Nat} (hM : 0 < M) {D : Nat → Nat → Nat → Nat} {a k : Nat} {v v' : Nat → Nat} (hv : ∀ q, q ≤ fd_m g → fc_cg M (v q) (v' q)) : ∀ q, q ≤ fd_m g → fc_cg M (fc_it g D a k v q) (fc_it g D a k v' q) := by
  have on : ∀ q, q ≤ fd_m g → fc_cg M (fc_on (fc_b g D (fd_W g a k)) v q) (fc_on (fc_b g D (fd_W g a k)) v' q) := fun q hq => fc_on_cg hM (fun p hp => hv p (by omega)) (fun _ _ _ => fc_rf)
  intro q hq
  rcases (by omega : fd_S g a k = 0 ∨ fd_S g a k = 1 ∨ fd_S g a k = 2 ∨ 3 ≤ fd_S g a k) with s | s | s | s
  · rw [fc_it0 s, fc_it0 s]; exact on q hq
  · rw [fc_it1 s, fc_it1 s]; exact fc_ad (hv q hq) (on q hq)
  · rw [fc_it2 s, fc_it2 s]; exact fc_rep_cg hM hv (fun _ _ _ _ _ => fc_rf) q hq
  · rw [fc_it3 s, fc_it3 s]; exact fc_rep_cg hM on (fun _ _ _ _ _ => fc_rf) q hq
/-- a number as it is asked: most -/
theorem fx_most {post : Int32 → Prop} {s a b : Nat} {x y : Int64} {z : Int32} (hs : s ≤ 1000000) (ha : a ≤ 1000000) (hb : b ≤ 1000000) (hz : z = nI s) (hx : x = lN a) (hy : y = lN b) (K : post (nI (fc_sat 1000000 (s + a * b)))) : wpX_most post z x y := by
  have hab : a * b ≤ 1000000 * 1000000 := Nat.mul_le_mul ha hb
  subst hz hx hy
  refine nm_r (e' := lN (s + a * b)) (by rw [nI_l (by omega), lN_mul, lN_add]) ?_
  have e : (1000000 : Int64) = lN 1000000 := rfl
  rw [e]
  unfold fc_sat at K
  refine br_c (fun h => ?_) (fun h => ?_)
  · rw [pk_lLE (by omega) (by omega)] at h
    rw [if_pos h] at K
    rw [lN_i]; exact K
  · rw [pk_lLE (by omega) (by omega)] at h
    rw [if_neg h] at K
    exact K
end
end
section
/-- X's numbers are naturals up to the cap -/
def fx_NR (nu : Nat → Int32) : Prop := ∀ k, k < 3750 → nu k = nI (fq_v nu k) ∧ fq_v nu k ≤ 1000000
def fx_U (nu : Nat → Int32) (r p q : Nat) : Nat := if r < 6 then fq_v nu (625 * r + 25 * p + q) else 0
/-- a row of numbers -/
def fx_V (now : Nat → Int32) (V : Nat → Nat) : Prop := ∀ q, q < 25 → now q = nI (V q) ∧ V q ≤ 1000000
theorem fx_625 (r p q : Nat) : ((625 : Int32) * nI r + (25 : Int32) * nI p) + nI q = nI (625 * r + 25 * p + q) := by
  rw [show (625 : Int32) = nI 625 from rfl, show (25 : Int32) = nI 25 from rfl, pk_mul, pk_mul, nI_add, nI_add]
section
variable {g : fd_Gr}
variable {f_studied f_empties f_bad f_kept f_busyCount f_fartherCount f_best f_counted f_depth f_place f_nodes f_errors f_much : Int32} {a_what a_sign a_length a_ruleOf a_text a_begins a_firsts a_been a_ends a_far a_begun a_todo a_busy a_farther a_number a_now a_then a_order a_openAlternative a_openItem a_openCame a_openNode a_nodeRule a_nodeAlternative a_nodeFrom a_nodeTo a_nodeParent a_nodeParts a_errorKind a_errorPlace a_errorItem : Nat → Int32}
theorem fx_between {post : Int32 → Prop} {w p q : Nat} (G : fd_G g a_what a_sign a_length a_ruleOf a_text) (NR : fx_NR a_number) (hw : w < 14) (hpq : p ≤ q) (hq : q ≤ fd_m g) (K : fc_b g (fx_U a_number) w p q ≤ 1000000 → post (nI (fc_b g (fx_U a_number) w p q))) : wpX_between post (nI (fd_n g), nI (fd_m g), f_studied, f_empties, f_bad, f_kept, f_busyCount, f_fartherCount, f_best, f_counted, f_depth, f_place, f_nodes, f_errors, f_much, a_what, a_sign, a_length, a_ruleOf, a_text, a_begins, a_firsts, a_been, a_ends, a_far, a_begun, a_todo, a_busy, a_farther, a_number, a_now, a_then, a_order, a_openAlternative, a_openItem, a_openCame, a_openNode, a_nodeRule, a_nodeAlternative, a_nodeFrom, a_nodeTo, a_nodeParent, a_nodeParts, a_errorKind, a_errorPlace, a_errorItem) (nI w) (nI p) (nI q) := by
  have m24 := fd_m24 G
  unfold fc_b at K
  refine pk_le w 7 (fun h7 => ?_) (fun h7 => ?_)
  · rw [if_pos (by omega)] at K
    refine pk_eq q (p + 1) (fun e => ⟨vp_in_nI (by omega) (by omega), ?_⟩) (fun e => ?_) (hy := nI_1 p)
    · have t8 := fd_T8 G (show p < fd_m g from by omega)
      refine pk_eq (fd_T g p) w (fun ht => ?_) (fun ht => ?_) (hx := fx_tx G (by omega))
      · rw [if_pos ⟨by omega, e, ht⟩] at K; exact K (by omega)
      · rw [if_neg (fun z => ht z.2.2)] at K; exact K (by omega)
    · rw [if_neg (fun z => e z.2.1)] at K; exact K (by omega)
  · rw [if_neg (by omega)] at K
    rw [fx_m8 (by omega), fx_625]
    refine ⟨vp_in_nI (by omega) (by omega), ?_⟩
    rw [show (nI (625 * (w - 8) + 25 * p + q)).toNatClampNeg = 625 * (w - 8) + 25 * p + q from nI_clamp (by omega)]
    obtain ⟨e1, e2⟩ := NR (625 * (w - 8) + 25 * p + q) (by omega)
    unfold fx_U at K
    rw [if_pos (by omega)] at K
    rw [e1]; exact K e2
/-! once -/
theorem fx_onc102 {post : SX → Prop} {V T : Nat → Nat} (G : fd_G g a_what a_sign a_length a_ruleOf a_text) (hT : ∀ q, q ≤ fd_m g → a_then q = nI (T q) ∧ T q ≤ 1000000)
    (K : ∀ now V', fx_V now V' → (∀ q, q ≤ fd_m g → V' q = T q) → post (nI (fd_n g), nI (fd_m g), f_studied, f_empties, f_bad, f_kept, f_busyCount, f_fartherCount, f_best, f_counted, f_depth, f_place, f_nodes, f_errors, f_much, a_what, a_sign, a_length, a_ruleOf, a_text, a_begins, a_firsts, a_been, a_ends, a_far, a_begun, a_todo, a_busy, a_farther, a_number, now, a_then, a_order, a_openAlternative, a_openItem, a_openCame, a_openNode, a_nodeRule, a_nodeAlternative, a_nodeFrom, a_nodeTo, a_nodeParent, a_nodeParts, a_errorKind, a_errorPlace, a_errorItem)) :
    ∀ d q n now V', q + d = fd_m g + 1 → d < n → fx_V now V' → (∀ i, i < q → V' i = T i) → wX_once_102 post (nI (fd_n g)) (nI (fd_m g)) f_studied f_empties f_bad f_kept f_busyCount f_fartherCount f_best f_counted f_depth f_place f_nodes f_errors f_much n (nI q) a_what a_sign a_length a_ruleOf a_text a_begins a_firsts a_been a_ends a_far a_begun a_todo a_busy a_farther a_number now a_then a_order a_openAlternative a_openItem a_openCame a_openNode a_nodeRule a_nodeAlternative a_nodeFrom a_nodeTo a_nodeParent a_nodeParts a_errorKind a_errorPlace a_errorItem := by
  have m24 := fd_m24 G
  intro d
  induction d with
  | zero =>
    intro q n now V' hq hn h1 h2
    obtain ⟨n, rfl⟩ : ∃ k, n = k + 1 := ⟨n - 1, by omega⟩
    exact pk_lt (fd_m g) q (fun _ => K now V' h1 (fun i hi => h2 i (by omega))) (fun h => absurd h (by omega))
  | succ d ih =>
    intro q n now V' hq hn h1 h2
    obtain ⟨n, rfl⟩ : ∃ k, n = k + 1 := ⟨n - 1, by omega⟩
    have vq : vp_in (nI q) 25 := vp_in_nI (by omega) (by omega)
    obtain ⟨e1, e2⟩ := hT q (by omega)
    refine pk_lt (fd_m g) q (fun h => absurd h (by omega)) (fun _ => ⟨vq, vq, nm_r (e' := upd now q (nI (T q))) (by rw [nI_clamp (by omega), e1]) (nm_r (nI_1 _) ?_)⟩)
    refine ih (q + 1) n _ (fun i => if i = q then T q else V' i) (by omega) (by omega) (fun i hi => ?_) (fun i hi => ?_)
    · by_cases e : i = q
      · subst e; rw [pk_us]; simp only [if_true]; exact ⟨trivial, e2⟩
      · rw [pk_un e]; simp only [e, if_false]; exact h1 i hi
    · by_cases e : i = q
      · subst e; simp only [if_true]
      · simp only [e, if_false]; exact h2 i (by omega)
theorem fx_onc33 {post : SX → Prop} {J2 : Int32 → (Nat → Int32) → (Nat → Int32) → (Nat → Int32) → (Nat → Int32) → (Nat → Int32) → (Nat → Int32) → (Nat → Int32) → (Nat → Int32) → (Nat → Int32) → (Nat → Int32) → (Nat → Int32) → (Nat → Int32) → (Nat → Int32) → (Nat → Int32) → (Nat → Int32) → (Nat → Int32) → (Nat → Int32) → (Nat → Int32) → (Nat → Int32) → (Nat → Int32) → (Nat → Int32) → (Nat → Int32) → (Nat → Int32) → (Nat → Int32) → (Nat → Int32) → (Nat → Int32) → (Nat → Int32) → (Nat → Int32) → (Nat → Int32) → (Nat → Int32) → (Nat → Int32) → Prop} {w q : Nat} {V : Nat → Nat} {x2 : Int32} {th0 : Nat → Int32} {c : Nat} (G : fd_G g a_what a_sign a_length a_ruleOf a_text) (NR : fx_NR a_number) (hw : w < 14) (hq : q ≤ fd_m g) (hV : fx_V a_now V)
    (K : ∀ T, T ≤ 1000000 → fc_cg 1000000 T (c + fc_on (fc_b g (fx_U a_number) w) V q) → J2 (nI (q + 1)) a_what a_sign a_length a_ruleOf a_text a_begins a_firsts a_been a_ends a_far a_begun a_todo a_busy a_farther a_number a_now (upd th0 q (nI T)) a_order a_openAlternative a_openItem a_openCame a_openNode a_nodeRule a_nodeAlternative a_nodeFrom a_nodeTo a_nodeParent a_nodeParts a_errorKind a_errorPlace a_errorItem) :
    ∀ d p n T, p + d = q + 1 → d < n → T ≤ 1000000 → fc_cg 1000000 T (c + fc_sum (fun p => V p * fc_b g (fx_U a_number) w p q) p) →
      wX_once_33 post J2 (nI w) x2 (nI q) (nI (fd_n g)) (nI (fd_m g)) f_studied f_empties f_bad f_kept f_busyCount f_fartherCount f_best f_counted f_depth f_place f_nodes f_errors f_much n (nI p) a_what a_sign a_length a_ruleOf a_text a_begins a_firsts a_been a_ends a_far a_begun a_todo a_busy a_farther a_number a_now (upd th0 q (nI T)) a_order a_openAlternative a_openItem a_openCame a_openNode a_nodeRule a_nodeAlternative a_nodeFrom a_nodeTo a_nodeParent a_nodeParts a_errorKind a_errorPlace a_errorItem := by
  have m24 := fd_m24 G
  intro d
  induction d with
  | zero =>
    intro p n T hp hn hT h
    obtain ⟨n, rfl⟩ : ∃ k, n = k + 1 := ⟨n - 1, by omega⟩
    have e : p = q + 1 := by omega
    subst e
    exact pk_lt q (q + 1) (fun _ => nm_r (nI_1 _) (K T hT h)) (fun h => absurd h (by omega))
  | succ d ih =>
    intro p n T hp hn hT h
    obtain ⟨n, rfl⟩ : ∃ k, n = k + 1 := ⟨n - 1, by omega⟩
    have vp : vp_in (nI p) 25 := vp_in_nI (by omega) (by omega)
    have vq : vp_in (nI q) 25 := vp_in_nI (by omega) (by omega)
    obtain ⟨v1, v2⟩ := hV p (by omega)
    have ev : a_now (nI p).toNatClampNeg = nI (V p) := by rw [nI_clamp (by omega)]; exact v1
    refine pk_lt q p (fun h => absurd h (by omega)) (fun _ => ⟨vp, pk_eq (V p) 0 (fun z => nm_r (nI_1 _) (ih (p + 1) n T (by omega) (by omega) hT ?_)) (fun z => ?_) (hx := ev)⟩)
    · rw [fc_sum_s, z, Nat.zero_mul, Nat.add_zero]; exact h
    · refine fx_between G NR hw (by omega) hq (fun bl => ⟨vq, vp, ?_⟩)
      refine fx_most hT v2 bl (by rw [nI_clamp (by omega), pk_us]) (by rw [ev, nI_l (by omega)]) (nI_l (by omega)) ⟨vq, ?_⟩
      refine nm_r (e' := upd th0 q (nI (fc_sat 1000000 (T + V p * fc_b g (fx_U a_number) w p q)))) ?_ (nm_r (nI_1 _) (ih (p + 1) n _ (by omega) (by omega) (fc_sat_le _ _) ?_))
      · rw [nI_clamp (by omega)]
        funext i
        by_cases e : i = q
        · rw [e, pk_us, pk_us]
        · rw [pk_un e, pk_un e, pk_un e]
      · refine fc_tr (fc_sat_cg _ _) ?_
        rw [fc_sum_s, ← Nat.add_assoc]
        exact fc_ad h fc_rf
theorem fx_onc2 {post : SX → Prop} {w : Nat} {V : Nat → Nat} {x2 : Int32} {stay : Bool} (G : fd_G g a_what a_sign a_length a_ruleOf a_text) (NR : fx_NR a_number) (hw : w < 14) (hV : fx_V a_now V) (hx : x2 = fb_i stay)
    (K : ∀ now th V', fx_V now V' → (∀ q, q ≤ fd_m g → fc_cg 1000000 (V' q) ((if stay = true then V q else 0) + fc_on (fc_b g (fx_U a_number) w) V q)) → post (nI (fd_n g), nI (fd_m g), f_studied, f_empties, f_bad, f_kept, f_busyCount, f_fartherCount, f_best, f_counted, f_depth, f_place, f_nodes, f_errors, f_much, a_what, a_sign, a_length, a_ruleOf, a_text, a_begins, a_firsts, a_been, a_ends, a_far, a_begun, a_todo, a_busy, a_farther, a_number, now, th, a_order, a_openAlternative, a_openItem, a_openCame, a_openNode, a_nodeRule, a_nodeAlternative, a_nodeFrom, a_nodeTo, a_nodeParent, a_nodeParts, a_errorKind, a_errorPlace, a_errorItem)) :
    ∀ d q n th (T : Nat → Nat), q + d = fd_m g + 1 → d < n → (∀ i, i < q → th i = nI (T i) ∧ T i ≤ 1000000 ∧ fc_cg 1000000 (T i) ((if stay = true then V i else 0) + fc_on (fc_b g (fx_U a_number) w) V i)) →
      wX_once_2 post (nI w) x2 (nI (fd_n g)) (nI (fd_m g)) f_studied f_empties f_bad f_kept f_busyCount f_fartherCount f_best f_counted f_depth f_place f_nodes f_errors f_much n (nI q) a_what a_sign a_length a_ruleOf a_text a_begins a_firsts a_been a_ends a_far a_begun a_todo a_busy a_farther a_number a_now th a_order a_openAlternative a_openItem a_openCame a_openNode a_nodeRule a_nodeAlternative a_nodeFrom a_nodeTo a_nodeParent a_nodeParts a_errorKind a_errorPlace a_errorItem := by
  have m24 := fd_m24 G
  intro d
  induction d with
  | zero =>
    intro q n th T hq hn h
    obtain ⟨n, rfl⟩ : ∃ k, n = k + 1 := ⟨n - 1, by omega⟩
    refine pk_lt (fd_m g) q (fun _ => ⟨fd_m g + 2, ?_⟩) (fun h => absurd h (by omega))
    refine fx_onc102 (V := V) (T := T) (a_then := th) G (fun i hi => ⟨(h i (by omega)).1, (h i (by omega)).2.1⟩) (fun now V' h1 h2 => K now th V' h1 (fun i hi => ?_)) (fd_m g + 1) 0 (fd_m g + 2) a_now V (by omega) (by omega) hV (fun i hi => by omega)
    rw [h2 i hi]; exact (h i (by omega)).2.2
  | succ d ih =>
    intro q n th T hq hn h
    obtain ⟨n, rfl⟩ : ∃ k, n = k + 1 := ⟨n - 1, by omega⟩
    have vq : vp_in (nI q) 25 := vp_in_nI (by omega) (by omega)
    obtain ⟨v1, v2⟩ := hV q (by omega)
    have go : ∀ c, c ≤ 1000000 → c = (if stay = true then V q else 0) → ∃ n33, wX_once_33 post (wX_once_2 post (nI w) x2 (nI (fd_n g)) (nI (fd_m g)) f_studied f_empties f_bad f_kept f_busyCount f_fartherCount f_best f_counted f_depth f_place f_nodes f_errors f_much n) (nI w) x2 (nI q) (nI (fd_n g)) (nI (fd_m g)) f_studied f_empties f_bad f_kept f_busyCount f_fartherCount f_best f_counted f_depth f_place f_nodes f_errors f_much n33 0 a_what a_sign a_length a_ruleOf a_text a_begins a_firsts a_been a_ends a_far a_begun a_todo a_busy a_farther a_number a_now (upd th q (nI c)) a_order a_openAlternative a_openItem a_openCame a_openNode a_nodeRule a_nodeAlternative a_nodeFrom a_nodeTo a_nodeParent a_nodeParts a_errorKind a_errorPlace a_errorItem := by
      intro c hc ec
      refine ⟨q + 2, fx_onc33 (c := c) (th0 := th) G NR hw (by omega) hV (fun T' h1 h2 => ih (q + 1) n _ (fun i => if i = q then T' else T i) (by omega) (by omega) (fun i hi => ?_)) (q + 1) 0 (q + 2) c (by omega) (by omega) hc fc_rf⟩
      by_cases e : i = q
      · subst e; rw [pk_us]; simp only [if_true]; rw [← ec]; exact ⟨trivial, h1, h2⟩
      · rw [pk_un e]; simp only [e, if_false]; exact h i (by omega)
    refine pk_lt (fd_m g) q (fun h => absurd h (by omega)) (fun _ => ?_)
    subst hx
    cases stay
    · exact br_t rfl ⟨vq, nm_r (e' := upd th q (nI 0)) (by rw [nI_clamp (by omega)]; rfl) (go 0 (by omega) rfl)⟩
    · exact br_f (by decide) ⟨vq, vq, nm_r (e' := upd th q (nI (V q))) (by rw [nI_clamp (by omega), v1]) (go (V q) v2 rfl)⟩
theorem fx_once {post : SX → Prop} {w : Nat} {V : Nat → Nat} {stay : Bool} (G : fd_G g a_what a_sign a_length a_ruleOf a_text) (NR : fx_NR a_number) (hw : w < 14) (hV : fx_V a_now V)
    (K : ∀ now th V', fx_V now V' → (∀ q, q ≤ fd_m g → fc_cg 1000000 (V' q) ((if stay = true then V q else 0) + fc_on (fc_b g (fx_U a_number) w) V q)) → post (nI (fd_n g), nI (fd_m g), f_studied, f_empties, f_bad, f_kept, f_busyCount, f_fartherCount, f_best, f_counted, f_depth, f_place, f_nodes, f_errors, f_much, a_what, a_sign, a_length, a_ruleOf, a_text, a_begins, a_firsts, a_been, a_ends, a_far, a_begun, a_todo, a_busy, a_farther, a_number, now, th, a_order, a_openAlternative, a_openItem, a_openCame, a_openNode, a_nodeRule, a_nodeAlternative, a_nodeFrom, a_nodeTo, a_nodeParent, a_nodeParts, a_errorKind, a_errorPlace, a_errorItem)) : wpX_once post (nI (fd_n g), nI (fd_m g), f_studied, f_empties, f_bad, f_kept, f_busyCount, f_fartherCount, f_best, f_counted, f_depth, f_place, f_nodes, f_errors, f_much, a_what, a_sign, a_length, a_ruleOf, a_text, a_begins, a_firsts, a_been, a_ends, a_far, a_begun, a_todo, a_busy, a_farther, a_number, a_now, a_then, a_order, a_openAlternative, a_openItem, a_openCame, a_openNode, a_nodeRule, a_nodeAlternative, a_nodeFrom, a_nodeTo, a_nodeParent, a_nodeParts, a_errorKind, a_errorPlace, a_errorItem) (nI w) (fb_i stay) :=
  ⟨fd_m g + 2, fx_onc2 G NR hw hV rfl K (fd_m g + 1) 0 (fd_m g + 2) a_then (fun _ => 0) (by omega) (by omega) (fun i hi => by omega)⟩
/-! repeat -/
theorem fx_rep12 {post : SX → Prop} {J2 : Int32 → (Nat → Int32) → (Nat → Int32) → (Nat → Int32) → (Nat → Int32) → (Nat → Int32) → (Nat → Int32) → (Nat → Int32) → (Nat → Int32) → (Nat → Int32) → (Nat → Int32) → (Nat → Int32) → (Nat → Int32) → (Nat → Int32) → (Nat → Int32) → (Nat → Int32) → (Nat → Int32) → (Nat → Int32) → (Nat → Int32) → (Nat → Int32) → (Nat → Int32) → (Nat → Int32) → (Nat → Int32) → (Nat → Int32) → (Nat → Int32) → (Nat → Int32) → (Nat → Int32) → (Nat → Int32) → (Nat → Int32) → (Nat → Int32) → (Nat → Int32) → (Nat → Int32) → Prop} {w q : Nat} {V : Nat → Nat} {now0 : Nat → Int32} {c : Nat} (G : fd_G g a_what a_sign a_length a_ruleOf a_text) (NR : fx_NR a_number) (hw : w < 14) (hq : q ≤ fd_m g) (hV : ∀ i, i < q → now0 i = nI (V i) ∧ V i ≤ 1000000)
    (K : ∀ T, T ≤ 1000000 → fc_cg 1000000 T (c + fc_sum (fun p => V p * fc_b g (fx_U a_number) w p q) q) → J2 (nI (q + 1)) a_what a_sign a_length a_ruleOf a_text a_begins a_firsts a_been a_ends a_far a_begun a_todo a_busy a_farther a_number (upd now0 q (nI T)) a_then a_order a_openAlternative a_openItem a_openCame a_openNode a_nodeRule a_nodeAlternative a_nodeFrom a_nodeTo a_nodeParent a_nodeParts a_errorKind a_errorPlace a_errorItem) :
    ∀ d p n T, p + d = q → d < n → T ≤ 1000000 → fc_cg 1000000 T (c + fc_sum (fun p => V p * fc_b g (fx_U a_number) w p q) p) →
      wX_repeat_12 post J2 (nI w) (nI q) (nI (fd_n g)) (nI (fd_m g)) f_studied f_empties f_bad f_kept f_busyCount f_fartherCount f_best f_counted f_depth f_place f_nodes f_errors f_much n (nI p) a_what a_sign a_length a_ruleOf a_text a_begins a_firsts a_been a_ends a_far a_begun a_todo a_busy a_farther a_number (upd now0 q (nI T)) a_then a_order a_openAlternative a_openItem a_openCame a_openNode a_nodeRule a_nodeAlternative a_nodeFrom a_nodeTo a_nodeParent a_nodeParts a_errorKind a_errorPlace a_errorItem := by
  have m24 := fd_m24 G
  intro d
  induction d with
  | zero =>
    intro p n T hp hn hT h
    obtain ⟨n, rfl⟩ : ∃ k, n = k + 1 := ⟨n - 1, by omega⟩
    have e : p = q := by omega
    subst e
    exact pk_le p p (fun _ => nm_r (nI_1 _) (K T hT h)) (fun h => absurd h (by omega))
  | succ d ih =>
    intro p n T hp hn hT h
    obtain ⟨n, rfl⟩ : ∃ k, n = k + 1 := ⟨n - 1, by omega⟩
    have vp : vp_in (nI p) 25 := vp_in_nI (by omega) (by omega)
    have vq : vp_in (nI q) 25 := vp_in_nI (by omega) (by omega)
    obtain ⟨v1, v2⟩ := hV p (by omega)
    have ev : upd now0 q (nI T) (nI p).toNatClampNeg = nI (V p) := by rw [nI_clamp (by omega), pk_un (by omega)]; exact v1
    refine pk_le q p (fun h => absurd h (by omega)) (fun _ => ⟨vp, pk_eq (V p) 0 (fun z => nm_r (nI_1 _) (ih (p + 1) n T (by omega) (by omega) hT ?_)) (fun z => ?_) (hx := ev)⟩)
    · rw [fc_sum_s, z, Nat.zero_mul, Nat.add_zero]; exact h
    · refine fx_between G NR hw (by omega) hq (fun bl => ⟨vq, vp, ?_⟩)
      refine fx_most hT v2 bl (by rw [nI_clamp (by omega), pk_us]) (by rw [ev, nI_l (by omega)]) (nI_l (by omega)) ⟨vq, ?_⟩
      refine nm_r (e' := upd now0 q (nI (fc_sat 1000000 (T + V p * fc_b g (fx_U a_number) w p q)))) ?_ (nm_r (nI_1 _) (ih (p + 1) n _ (by omega) (by omega) (fc_sat_le _ _) ?_))
      · rw [nI_clamp (by omega)]
        funext i
        by_cases e : i = q
        · rw [e, pk_us, pk_us]
        · rw [pk_un e, pk_un e, pk_un e]
      · refine fc_tr (fc_sat_cg _ _) ?_
        rw [fc_sum_s, ← Nat.add_assoc]
        exact fc_ad h fc_rf
theorem fx_rep2 {post : SX → Prop} {w : Nat} {V0 : Nat → Nat} (G : fd_G g a_what a_sign a_length a_ruleOf a_text) (NR : fx_NR a_number) (hw : w < 14)
    (K : ∀ now V, fx_V now V → (∀ q, q ≤ fd_m g → fc_cg 1000000 (V q) (V0 q + fc_sum (fun p => V p * fc_b g (fx_U a_number) w p q) q)) → post (nI (fd_n g), nI (fd_m g), f_studied, f_empties, f_bad, f_kept, f_busyCount, f_fartherCount, f_best, f_counted, f_depth, f_place, f_nodes, f_errors, f_much, a_what, a_sign, a_length, a_ruleOf, a_text, a_begins, a_firsts, a_been, a_ends, a_far, a_begun, a_todo, a_busy, a_farther, a_number, now, a_then, a_order, a_openAlternative, a_openItem, a_openCame, a_openNode, a_nodeRule, a_nodeAlternative, a_nodeFrom, a_nodeTo, a_nodeParent, a_nodeParts, a_errorKind, a_errorPlace, a_errorItem)) :
    ∀ d q n now V, q + d = fd_m g + 1 → 1 ≤ q → d < n → fx_V now V → (∀ i, i < q → fc_cg 1000000 (V i) (V0 i + fc_sum (fun p => V p * fc_b g (fx_U a_number) w p i) i)) → (∀ i, q ≤ i → V i = V0 i) →
      wX_repeat_2 post (nI w) (nI (fd_n g)) (nI (fd_m g)) f_studied f_empties f_bad f_kept f_busyCount f_fartherCount f_best f_counted f_depth f_place f_nodes f_errors f_much n (nI q) a_what a_sign a_length a_ruleOf a_text a_begins a_firsts a_been a_ends a_far a_begun a_todo a_busy a_farther a_number now a_then a_order a_openAlternative a_openItem a_openCame a_openNode a_nodeRule a_nodeAlternative a_nodeFrom a_nodeTo a_nodeParent a_nodeParts a_errorKind a_errorPlace a_errorItem := by
  have m24 := fd_m24 G
  intro d
  induction d with
  | zero =>
    intro q n now V hq h1q hn hV h h2
    obtain ⟨n, rfl⟩ : ∃ k, n = k + 1 := ⟨n - 1, by omega⟩
    exact pk_lt (fd_m g) q (fun _ => K now V hV (fun i hi => h i (by omega))) (fun h => absurd h (by omega))
  | succ d ih =>
    intro q n now V hq h1q hn hV h h2
    obtain ⟨n, rfl⟩ : ∃ k, n = k + 1 := ⟨n - 1, by omega⟩
    refine pk_lt (fd_m g) q (fun h => absurd h (by omega)) (fun _ => ⟨q + 1, ?_⟩)
    have key : wX_repeat_12 post (wX_repeat_2 post (nI w) (nI (fd_n g)) (nI (fd_m g)) f_studied f_empties f_bad f_kept f_busyCount f_fartherCount f_best f_counted f_depth f_place f_nodes f_errors f_much n) (nI w) (nI q) (nI (fd_n g)) (nI (fd_m g)) f_studied f_empties f_bad f_kept f_busyCount f_fartherCount f_best f_counted f_depth f_place f_nodes f_errors f_much (q + 1) (nI 0) a_what a_sign a_length a_ruleOf a_text a_begins a_firsts a_been a_ends a_far a_begun a_todo a_busy a_farther a_number (upd now q (nI (V q))) a_then a_order a_openAlternative a_openItem a_openCame a_openNode a_nodeRule a_nodeAlternative a_nodeFrom a_nodeTo a_nodeParent a_nodeParts a_errorKind a_errorPlace a_errorItem := fx_rep12 (V := V) (now0 := now) (c := V q) G NR hw (by omega) (fun i hi => hV i (by omega))
      (fun T t1 t2 => ih (q + 1) n _ (fun i => if i = q then T else V i) (by omega) (by omega) (by omega) (fun i hi => by
          by_cases e : i = q
          · subst e; rw [pk_us]; simp only [if_true]; exact ⟨trivial, t1⟩
          · rw [pk_un e]; simp only [e, if_false]; exact hV i hi) (fun i hi => by
          have es : fc_sum (fun p => (if p = q then T else V p) * fc_b g (fx_U a_number) w p i) i = fc_sum (fun p => V p * fc_b g (fx_U a_number) w p i) i := fc_sum_e i (fun p hp => by rw [if_neg (by omega)])
          show fc_cg 1000000 (if i = q then T else V i) (V0 i + fc_sum (fun p => (if p = q then T else V p) * fc_b g (fx_U a_number) w p i) i)
          rw [es]
          by_cases e : i = q
          · subst e; rw [if_pos rfl, ← h2 i (Nat.le_refl _)]; exact t2
          · rw [if_neg e]; exact h i (by omega)) (fun i hi => by
          show (if i = q then T else V i) = V0 i
          rw [if_neg (by omega)]; exact h2 i (by omega)))
      q 0 (q + 1) (V q) (by omega) (by omega) (hV q (by omega)).2 fc_rf
    have eu : upd now q (nI (V q)) = now := by
      funext i
      by_cases e : i = q
      · rw [e, pk_us, (hV q (by omega)).1]
      · rw [pk_un e]
    rw [eu] at key
    exact key
theorem fx_repeat {post : SX → Prop} {w : Nat} {V : Nat → Nat} (G : fd_G g a_what a_sign a_length a_ruleOf a_text) (NR : fx_NR a_number) (hw : w < 14) (hV : fx_V a_now V)
    (K : ∀ now V', fx_V now V' → (∀ q, q ≤ fd_m g → fc_cg 1000000 (V' q) (fc_rep (fc_b g (fx_U a_number) w) V q)) → post (nI (fd_n g), nI (fd_m g), f_studied, f_empties, f_bad, f_kept, f_busyCount, f_fartherCount, f_best, f_counted, f_depth, f_place, f_nodes, f_errors, f_much, a_what, a_sign, a_length, a_ruleOf, a_text, a_begins, a_firsts, a_been, a_ends, a_far, a_begun, a_todo, a_busy, a_farther, a_number, now, a_then, a_order, a_openAlternative, a_openItem, a_openCame, a_openNode, a_nodeRule, a_nodeAlternative, a_nodeFrom, a_nodeTo, a_nodeParent, a_nodeParts, a_errorKind, a_errorPlace, a_errorItem)) : wpX_repeat post (nI (fd_n g), nI (fd_m g), f_studied, f_empties, f_bad, f_kept, f_busyCount, f_fartherCount, f_best, f_counted, f_depth, f_place, f_nodes, f_errors, f_much, a_what, a_sign, a_length, a_ruleOf, a_text, a_begins, a_firsts, a_been, a_ends, a_far, a_begun, a_todo, a_busy, a_farther, a_number, a_now, a_then, a_order, a_openAlternative, a_openItem, a_openCame, a_openNode, a_nodeRule, a_nodeAlternative, a_nodeFrom, a_nodeTo, a_nodeParent, a_nodeParts, a_errorKind, a_errorPlace, a_errorItem) (nI w) := by
  have m24 := fd_m24 G
  refine ⟨fd_m g + 1, fx_rep2 (V0 := V) G NR hw (fun now V' h1 h2 => K now V' h1 (fc_rep_u h2)) (fd_m g) 1 (fd_m g + 1) a_now V (by omega) (by omega) (by omega) hV (fun i hi => ?_) (fun _ _ => rfl)⟩
  have e : i = 0 := by omega
  subst e
  exact fc_rf
/-! one alternative -/
theorem fx_con124 {post : SX → Prop} {r i : Nat} {V : Nat → Nat} {nu0 : Nat → Int32} (G : fd_G g a_what a_sign a_length a_ruleOf a_text) (hr : r < 6) (hi : i ≤ fd_m g) (hV : fx_V a_now V)
    (K : ∀ nu, fx_NR nu → (∀ k, k < 3750 → (∀ j, i ≤ j → j ≤ fd_m g → k ≠ 625 * r + 25 * i + j) → nu k = nu0 k) → (∀ j, i ≤ j → j ≤ fd_m g → fc_cg 1000000 (fq_v nu (625 * r + 25 * i + j)) (fq_v nu0 (625 * r + 25 * i + j) + V j)) → post (nI (fd_n g), nI (fd_m g), f_studied, f_empties, f_bad, f_kept, f_busyCount, f_fartherCount, f_best, f_counted, f_depth, f_place, f_nodes, f_errors, f_much, a_what, a_sign, a_length, a_ruleOf, a_text, a_begins, a_firsts, a_been, a_ends, a_far, a_begun, a_todo, a_busy, a_farther, nu, a_now, a_then, a_order, a_openAlternative, a_openItem, a_openCame, a_openNode, a_nodeRule, a_nodeAlternative, a_nodeFrom, a_nodeTo, a_nodeParent, a_nodeParts, a_errorKind, a_errorPlace, a_errorItem)) :
    ∀ d j n nu, j + d = fd_m g + 1 → i ≤ j → d < n → fx_NR nu → (∀ k, k < 3750 → (∀ l, i ≤ l → l < j → k ≠ 625 * r + 25 * i + l) → nu k = nu0 k) → (∀ l, i ≤ l → l < j → fc_cg 1000000 (fq_v nu (625 * r + 25 * i + l)) (fq_v nu0 (625 * r + 25 * i + l) + V l)) →
      wX_countOne_124 post (nI (625 * r + 25 * i)) (nI (fd_n g)) (nI (fd_m g)) f_studied f_empties f_bad f_kept f_busyCount f_fartherCount f_best f_counted f_depth f_place f_nodes f_errors f_much n (nI j) a_what a_sign a_length a_ruleOf a_text a_begins a_firsts a_been a_ends a_far a_begun a_todo a_busy a_farther nu a_now a_then a_order a_openAlternative a_openItem a_openCame a_openNode a_nodeRule a_nodeAlternative a_nodeFrom a_nodeTo a_nodeParent a_nodeParts a_errorKind a_errorPlace a_errorItem := by
  have m24 := fd_m24 G
  intro d
  induction d with
  | zero =>
    intro j n nu hj hij hn h1 h2 h3
    obtain ⟨n, rfl⟩ : ∃ k, n = k + 1 := ⟨n - 1, by omega⟩
    exact pk_lt (fd_m g) j (fun _ => K nu h1 (fun k hk z => h2 k hk (fun l l1 l2 => z l l1 (by omega))) (fun l l1 l2 => h3 l l1 (by omega))) (fun h => absurd h (by omega))
  | succ d ih =>
    intro j n nu hj hij hn h1 h2 h3
    obtain ⟨n, rfl⟩ : ∃ k, n = k + 1 := ⟨n - 1, by omega⟩
    have kb : 625 * r + 25 * i + j < 3750 := by omega
    have vk : vp_in (nI (625 * r + 25 * i + j)) 3750 := vp_in_nI kb (by omega)
    obtain ⟨e1, e2⟩ := h1 _ kb
    obtain ⟨v1, v2⟩ := hV j (by omega)
    refine pk_lt (fd_m g) j (fun h => absurd h (by omega)) (fun _ => ?_)
    rw [nI_add]
    refine ⟨vk, vp_in_nI (by omega) (by omega), ?_⟩
    rw [show (nI (625 * r + 25 * i + j)).toNatClampNeg = 625 * r + 25 * i + j from nI_clamp (by omega), show (nI j).toNatClampNeg = j from nI_clamp (by omega)]
    refine fx_most (b := 1) e2 v2 (by omega) e1 (by rw [v1, nI_l (by omega)]) rfl ⟨vk, nm_e (nm_r (nI_1 _) (ih (j + 1) n _ (by omega) (by omega) (by omega) (fun k hk => ?_) (fun k hk z => ?_) (fun l l1 l2 => ?_)))⟩
    · by_cases e : k = 625 * r + 25 * i + j
      · rw [e, pk_us]
        have le := fc_sat_le 1000000 (fq_v nu (625 * r + 25 * i + j) + V j * 1)
        have : fq_v (upd nu (625 * r + 25 * i + j) (nI (fc_sat 1000000 (fq_v nu (625 * r + 25 * i + j) + V j * 1)))) (625 * r + 25 * i + j) = fc_sat 1000000 (fq_v nu (625 * r + 25 * i + j) + V j * 1) := fq_v_s (by omega)
        rw [this]; exact ⟨rfl, le⟩
      · rw [pk_un e, fq_v_n e]; exact h1 k hk
    · rw [pk_un (z j hij (by omega))]
      exact h2 k hk (fun l l1 l2 => z l l1 (by omega))
    · by_cases e : l = j
      · subst e
        have le := fc_sat_le 1000000 (fq_v nu (625 * r + 25 * i + l) + V l * 1)
        rw [fq_v_s (by omega)]
        refine fc_tr (fc_sat_cg _ _) ?_
        rw [Nat.mul_one]
        have : fq_v nu (625 * r + 25 * i + l) = fq_v nu0 (625 * r + 25 * i + l) := by unfold fq_v; rw [h2 _ kb (fun l' l1 l2 => by omega)]
        rw [this]; exact fc_rf
      · rw [fq_v_n (by omega)]; exact h3 l l1 (by omega)
theorem fx_con34 {post : SX → Prop} {a i : Nat} (G : fd_G g a_what a_sign a_length a_ruleOf a_text) (NR : fx_NR a_number) (ha : a < fd_n g) (hi : i ≤ fd_m g)
    (K : ∀ now th V, fx_V now V → (∀ q, q ≤ fd_m g → fc_cg 1000000 (V q) (fc_al g (fx_U a_number) a i (fd_L g a) q)) → ∃ n, wX_countOne_124 post (nI (625 * fd_R g a + 25 * i)) (nI (fd_n g)) (nI (fd_m g)) f_studied f_empties f_bad f_kept f_busyCount f_fartherCount f_best f_counted f_depth f_place f_nodes f_errors f_much n (nI i) a_what a_sign a_length a_ruleOf a_text a_begins a_firsts a_been a_ends a_far a_begun a_todo a_busy a_farther a_number now th a_order a_openAlternative a_openItem a_openCame a_openNode a_nodeRule a_nodeAlternative a_nodeFrom a_nodeTo a_nodeParent a_nodeParts a_errorKind a_errorPlace a_errorItem) :
    ∀ d k n now th V, k + d = fd_L g a → d < n → fx_V now V → (∀ q, q ≤ fd_m g → fc_cg 1000000 (V q) (fc_al g (fx_U a_number) a i k q)) →
      wX_countOne_34 post (nI a) (nI i) n (nI (5 * a + k)) (nI (fd_n g)) (nI (fd_m g)) f_studied f_empties f_bad f_kept f_busyCount f_fartherCount f_best f_counted f_depth f_place f_nodes f_errors f_much a_what a_sign a_length a_ruleOf a_text a_begins a_firsts a_been a_ends a_far a_begun a_todo a_busy a_farther a_number now th a_order a_openAlternative a_openItem a_openCame a_openNode a_nodeRule a_nodeAlternative a_nodeFrom a_nodeTo a_nodeParent a_nodeParts a_errorKind a_errorPlace a_errorItem := by
  have n12 := fd_n12 G
  have l5 := fd_L5 G ha
  have e5 : (5 : Int32) * nI a + a_length (nI a).toNatClampNeg = nI (5 * a + fd_L g a) := by rw [fx_le G ha, fx_5]
  intro d
  induction d with
  | zero =>
    intro k n now th V hk hn hV h
    obtain ⟨n, rfl⟩ : ∃ k, n = k + 1 := ⟨n - 1, by omega⟩
    have e : k = fd_L g a := by omega
    subst e
    refine ⟨vp_in_nI (by omega) (by omega), pk_le (5 * a + fd_L g a) (5 * a + fd_L g a) (fun _ => ⟨vp_in_nI (by omega) (by omega), nm_r (e' := nI (625 * fd_R g a + 25 * i)) ?_ (K now th V hV h)⟩) (fun h => absurd h (by omega)) (hx := e5)⟩
    rw [fx_ru G ha, show (625 : Int32) = nI 625 from rfl, show (25 : Int32) = nI 25 from rfl, pk_mul, pk_mul, nI_add]
  | succ d ih =>
    intro k n now th V hk hn hV h
    obtain ⟨n, rfl⟩ : ∃ k, n = k + 1 := ⟨n - 1, by omega⟩
    have hkl : k < fd_L g a := by omega
    have w14 := fd_W14 G ha hkl
    have s4 := fd_S4 G ha hkl
    have vi := fx_in G ha hkl
    have next : ∀ now' th' V', fx_V now' V' → (∀ q, q ≤ fd_m g → fc_cg 1000000 (V' q) (fc_it g (fx_U a_number) a k V q)) → wX_countOne_34 post (nI a) (nI i) n (nI (5 * a + k + 1)) (nI (fd_n g)) (nI (fd_m g)) f_studied f_empties f_bad f_kept f_busyCount f_fartherCount f_best f_counted f_depth f_place f_nodes f_errors f_much a_what a_sign a_length a_ruleOf a_text a_begins a_firsts a_been a_ends a_far a_begun a_todo a_busy a_farther a_number now' th' a_order a_openAlternative a_openItem a_openCame a_openNode a_nodeRule a_nodeAlternative a_nodeFrom a_nodeTo a_nodeParent a_nodeParts a_errorKind a_errorPlace a_errorItem := by
      intro now' th' V' hV' h'
      exact ih (k + 1) n now' th' V' (by omega) (by omega) hV' (fun q hq => fc_tr (h' q hq) (fc_it_cg (by omega) h q hq))
    refine ⟨vp_in_nI (by omega) (by omega), pk_le (5 * a + fd_L g a) (5 * a + k) (fun h => absurd h (by omega)) (fun _ => ⟨vi, nm_r (fx_sg G ha hkl) ?_⟩) (hx := e5)⟩
    refine pk_eq (fd_S g a k) 2 (fun s2 => ?_) (fun s2 => ⟨vi, ?_⟩)
    · refine pk_le (fd_S g a k) 1 (fun z => by omega) (fun _ => ⟨vi, ?_⟩)
      rw [fx_wh G ha hkl]
      exact fx_repeat G NR w14 hV (fun now' V' h1 h2 => nm_r (nI_1 _) (next now' _ V' h1 (fun q hq => by rw [fc_it2 s2]; exact h2 q hq)))
    · rw [fx_wh G ha hkl]
      refine pk_eq (fd_S g a k) 1 (fun s1 => ?_) (fun s1 => ?_)
      · refine fx_once (stay := true) G NR w14 hV (fun now' th' V' h1 h2 => ?_)
        refine pk_le (fd_S g a k) 1 (fun _ => nm_r (nI_1 _) (next now' th' V' h1 (fun q hq => by rw [fc_it1 s1]; exact h2 q hq))) (fun z => by omega)
      · refine fx_once (stay := false) G NR w14 hV (fun now' th' V' h1 h2 => ?_)
        have h2' : ∀ q, q ≤ fd_m g → fc_cg 1000000 (V' q) (fc_on (fc_b g (fx_U a_number) (fd_W g a k)) V q) := fun q hq => by
          have := h2 q hq
          rw [if_neg (by decide), Nat.zero_add] at this; exact this
        refine pk_le (fd_S g a k) 1 (fun z => nm_r (nI_1 _) (next now' th' V' h1 (fun q hq => by rw [fc_it0 (by omega)]; exact h2' q hq))) (fun z => ⟨vi, ?_⟩)
        rw [fx_wh G ha hkl]
        refine fx_repeat (a_now := now') (a_then := th') G NR w14 h1 (fun now2 V2 h3 h4 => nm_r (nI_1 _) (next now2 th' V2 h3 (fun q hq => ?_)))
        rw [fc_it3 (by omega)]
        exact fc_tr (h4 q hq) (fc_rep_cg (by omega) h2' (fun _ _ _ _ _ => fc_rf) q hq)
theorem fx_con2 {post : SX → Prop} {a i : Nat} (G : fd_G g a_what a_sign a_length a_ruleOf a_text) (NR : fx_NR a_number) (ha : a < fd_n g) (hi : i ≤ fd_m g)
    (K : ∀ now th nu, fx_NR nu → (∀ k, k < 3750 → (∀ j, i ≤ j → j ≤ fd_m g → k ≠ 625 * fd_R g a + 25 * i + j) → nu k = a_number k) → (∀ j, i ≤ j → j ≤ fd_m g → fc_cg 1000000 (fq_v nu (625 * fd_R g a + 25 * i + j)) (fq_v a_number (625 * fd_R g a + 25 * i + j) + fc_al g (fx_U a_number) a i (fd_L g a) j)) → post (nI (fd_n g), nI (fd_m g), f_studied, f_empties, f_bad, f_kept, f_busyCount, f_fartherCount, f_best, f_counted, f_depth, f_place, f_nodes, f_errors, f_much, a_what, a_sign, a_length, a_ruleOf, a_text, a_begins, a_firsts, a_been, a_ends, a_far, a_begun, a_todo, a_busy, a_farther, nu, now, th, a_order, a_openAlternative, a_openItem, a_openCame, a_openNode, a_nodeRule, a_nodeAlternative, a_nodeFrom, a_nodeTo, a_nodeParent, a_nodeParts, a_errorKind, a_errorPlace, a_errorItem)) :
    ∀ d q n now (V : Nat → Nat), q + d = 25 → d < n → (∀ j, j < q → now j = nI (if j = i then 1 else 0)) → wX_countOne_2 post (nI a) (nI i) (nI (fd_n g)) (nI (fd_m g)) f_studied f_empties f_bad f_kept f_busyCount f_fartherCount f_best f_counted f_depth f_place f_nodes f_errors f_much n (nI q) a_what a_sign a_length a_ruleOf a_text a_begins a_firsts a_been a_ends a_far a_begun a_todo a_busy a_farther a_number now a_then a_order a_openAlternative a_openItem a_openCame a_openNode a_nodeRule a_nodeAlternative a_nodeFrom a_nodeTo a_nodeParent a_nodeParts a_errorKind a_errorPlace a_errorItem := by
  have m24 := fd_m24 G
  have r6 := fd_R6 G ha
  have n12 := fd_n12 G
  intro d
  induction d with
  | zero =>
    intro q n now V hq hn h
    obtain ⟨n, rfl⟩ : ∃ k, n = k + 1 := ⟨n - 1, by omega⟩
    refine pk_le 25 q (fun _ => nm_r (fx_5' a) ⟨fd_L g a + 1, ?_⟩) (fun h => absurd h (by omega))
    have l5 := fd_L5 G ha
    refine fx_con34 G NR ha hi (fun now' th' V' h1 h2 => ⟨fd_m g + 2, ?_⟩) (fd_L g a) 0 (fd_L g a + 1) now a_then (fun j => if j = i then 1 else 0) (by omega) (by omega) (fun j hj => ⟨h j (by omega), by show (if j = i then 1 else 0) ≤ 1000000; split <;> omega⟩) (fun q _ => fc_rf)
    refine fx_con124 (nu0 := a_number) G r6 hi h1 (fun nu k1 k2 k3 => K now' th' nu k1 k2 (fun j j1 j2 => fc_tr (k3 j j1 j2) (fc_ad fc_rf (h2 j j2)))) (fd_m g + 1 - i) i (fd_m g + 2) a_number (by omega) (Nat.le_refl _) (by omega) NR (fun _ _ _ => rfl) (fun l l1 l2 => by omega)
  | succ d ih =>
    intro q n now V hq hn h
    obtain ⟨n, rfl⟩ : ∃ k, n = k + 1 := ⟨n - 1, by omega⟩
    have vq : vp_in (nI q) 25 := vp_in_nI (by omega) (by omega)
    have cq : (nI q).toNatClampNeg = q := nI_clamp (by omega)
    refine pk_le 25 q (fun h => absurd h (by omega)) (fun _ => pk_eq q i (fun e => ⟨vq, nm_r (e' := upd now q 1) (by rw [cq]) (nm_r (nI_1 _) (ih (q + 1) n _ V (by omega) (by omega) (fun j hj => ?_)))⟩) (fun e => ⟨vq, nm_r (e' := upd now q 0) (by rw [cq]) (nm_r (nI_1 _) (ih (q + 1) n _ V (by omega) (by omega) (fun j hj => ?_)))⟩))
    · by_cases c : j = q
      · rw [c, pk_us, if_pos e]; rfl
      · rw [pk_un c]; exact h j (by omega)
    · by_cases c : j = q
      · rw [c, pk_us, if_neg e]; rfl
      · rw [pk_un c]; exact h j (by omega)
theorem fx_countOne {post : SX → Prop} {a i : Nat} (G : fd_G g a_what a_sign a_length a_ruleOf a_text) (NR : fx_NR a_number) (ha : a < fd_n g) (hi : i ≤ fd_m g)
    (K : ∀ now th nu, fx_NR nu → (∀ k, k < 3750 → (∀ j, i ≤ j → j ≤ fd_m g → k ≠ 625 * fd_R g a + 25 * i + j) → nu k = a_number k) → (∀ j, i ≤ j → j ≤ fd_m g → fc_cg 1000000 (fq_v nu (625 * fd_R g a + 25 * i + j)) (fq_v a_number (625 * fd_R g a + 25 * i + j) + fc_al g (fx_U a_number) a i (fd_L g a) j)) → post (nI (fd_n g), nI (fd_m g), f_studied, f_empties, f_bad, f_kept, f_busyCount, f_fartherCount, f_best, f_counted, f_depth, f_place, f_nodes, f_errors, f_much, a_what, a_sign, a_length, a_ruleOf, a_text, a_begins, a_firsts, a_been, a_ends, a_far, a_begun, a_todo, a_busy, a_farther, nu, now, th, a_order, a_openAlternative, a_openItem, a_openCame, a_openNode, a_nodeRule, a_nodeAlternative, a_nodeFrom, a_nodeTo, a_nodeParent, a_nodeParts, a_errorKind, a_errorPlace, a_errorItem)) :
    wpX_countOne post (nI (fd_n g), nI (fd_m g), f_studied, f_empties, f_bad, f_kept, f_busyCount, f_fartherCount, f_best, f_counted, f_depth, f_place, f_nodes, f_errors, f_much, a_what, a_sign, a_length, a_ruleOf, a_text, a_begins, a_firsts, a_been, a_ends, a_far, a_begun, a_todo, a_busy, a_farther, a_number, a_now, a_then, a_order, a_openAlternative, a_openItem, a_openCame, a_openNode, a_nodeRule, a_nodeAlternative, a_nodeFrom, a_nodeTo, a_nodeParent, a_nodeParts, a_errorKind, a_errorPlace, a_errorItem) (nI a) (nI i) :=
  ⟨26, fx_con2 G NR ha hi K 25 0 26 a_now (fun _ => 0) (by omega) (by omega) (fun j hj => by omega)⟩
end
end
section
/-- rules in an order: each behind those with which it begins -/
def fx_OR (g : fd_Gr) (R : Nat → Nat) (k : Nat) (o : Nat → Int32) : Prop :=
  (∀ j, j < k → o j = nI (R j) ∧ R j < 6) ∧ (∀ i j, i < j → j < k → R i ≠ R j) ∧ (∀ j, j < k → ∀ x, fn_B g (R j) x → ∃ i, i < j ∧ R i = x)
/-- rows that are reckoned -/
def fx_CI (g : fd_Gr) (nu : Nat → Int32) (P : Nat → Nat → Prop) : Prop := ∀ r p, r < 6 → P r p →
  (∀ q, p ≤ q → q ≤ fd_m g → fc_cg 1000000 (fx_U nu r p q) (fc_to g (fx_U nu) r p q)) ∧ (fx_U nu r p p ≠ 0 → fn_N g r)
def fx_same (nu nu' : Nat → Int32) (r i : Nat) : Prop := ∀ k, k < 3750 → (∀ j, j < 25 → k ≠ 625 * r + 25 * i + j) → nu' k = nu k
theorem fx_U_n {nu nu' : Nat → Int32} {r i : Nat} (hi : i < 25) (h : fx_same nu nu' r i) {w p q : Nat} (hp : p < 25) (hq : q < 25) (hn : ¬ (w = r ∧ p = i)) : fx_U nu' w p q = fx_U nu w p q := by
  unfold fx_U
  split
  · unfold fq_v
    rw [h _ (by omega) (fun j hj e => hn ⟨by omega, by omega⟩)]
  · rfl
section
variable {g : fd_Gr} {wh sg le ru tx : Nat → Int32}
theorem fx_CI_keep (G : fd_G g wh sg le ru tx) {nu nu' : Nat → Int32} {P : Nat → Nat → Prop} {r0 i0 : Nat} (hi : i0 < 25) (h : fx_same nu nu' r0 i0) (hP : ∀ r p, r < 6 → P r p → p ≤ fd_m g ∧ i0 ≤ p ∧ ¬ (r = r0 ∧ p = i0) ∧ ∀ x, fn_D g r x → P x p) (c : fx_CI g nu P) : fx_CI g nu' P := by
  have m24 := fd_m24 G
  intro r p hr hp
  obtain ⟨c1, c2⟩ := c r p hr hp
  obtain ⟨p1, p2, p3, p4⟩ := hP r p hr hp
  refine ⟨fun q h1 h2 => ?_, fun z => c2 (by rw [← fx_U_n hi h (by omega) (by omega) p3]; exact z)⟩
  rw [fx_U_n hi h (by omega) (by omega) p3]
  refine fc_tr (c1 q h1 h2) (fc_to_cg (by omega) (fun w d z => (c w p (fn_D6 G d).2 (p4 w d)).2 z) (fun a k ha hR hk h7 p' q' g1 g2 g3 g4 => ?_) h2)
  have w14 := fd_W14 G ha hk
  rw [fx_U_n hi h (by omega) (by omega) (fun z => ?_)]
  · exact fc_rf
  · have e : p' = p := by omega
    have := hP _ p (by omega) (p4 _ (g4 e))
    exact this.2.2.1 ⟨z.1, by omega⟩
theorem fx_ORx (G : fd_G g wh sg le ru tx) (hb : ¬ fn_bad g) {R : Nat → Nat} {k : Nat} {o : Nat → Int32} (hk : k < 6) (h : fx_OR g R k o) : ∃ r, r < 6 ∧ (∀ j, j < k → R j ≠ r) ∧ ∀ x, fn_B g r x → ∃ j, j < k ∧ R j = x := by
  have ex : ∃ v, ∃ r, r < 6 ∧ (∀ j, j < k → R j ≠ r) ∧ fc_rk g r = v := by
    apply Classical.byContradiction
    intro hn
    have all : ∀ r, r < 6 → ∃ j, j < k ∧ R j = r := by
      intro r hr
      apply Classical.byContradiction
      intro hz
      exact hn ⟨_, r, hr, fun j hj e => hz ⟨j, hj, e⟩, rfl⟩
    have := fq_pig k 6 (fun r => @dite Nat (r < 6) (Nat.decLt r 6) (fun hr => Classical.choose (all r hr)) (fun _ => 0)) (fun r hr => by
      show @dite Nat (r < 6) (Nat.decLt r 6) (fun hr => Classical.choose (all r hr)) (fun _ => 0) < k
      rw [dif_pos hr]; exact (Classical.choose_spec (all r hr)).1) (fun i j hij hj e => by
      have e' : @dite Nat (i < 6) (Nat.decLt i 6) (fun hr => Classical.choose (all i hr)) (fun _ => 0) = @dite Nat (j < 6) (Nat.decLt j 6) (fun hr => Classical.choose (all j hr)) (fun _ => 0) := e
      rw [dif_pos (show i < 6 from by omega), dif_pos hj] at e'
      have s1 := (Classical.choose_spec (all i (by omega))).2
      have s2 := (Classical.choose_spec (all j hj)).2
      rw [e'] at s1
      omega)
    omega
  obtain ⟨v, ⟨r, hr, hn, hv⟩, hm⟩ := pk_least _ ex
  refine ⟨r, hr, hn, fun x hx => ?_⟩
  apply Classical.byContradiction
  intro hz
  have lt := fc_rk_B G hb hx
  exact hm _ (by rw [← hv]; exact lt) ⟨x, (fn_B6 G hx).2, fun j hj e => hz ⟨j, hj, e⟩, rfl⟩
end
section
variable {g : fd_Gr}
variable {f_studied f_empties f_bad f_kept f_busyCount f_fartherCount f_best f_counted f_depth f_place f_nodes f_errors f_much : Int32} {a_what a_sign a_length a_ruleOf a_text a_begins a_firsts a_been a_ends a_far a_begun a_todo a_busy a_farther a_number a_now a_then a_order a_openAlternative a_openItem a_openCame a_openNode a_nodeRule a_nodeAlternative a_nodeFrom a_nodeTo a_nodeParent a_nodeParts a_errorKind a_errorPlace a_errorItem : Nat → Int32}
theorem fx_arr12 {post : SX → Prop} {J4 : Int32 → Int32 → (Nat → Int32) → (Nat → Int32) → (Nat → Int32) → (Nat → Int32) → (Nat → Int32) → (Nat → Int32) → (Nat → Int32) → (Nat → Int32) → (Nat → Int32) → (Nat → Int32) → (Nat → Int32) → (Nat → Int32) → (Nat → Int32) → (Nat → Int32) → (Nat → Int32) → (Nat → Int32) → (Nat → Int32) → (Nat → Int32) → (Nat → Int32) → (Nat → Int32) → (Nat → Int32) → (Nat → Int32) → (Nat → Int32) → (Nat → Int32) → (Nat → Int32) → (Nat → Int32) → (Nat → Int32) → (Nat → Int32) → (Nat → Int32) → (Nat → Int32) → (Nat → Int32) → Prop} {k r0 : Nat} {x1 : Int32} (hk : k < 6) (hr0 : r0 < 6) (hB : ∀ r, r < 6 → fb_rep (a_begins r) (fn_B g r)) (h0 : bt x1 r0 = false) (h1 : ∀ x, fn_B g r0 x → bt x1 x = true)
    (K : ∀ r, r < 6 → bt x1 r = false → (∀ x, fn_B g r x → x < 32 → bt x1 x = true) → J4 (x1 ||| ((1 : Int32) <<< (nI r &&& 31))) (nI (k + 1)) a_what a_sign a_length a_ruleOf a_text a_begins a_firsts a_been a_ends a_far a_begun a_todo a_busy a_farther a_number a_now a_then (upd a_order k (nI r)) a_openAlternative a_openItem a_openCame a_openNode a_nodeRule a_nodeAlternative a_nodeFrom a_nodeTo a_nodeParent a_nodeParts a_errorKind a_errorPlace a_errorItem) :
    ∀ d r n, r + d = r0 → d < n → wX_arrange_12 post J4 x1 (nI k) (nI (fd_n g)) (nI (fd_m g)) f_studied f_empties f_bad f_kept f_busyCount f_fartherCount f_best f_counted f_depth f_place f_nodes f_errors f_much a_what a_sign a_length a_ruleOf a_text a_begins a_firsts a_been a_ends a_far a_begun a_todo a_busy a_farther a_number a_now a_then a_order a_openAlternative a_openItem a_openCame a_openNode a_nodeRule a_nodeAlternative a_nodeFrom a_nodeTo a_nodeParent a_nodeParts a_errorKind a_errorPlace a_errorItem n (nI r) := by
  have zz : ∀ r, r < 6 → ((a_begins r &&& (x1 ^^^ (-1))) = 0 ↔ ∀ x, fn_B g r x → x < 32 → bt x1 x = true) := by
    intro r hr
    rw [fb_z]
    constructor
    · intro h x hx h32
      have := h x h32
      rw [b_and, fb_not x1 h32, (hB r hr x h32).mpr hx, Bool.true_and] at this
      cases hb : bt x1 x
      · rw [hb] at this; exact absurd this (by decide)
      · rfl
    · intro h i hi
      rw [b_and, fb_not x1 hi]
      cases hb : bt (a_begins r) i
      · rfl
      · rw [h i ((hB r hr i hi).mp hb) hi]; rfl
  have stop : ∀ r n, r < 6 → bt x1 r = false → (∀ x, fn_B g r x → x < 32 → bt x1 x = true) → wX_arrange_12 post J4 x1 (nI k) (nI (fd_n g)) (nI (fd_m g)) f_studied f_empties f_bad f_kept f_busyCount f_fartherCount f_best f_counted f_depth f_place f_nodes f_errors f_much a_what a_sign a_length a_ruleOf a_text a_begins a_firsts a_been a_ends a_far a_begun a_todo a_busy a_farther a_number a_now a_then a_order a_openAlternative a_openItem a_openCame a_openNode a_nodeRule a_nodeAlternative a_nodeFrom a_nodeTo a_nodeParent a_nodeParts a_errorKind a_errorPlace a_errorItem (n + 1) (nI r) := by
    intro r n hr hb hx
    refine fb_br (by omega) (fun _ => ⟨vp_in_nI hr (by omega), ?_⟩) (fun z => by rw [hb] at z; exact absurd z (by decide))
    rw [show (nI r).toNatClampNeg = r from nI_clamp (by omega)]
    refine br_t ((zz r hr).mpr hx) ⟨vp_in_nI hk (by omega), nm_r (e' := upd a_order k (nI r)) (by rw [nI_clamp (by omega), fb_vb2 (by omega)]) (nm_e (nm_r (nI_1 _) (K r hr hb hx)))⟩
  intro d
  induction d with
  | zero =>
    intro r n hd hn
    obtain ⟨n, rfl⟩ : ∃ k, n = k + 1 := ⟨n - 1, by omega⟩
    have e : r = r0 := by omega
    subst e
    exact stop r n hr0 h0 (fun x hx _ => h1 x hx)
  | succ d ih =>
    intro r n hd hn
    obtain ⟨n, rfl⟩ : ∃ k, n = k + 1 := ⟨n - 1, by omega⟩
    have next : wX_arrange_12 post J4 x1 (nI k) (nI (fd_n g)) (nI (fd_m g)) f_studied f_empties f_bad f_kept f_busyCount f_fartherCount f_best f_counted f_depth f_place f_nodes f_errors f_much a_what a_sign a_length a_ruleOf a_text a_begins a_firsts a_been a_ends a_far a_begun a_todo a_busy a_farther a_number a_now a_then a_order a_openAlternative a_openItem a_openCame a_openNode a_nodeRule a_nodeAlternative a_nodeFrom a_nodeTo a_nodeParent a_nodeParts a_errorKind a_errorPlace a_errorItem n (nI (r + 1)) := ih (r + 1) n (by omega) (by omega)
    cases hb : bt x1 r
    · rcases Classical.em (∀ x, fn_B g r x → x < 32 → bt x1 x = true) with hx | hx
      · exact stop r n (by omega) hb hx
      · refine fb_br (by omega) (fun _ => ⟨vp_in_nI (by omega) (by omega), ?_⟩) (fun z => by rw [hb] at z; exact absurd z (by decide))
        rw [show (nI r).toNatClampNeg = r from nI_clamp (by omega)]
        exact br_f (fun z => hx ((zz r (by omega)).mp z)) (nm_r (nI_1 _) next)
    · exact fb_br (by omega) (fun z => by rw [hb] at z; exact absurd z (by decide)) (fun _ => nm_r (nI_1 _) next)
theorem fx_arr4 {post : SX → Prop} (G : fd_G g a_what a_sign a_length a_ruleOf a_text) (hb : ¬ fn_bad g) (hB : ∀ r, r < 6 → fb_rep (a_begins r) (fn_B g r))
    (K : ∀ o R, fx_OR g R 6 o → post (nI (fd_n g), nI (fd_m g), f_studied, f_empties, f_bad, f_kept, f_busyCount, f_fartherCount, f_best, f_counted, f_depth, f_place, f_nodes, f_errors, f_much, a_what, a_sign, a_length, a_ruleOf, a_text, a_begins, a_firsts, a_been, a_ends, a_far, a_begun, a_todo, a_busy, a_farther, a_number, a_now, a_then, o, a_openAlternative, a_openItem, a_openCame, a_openNode, a_nodeRule, a_nodeAlternative, a_nodeFrom, a_nodeTo, a_nodeParent, a_nodeParts, a_errorKind, a_errorPlace, a_errorItem)) :
    ∀ d k n x1 o R, k + d = 6 → d < n → fx_OR g R k o → (∀ r, r < 6 → (bt x1 r = true ↔ ∃ j, j < k ∧ R j = r)) → wX_arrange_4 post (nI (fd_n g)) (nI (fd_m g)) f_studied f_empties f_bad f_kept f_busyCount f_fartherCount f_best f_counted f_depth f_place f_nodes f_errors f_much n x1 (nI k) a_what a_sign a_length a_ruleOf a_text a_begins a_firsts a_been a_ends a_far a_begun a_todo a_busy a_farther a_number a_now a_then o a_openAlternative a_openItem a_openCame a_openNode a_nodeRule a_nodeAlternative a_nodeFrom a_nodeTo a_nodeParent a_nodeParts a_errorKind a_errorPlace a_errorItem := by
  intro d
  induction d with
  | zero =>
    intro k n x1 o R hk hn h1 h2
    obtain ⟨n, rfl⟩ : ∃ k, n = k + 1 := ⟨n - 1, by omega⟩
    have e : k = 6 := by omega
    subst e
    exact pk_le 6 6 (fun _ => K o R h1) (fun h => absurd h (by omega))
  | succ d ih =>
    intro k n x1 o R hk hn h1 h2
    obtain ⟨n, rfl⟩ : ∃ k, n = k + 1 := ⟨n - 1, by omega⟩
    obtain ⟨r0, hr0, e0, e1⟩ := fx_ORx G hb (by omega) h1
    refine pk_le 6 k (fun h => absurd h (by omega)) (fun _ => ⟨r0 + 1, ?_⟩)
    have b0 : bt x1 r0 = false := by
      cases hc : bt x1 r0
      · rfl
      · obtain ⟨j, j1, j2⟩ := (h2 r0 hr0).mp hc
        exact absurd j2 (e0 j j1)
    refine fx_arr12 (a_order := o) (by omega) hr0 hB b0 (fun x hx => (h2 x (fn_B6 G hx).2).mpr (e1 x hx)) (fun r hr hbit hall => ?_) r0 0 (r0 + 1) (by omega) (by omega)
    have nr : ∀ j, j < k → R j ≠ r := fun j hj e => by
      rw [(h2 r hr).mpr ⟨j, hj, e⟩] at hbit; exact absurd hbit (by decide)
    obtain ⟨o1, o2, o3⟩ := h1
    refine ih (k + 1) n _ _ (fun j => if j = k then r else R j) (by omega) (by omega) ⟨fun j hj => ?_, fun i j hij hj => ?_, fun j hj x hx => ?_⟩ (fun q hq => ?_)
    · by_cases e : j = k
      · subst e; rw [pk_us]; simp only [if_true]; exact ⟨trivial, hr⟩
      · rw [pk_un e]; simp only [e, if_false]; exact o1 j (by omega)
    · show (if i = k then r else R i) ≠ (if j = k then r else R j)
      rw [if_neg (by omega)]
      by_cases e : j = k
      · rw [if_pos e]; exact nr i (by omega)
      · rw [if_neg e]; exact o2 i j hij (by omega)
    · have hx' : fn_B g (if j = k then r else R j) x := hx
      by_cases e : j = k
      · rw [if_pos e] at hx'
        obtain ⟨i, i1, i2⟩ := (h2 x (fn_B6 G hx').2).mp (hall x hx' (by have := (fn_B6 G hx').2; omega))
        exact ⟨i, by omega, by show (if i = k then r else R i) = x; rw [if_neg (by omega)]; exact i2⟩
      · rw [if_neg e] at hx'
        obtain ⟨i, i1, i2⟩ := o3 j (by omega) x hx'
        exact ⟨i, i1, by show (if i = k then r else R i) = x; rw [if_neg (by omega)]; exact i2⟩
    · rw [fb_or1 (by omega), h2 q hq]
      constructor
      · rintro (⟨j, j1, j2⟩ | z)
        · exact ⟨j, by omega, by show (if j = k then r else R j) = q; rw [if_neg (by omega)]; exact j2⟩
        · exact ⟨k, by omega, by show (if k = k then r else R k) = q; rw [if_pos rfl]; exact z.symm⟩
      · rintro ⟨j, j1, j2⟩
        have j2' : (if j = k then r else R j) = q := j2
        by_cases e : j = k
        · rw [if_pos e] at j2'; exact Or.inr j2'.symm
        · rw [if_neg e] at j2'; exact Or.inl ⟨j, by omega, j2'⟩
/-! all alternatives of a rule at a place -/
theorem fx_cou79 {post : SX → Prop} {J22 J28 : Int32 → Int32 → Int32 → Int32 → Int32 → Int32 → Int32 → Int32 → Int32 → Int32 → Int32 → Int32 → Int32 → Int32 → Int32 → Int32 → (Nat → Int32) → (Nat → Int32) → (Nat → Int32) → (Nat → Int32) → (Nat → Int32) → (Nat → Int32) → (Nat → Int32) → (Nat → Int32) → (Nat → Int32) → (Nat → Int32) → (Nat → Int32) → (Nat → Int32) → (Nat → Int32) → (Nat → Int32) → (Nat → Int32) → (Nat → Int32) → (Nat → Int32) → (Nat → Int32) → (Nat → Int32) → (Nat → Int32) → (Nat → Int32) → (Nat → Int32) → (Nat → Int32) → (Nat → Int32) → (Nat → Int32) → (Nat → Int32) → (Nat → Int32) → (Nat → Int32) → (Nat → Int32) → (Nat → Int32) → (Nat → Int32) → Prop} {i k r : Nat} {x2 : Int32} {P : Nat → Nat → Prop} (G : fd_G g a_what a_sign a_length a_ruleOf a_text) (hb : ¬ fn_bad g) (hi : i ≤ fd_m g) (hr : r < 6)
    (hP : ∀ r' p, r' < 6 → P r' p → p ≤ fd_m g ∧ i ≤ p ∧ ¬ (r' = r ∧ p = i) ∧ ∀ x, fn_D g r' x → P x p) (hE : ∀ x, fn_D g r x → P x i)
    (K : ∀ now th nu, fx_NR nu → fx_CI g nu P → fx_CI g nu (fun r' p => r' = r ∧ p = i) → J28 (x2 + 1) (nI (fd_n g)) (nI (fd_m g)) f_studied f_empties f_bad f_kept f_busyCount f_fartherCount f_best f_counted f_depth f_place f_nodes f_errors f_much a_what a_sign a_length a_ruleOf a_text a_begins a_firsts a_been a_ends a_far a_begun a_todo a_busy a_farther nu now th a_order a_openAlternative a_openItem a_openCame a_openNode a_nodeRule a_nodeAlternative a_nodeFrom a_nodeTo a_nodeParent a_nodeParts a_errorKind a_errorPlace a_errorItem) :
    ∀ d a n now th nu, a + d = fd_n g → d < n → fx_NR nu → fx_CI g nu P → (∀ q, i ≤ q → q ≤ fd_m g → fc_cg 1000000 (fx_U nu r i q) (fc_sum (fun a => if fd_R g a = r then fc_al g (fx_U nu) a i (fd_L g a) q else 0) a)) →
      wX_count_79 post J22 J28 (nI i) x2 (nI r) n (nI a) (nI (fd_n g)) (nI (fd_m g)) f_studied f_empties f_bad f_kept f_busyCount f_fartherCount f_best f_counted f_depth f_place f_nodes f_errors f_much a_what a_sign a_length a_ruleOf a_text a_begins a_firsts a_been a_ends a_far a_begun a_todo a_busy a_farther nu now th a_order a_openAlternative a_openItem a_openCame a_openNode a_nodeRule a_nodeAlternative a_nodeFrom a_nodeTo a_nodeParent a_nodeParts a_errorKind a_errorPlace a_errorItem := by
  have n12 := fd_n12 G
  have m24 := fd_m24 G
  have hZ : ∀ (nu : Nat → Int32), fx_CI g nu P → ∀ w, fn_D g r w → fx_U nu w i i ≠ 0 → fn_N g w := fun nu c w d z => (c w i (fn_D6 G d).2 (hE w d)).2 z
  intro d
  induction d with
  | zero =>
    intro a n now th nu ha hn h1 h2 h3
    obtain ⟨n, rfl⟩ : ∃ k, n = k + 1 := ⟨n - 1, by omega⟩
    have e : a = fd_n g := by omega
    subst e
    refine pk_le (fd_n g) (fd_n g) (fun _ => nm_e (K now th nu h1 h2 ?_)) (fun h => absurd h (by omega))
    rintro r' p hr' ⟨rfl, rfl⟩
    refine ⟨fun q q1 q2 => h3 q q1 q2, fun z => fc_to_i (hZ nu h2) (fun y => z ((fc_z (by omega) (h3 p (Nat.le_refl _) hi)).mpr y))⟩
  | succ d ih =>
    intro a n now th nu ha hn h1 h2 h3
    obtain ⟨n, rfl⟩ : ∃ k, n = k + 1 := ⟨n - 1, by omega⟩
    refine pk_le (fd_n g) a (fun h => absurd h (by omega)) (fun hl => ⟨vp_in_nI (by omega) (by omega), ?_⟩)
    have r6 := fd_R6 G hl
    refine pk_eq (fd_R g a) r (fun e => ?_) (fun e => nm_r (nI_1 _) (ih (a + 1) n now th nu (by omega) (by omega) h1 h2 (fun q q1 q2 => ?_))) (hx := fx_ru G hl)
    · refine fx_countOne (a_number := nu) G h1 hl hi (fun now' th' nu' k1 k2 k3 => nm_r (nI_1 _) ?_)
      rw [e] at k2 k3
      have sm : fx_same nu nu' r i := fun k hk z => k2 k hk (fun j j1 j2 => z j (by omega))
      have c' := fx_CI_keep G (by omega) sm hP h2
      refine ih (a + 1) n now' th' nu' (by omega) (by omega) k1 c' (fun q q1 q2 => ?_)
      have al : ∀ b, b < fd_n g → fd_R g b = r → fc_cg 1000000 (fc_al g (fx_U nu) b i (fd_L g b) q) (fc_al g (fx_U nu') b i (fd_L g b) q) := by
        intro b hb1 hb2
        refine fc_al_cg (by omega) hb1 (by rw [hb2]; exact hZ nu h2) (fun k hk h7 p' q' g1 g2 g3 g4 => ?_) _ (Nat.le_refl _) q q2
        have w14 := fd_W14 G hb1 hk
        rw [fx_U_n (by omega) sm (by omega) (by omega) (fun z => ?_)]
        · exact fc_rf
        · have d := g4 z.2
          rw [z.1, hb2] at d
          exact hb (Or.inl ⟨r, hr, fn_B_d d⟩)
      rw [fc_sum_s, if_pos e]
      have s1 : fx_U nu' r i q = fq_v nu' (625 * r + 25 * i + q) := if_pos hr
      have s2 : fx_U nu r i q = fq_v nu (625 * r + 25 * i + q) := if_pos hr
      rw [s1]
      refine fc_tr (k3 q q1 q2) (fc_ad ?_ (al a hl e))
      rw [← s2]
      refine fc_tr (h3 q q1 q2) (fc_sum_cg a (fun b hb1 => ?_))
      by_cases eb : fd_R g b = r
      · rw [if_pos eb, if_pos eb]; exact al b (by omega) eb
      · rw [if_neg eb, if_neg eb]; exact fc_rf
    · rw [fc_sum_s, if_neg e, Nat.add_zero]; exact h3 q q1 q2
theorem fx_cou44 {post : SX → Prop} {J22 J28 : Int32 → Int32 → Int32 → Int32 → Int32 → Int32 → Int32 → Int32 → Int32 → Int32 → Int32 → Int32 → Int32 → Int32 → Int32 → Int32 → (Nat → Int32) → (Nat → Int32) → (Nat → Int32) → (Nat → Int32) → (Nat → Int32) → (Nat → Int32) → (Nat → Int32) → (Nat → Int32) → (Nat → Int32) → (Nat → Int32) → (Nat → Int32) → (Nat → Int32) → (Nat → Int32) → (Nat → Int32) → (Nat → Int32) → (Nat → Int32) → (Nat → Int32) → (Nat → Int32) → (Nat → Int32) → (Nat → Int32) → (Nat → Int32) → (Nat → Int32) → (Nat → Int32) → (Nat → Int32) → (Nat → Int32) → (Nat → Int32) → (Nat → Int32) → (Nat → Int32) → (Nat → Int32) → (Nat → Int32) → (Nat → Int32) → Prop} {i r : Nat} {x2 : Int32} {P : Nat → Nat → Prop} (G : fd_G g a_what a_sign a_length a_ruleOf a_text) (hb : ¬ fn_bad g) (hi : i ≤ fd_m g) (hr : r < 6)
    (hP : ∀ r' p, r' < 6 → P r' p → p ≤ fd_m g ∧ i ≤ p ∧ ¬ (r' = r ∧ p = i) ∧ ∀ x, fn_D g r' x → P x p) (hE : ∀ x, fn_D g r x → P x i) {nu0 : Nat → Int32} (c0 : fx_CI g nu0 P)
    (K : ∀ now th nu, fx_NR nu → fx_CI g nu P → fx_CI g nu (fun r' p => r' = r ∧ p = i) → J28 (x2 + 1) (nI (fd_n g)) (nI (fd_m g)) f_studied f_empties f_bad f_kept f_busyCount f_fartherCount f_best f_counted f_depth f_place f_nodes f_errors f_much a_what a_sign a_length a_ruleOf a_text a_begins a_firsts a_been a_ends a_far a_begun a_todo a_busy a_farther nu now th a_order a_openAlternative a_openItem a_openCame a_openNode a_nodeRule a_nodeAlternative a_nodeFrom a_nodeTo a_nodeParent a_nodeParts a_errorKind a_errorPlace a_errorItem) :
    ∀ d j n nu, j + d = 25 → d < n → fx_NR nu → fx_same nu0 nu r i → (∀ q, q < j → nu (625 * r + 25 * i + q) = 0) →
      wX_count_44 post J22 J28 (nI i) x2 (nI r) (nI (fd_n g)) (nI (fd_m g)) f_studied f_empties f_bad f_kept f_busyCount f_fartherCount f_best f_counted f_depth f_place f_nodes f_errors f_much n (nI j) a_what a_sign a_length a_ruleOf a_text a_begins a_firsts a_been a_ends a_far a_begun a_todo a_busy a_farther nu a_now a_then a_order a_openAlternative a_openItem a_openCame a_openNode a_nodeRule a_nodeAlternative a_nodeFrom a_nodeTo a_nodeParent a_nodeParts a_errorKind a_errorPlace a_errorItem := by
  have m24 := fd_m24 G
  intro d
  induction d with
  | zero =>
    intro j n nu hj hn h1 h2 h3
    obtain ⟨n, rfl⟩ : ∃ k, n = k + 1 := ⟨n - 1, by omega⟩
    refine pk_le 25 j (fun _ => ⟨fd_n g + 1, ?_⟩) (fun h => absurd h (by omega))
    refine fx_cou79 (k := 0) G hb hi hr hP hE K (fd_n g) 0 (fd_n g + 1) a_now a_then nu (by omega) (by omega) h1 (fx_CI_keep G (by omega) h2 hP c0) (fun q q1 q2 => ?_)
    have : fx_U nu r i q = 0 := by
      unfold fx_U fq_v
      rw [if_pos hr, h3 q (by omega)]; rfl
    rw [this]; exact fc_rf
  | succ d ih =>
    intro j n nu hj hn h1 h2 h3
    obtain ⟨n, rfl⟩ : ∃ k, n = k + 1 := ⟨n - 1, by omega⟩
    refine pk_le 25 j (fun h => absurd h (by omega)) (fun _ => ?_)
    rw [fx_625]
    refine ⟨vp_in_nI (by omega) (by omega), nm_r (e' := upd nu (625 * r + 25 * i + j) (nI 0)) (by rw [nI_clamp (by omega)]; rfl) (nm_r (nI_1 _) (ih (j + 1) n _ (by omega) (by omega) (fun k hk => ?_) (fun k hk z => ?_) (fun q hq => ?_)))⟩
    · by_cases e : k = 625 * r + 25 * i + j
      · rw [e, pk_us, fq_v_s (by omega)]; exact ⟨rfl, by omega⟩
      · rw [pk_un e, fq_v_n e]; exact h1 k hk
    · rw [pk_un (z j (by omega))]; exact h2 k hk z
    · by_cases e : q = j
      · rw [e, pk_us]; rfl
      · rw [pk_un (by omega)]; exact h3 q (by omega)
/-- which rows stand -/
def fx_Pk (g : fd_Gr) (R : Nat → Nat) (i k r p : Nat) : Prop := p ≤ fd_m g ∧ (i < p ∨ (p = i ∧ ∃ j, j < k ∧ R j = r))
theorem fx_cou28 {post : SX → Prop} {J22 : Int32 → Int32 → Int32 → Int32 → Int32 → Int32 → Int32 → Int32 → Int32 → Int32 → Int32 → Int32 → Int32 → Int32 → Int32 → Int32 → (Nat → Int32) → (Nat → Int32) → (Nat → Int32) → (Nat → Int32) → (Nat → Int32) → (Nat → Int32) → (Nat → Int32) → (Nat → Int32) → (Nat → Int32) → (Nat → Int32) → (Nat → Int32) → (Nat → Int32) → (Nat → Int32) → (Nat → Int32) → (Nat → Int32) → (Nat → Int32) → (Nat → Int32) → (Nat → Int32) → (Nat → Int32) → (Nat → Int32) → (Nat → Int32) → (Nat → Int32) → (Nat → Int32) → (Nat → Int32) → (Nat → Int32) → (Nat → Int32) → (Nat → Int32) → (Nat → Int32) → (Nat → Int32) → (Nat → Int32) → (Nat → Int32) → Prop} {i : Nat} {R : Nat → Nat} (G : fd_G g a_what a_sign a_length a_ruleOf a_text) (hb : ¬ fn_bad g) (hi : i ≤ fd_m g) (hO : fx_OR g R 6 a_order)
    (K : ∀ now th nu, fx_NR nu → fx_CI g nu (fx_Pk g R i 6) → J22 (nI i + (-1)) (nI (fd_n g)) (nI (fd_m g)) f_studied f_empties f_bad f_kept f_busyCount f_fartherCount f_best f_counted f_depth f_place f_nodes f_errors f_much a_what a_sign a_length a_ruleOf a_text a_begins a_firsts a_been a_ends a_far a_begun a_todo a_busy a_farther nu now th a_order a_openAlternative a_openItem a_openCame a_openNode a_nodeRule a_nodeAlternative a_nodeFrom a_nodeTo a_nodeParent a_nodeParts a_errorKind a_errorPlace a_errorItem) :
    ∀ d k n now th nu, k + d = 6 → d < n → fx_NR nu → fx_CI g nu (fx_Pk g R i k) → wX_count_28 post J22 (nI i) n (nI k) (nI (fd_n g)) (nI (fd_m g)) f_studied f_empties f_bad f_kept f_busyCount f_fartherCount f_best f_counted f_depth f_place f_nodes f_errors f_much a_what a_sign a_length a_ruleOf a_text a_begins a_firsts a_been a_ends a_far a_begun a_todo a_busy a_farther nu now th a_order a_openAlternative a_openItem a_openCame a_openNode a_nodeRule a_nodeAlternative a_nodeFrom a_nodeTo a_nodeParent a_nodeParts a_errorKind a_errorPlace a_errorItem := by
  intro d
  induction d with
  | zero =>
    intro k n now th nu hk hn h1 h2
    obtain ⟨n, rfl⟩ : ∃ k, n = k + 1 := ⟨n - 1, by omega⟩
    have e : k = 6 := by omega
    subst e
    exact pk_le 6 6 (fun _ => nm_e (K now th nu h1 h2)) (fun h => absurd h (by omega))
  | succ d ih =>
    intro k n now th nu hk hn h1 h2
    obtain ⟨n, rfl⟩ : ∃ k, n = k + 1 := ⟨n - 1, by omega⟩
    obtain ⟨o1, o2, o3⟩ := hO
    obtain ⟨r1, r2⟩ := o1 k (by omega)
    refine pk_le 6 k (fun h => absurd h (by omega)) (fun _ => ⟨vp_in_nI (by omega) (by omega), nm_r (e' := nI (R k)) (by rw [nI_clamp (by omega)]; exact r1) ⟨26, ?_⟩⟩)
    refine fx_cou44 (P := fx_Pk g R i k) (nu0 := nu) G hb hi r2 (fun r' p hr' hp => ⟨hp.1, by have := hp.2; omega, fun z => ?_, fun x dx => ⟨hp.1, ?_⟩⟩) (fun x dx => ⟨hi, Or.inr ⟨rfl, o3 k (by omega) x (fn_B_d dx)⟩⟩) h2 (fun now' th' nu' k1 k2 k3 => ?_) 25 0 26 nu (by omega) (by omega) h1 (fun _ _ _ => rfl) (fun q hq => by omega)
    · rcases hp.2 with y | ⟨_, j, j1, j2⟩
      · omega
      · exact o2 j k j1 (by omega) (j2.trans z.1)
    · rcases hp.2 with y | ⟨y, j, j1, j2⟩
      · exact Or.inl y
      · obtain ⟨l, l1, l2⟩ := o3 j (by omega) x (by rw [j2]; exact fn_B_d dx)
        exact Or.inr ⟨y, l, by omega, l2⟩
    · rw [nI_1]
      refine ih (k + 1) n now' th' nu' (by omega) (by omega) k1 (fun r' p hr' hp => ?_)
      rcases hp.2 with y | ⟨y, j, j1, j2⟩
      · exact k2 r' p hr' ⟨hp.1, Or.inl y⟩
      · rcases Nat.lt_or_ge j k with z | z
        · exact k2 r' p hr' ⟨hp.1, Or.inr ⟨y, j, z, j2⟩⟩
        · have e : j = k := by omega
          subst e
          exact k3 r' p hr' ⟨j2.symm, y⟩
theorem fx_cou22 {post : SX → Prop} {R : Nat → Nat} (G : fd_G g a_what a_sign a_length a_ruleOf a_text) (hb : ¬ fn_bad g) (hO : fx_OR g R 6 a_order)
    (K : ∀ now th nu, fx_NR nu → fc_Sol g 1000000 (fx_U nu) → post (nI (fd_n g), nI (fd_m g), f_studied, f_empties, f_bad, f_kept, f_busyCount, f_fartherCount, f_best, f_counted, f_depth, f_place, f_nodes, f_errors, f_much, a_what, a_sign, a_length, a_ruleOf, a_text, a_begins, a_firsts, a_been, a_ends, a_far, a_begun, a_todo, a_busy, a_farther, nu, now, th, a_order, a_openAlternative, a_openItem, a_openCame, a_openNode, a_nodeRule, a_nodeAlternative, a_nodeFrom, a_nodeTo, a_nodeParent, a_nodeParts, a_errorKind, a_errorPlace, a_errorItem)) :
    ∀ c n now th nu, c ≤ fd_m g + 1 → c < n → fx_NR nu → fx_CI g nu (fun _ p => c ≤ p ∧ p ≤ fd_m g) → wX_count_22 post n (nI c - 1) (nI (fd_n g)) (nI (fd_m g)) f_studied f_empties f_bad f_kept f_busyCount f_fartherCount f_best f_counted f_depth f_place f_nodes f_errors f_much a_what a_sign a_length a_ruleOf a_text a_begins a_firsts a_been a_ends a_far a_begun a_todo a_busy a_farther nu now th a_order a_openAlternative a_openItem a_openCame a_openNode a_nodeRule a_nodeAlternative a_nodeFrom a_nodeTo a_nodeParent a_nodeParts a_errorKind a_errorPlace a_errorItem := by
  have m24 := fd_m24 G
  have full : ∀ r, r < 6 → ∃ j, j < 6 ∧ R j = r := by
    intro r hr
    apply Classical.byContradiction
    intro hz
    obtain ⟨o1, o2, o3⟩ := hO
    have := fq_pig 6 7 (fun j => if j < 6 then R j else r) (fun j hj => by
      show (if j < 6 then R j else r) < 6
      split
      · next h => exact (o1 j h).2
      · exact hr) (fun i j hij hj e => by
      have e' : (if i < 6 then R i else r) = (if j < 6 then R j else r) := e
      rw [if_pos (by omega)] at e'
      by_cases c : j < 6
      · rw [if_pos c] at e'; exact o2 i j hij c e'
      · rw [if_neg c] at e'; exact hz ⟨i, by omega, e'⟩)
    omega
  intro c
  induction c with
  | zero =>
    intro n now th nu hc hn h1 h2
    obtain ⟨n, rfl⟩ : ∃ k, n = k + 1 := ⟨n - 1, by omega⟩
    refine br_t (by decide) (K now th nu h1 ⟨fun r p q hr hpq hq => (h2 r p hr ⟨Nat.zero_le _, by omega⟩).1 q hpq hq, fun r p hp z => ?_⟩)
    by_cases hr : r < 6
    · exact (h2 r p hr ⟨Nat.zero_le _, hp⟩).2 z
    · unfold fx_U at z; rw [if_neg hr] at z; exact absurd rfl z
  | succ c ih =>
    intro n now th nu hc hn h1 h2
    obtain ⟨n, rfl⟩ : ∃ k, n = k + 1 := ⟨n - 1, by omega⟩
    rw [nI_pred]
    refine br_f (nI_pos (by omega)) ⟨7, ?_⟩
    refine fx_cou28 (R := R) G hb (by omega) hO (fun now' th' nu' k1 k2 => ?_) 6 0 7 now th nu (by omega) (by omega) h1 (fun r p hr hp => h2 r p hr ⟨?_, hp.1⟩)
    · rw [show nI c + (-1) = nI c - 1 from (Int32.sub_eq_add_neg _ _).symm]
      refine ih n now' th' nu' (by omega) (by omega) k1 (fun r p hr hp => k2 r p hr ⟨hp.2, ?_⟩)
      rcases Nat.eq_or_lt_of_le hp.1 with y | y
      · exact Or.inr ⟨y.symm, full r hr⟩
      · exact Or.inl y
    · rcases hp.2 with y | ⟨_, j, j1, _⟩ <;> omega
/-- X's numbers between two calls -/
def fx_C (g : fd_Gr) (co : Int32) (nu : Nat → Int32) : Prop := fx_NR nu ∧ (co = 0 ∨ (co = 1 ∧ fc_Sol g 1000000 (fx_U nu)))
theorem fx_count {post : SX → Prop} (G : fd_G g a_what a_sign a_length a_ruleOf a_text) (C : fx_C g f_counted a_number) (hb : ¬ fn_bad g) (hB : ∀ r, r < 6 → fb_rep (a_begins r) (fn_B g r))
    (K : ∀ now th nu o, fx_NR nu → fc_Sol g 1000000 (fx_U nu) → post (nI (fd_n g), nI (fd_m g), f_studied, f_empties, f_bad, f_kept, f_busyCount, f_fartherCount, f_best, 1, f_depth, f_place, f_nodes, f_errors, f_much, a_what, a_sign, a_length, a_ruleOf, a_text, a_begins, a_firsts, a_been, a_ends, a_far, a_begun, a_todo, a_busy, a_farther, nu, now, th, o, a_openAlternative, a_openItem, a_openCame, a_openNode, a_nodeRule, a_nodeAlternative, a_nodeFrom, a_nodeTo, a_nodeParent, a_nodeParts, a_errorKind, a_errorPlace, a_errorItem)) : wpX_count post (nI (fd_n g), nI (fd_m g), f_studied, f_empties, f_bad, f_kept, f_busyCount, f_fartherCount, f_best, f_counted, f_depth, f_place, f_nodes, f_errors, f_much, a_what, a_sign, a_length, a_ruleOf, a_text, a_begins, a_firsts, a_been, a_ends, a_far, a_begun, a_todo, a_busy, a_farther, a_number, a_now, a_then, a_order, a_openAlternative, a_openItem, a_openCame, a_openNode, a_nodeRule, a_nodeAlternative, a_nodeFrom, a_nodeTo, a_nodeParent, a_nodeParts, a_errorKind, a_errorPlace, a_errorItem) := by
  obtain ⟨NR, C⟩ := C
  rcases C with rfl | ⟨rfl, C⟩
  · refine br_t rfl ⟨7, ?_⟩
    refine fx_arr4 (f_counted := 1) G hb hB (fun o R hO => ?_) 6 0 7 0 a_order (fun _ => 0) (by omega) (by omega) ⟨fun j hj => by omega, fun i j _ hj => by omega, fun j hj => by omega⟩ (fun r hr => by rw [b_0]; exact ⟨fun z => absurd z (by decide), fun ⟨j, hj, _⟩ => by omega⟩)
    refine ⟨fd_m g + 2, ?_⟩
    have key := fx_cou22 (post := post) (f_counted := 1) (a_order := o) G hb hO (fun now th nu k1 k2 => K now th nu o k1 k2) (fd_m g + 1) (fd_m g + 2) a_now a_then a_number (Nat.le_refl _) (by omega) NR (fun r p hr hp => by omega)
    rw [nI_pred] at key
    exact key
  · exact br_f (by decide) (K _ _ _ _ NR C)
end
end
section
def fy_v (f : Nat → Int64) (k : Nat) : Nat := (f k).toInt.toNat
def fy_NR (de : Nat → Int64) : Prop := ∀ k, k < 3750 → de k = lN (fy_v de k) ∧ fy_v de k ≤ 1000001
def fy_D (de : Nat → Int64) (r p q : Nat) : Nat := if r < 6 then fy_v de (625 * r + 25 * p + q) else 0
def fy_V (g : fd_Gr) (ro : Nat → Int64) (V : Nat → Nat) : Prop := (∀ q, q < 25 → ro q = lN (V q) ∧ V q ≤ 1000001) ∧ ∀ q, fd_m g < q → q < 25 → V q = 0
theorem fy_v_s {f : Nat → Int64} {k v : Nat} (h : v < 2 ^ 63) : fy_v (vp_updL f k (lN v)) k = v := by unfold fy_v; rw [pk_uLs, pk_lT h]; rfl
theorem fy_v_n {f : Nat → Int64} {k j v : Nat} (h : j ≠ k) : fy_v (vp_updL f k (lN v)) j = fy_v f j := by unfold fy_v; rw [pk_uLn h]
theorem fy_least {post : Int64 → Prop} {x : Int64} {v : Nat} (hv : v < 2 ^ 62) (hx : x = lN v) (K : post (lN (fc_sat 1000001 v))) : wpY_least post x := by
  subst hx
  have e : (1000001 : Int64) = lN 1000001 := rfl
  unfold fc_sat at K
  unfold wpY_least
  rw [e]
  refine br_c (fun h => ?_) (fun h => ?_)
  · rw [pk_lLE (by omega) (by omega)] at h
    rw [if_pos h] at K; exact K
  · rw [pk_lLE (by omega) (by omega)] at h
    rw [if_neg h] at K; exact K
section
variable {g : fd_Gr}
variable {g_known g_counted g_places g_best g_made g_faults g_place g_depth g_much : Int32} {b_ruleOf b_sizes b_items b_signs b_text b_ends b_far b_empty b_begins b_starts b_follow b_nodes b_errors b_openNode b_openAlt b_openItem b_came : Nat → Int32} {b_derivations b_row b_layer b_next b_sum : Nat → Int64}
/-- what places below p add -/
def fy_ns (b : Nat → Nat → Nat) (L : Nat → Nat) (p q : Nat) : Nat := fc_sum (fun p' => if p' ≤ q then L p' * b p' q else 0) p
theorem fy_ns_s (b : Nat → Nat → Nat) (L : Nat → Nat) (p q : Nat) : fy_ns b L (p + 1) q = fy_ns b L p q + (if p ≤ q then L p * b p q else 0) := rfl
theorem fy_ns_m (b : Nat → Nat → Nat) (L : Nat → Nat) {m q : Nat} (hq : q ≤ m) : fy_ns b L (m + 1) q = fc_on b L q := by
  have : ∀ d, fy_ns b L (q + 1 + d) q = fc_on b L q := by
    intro d
    induction d with
    | zero =>
      refine fc_sum_e _ (fun p hp => ?_)
      rw [if_pos (by omega)]
    | succ d ih =>
      rw [show q + 1 + (d + 1) = (q + 1 + d) + 1 from by omega, fy_ns_s, if_neg (by omega), ih, Nat.add_zero]
  have h := this (m - q)
  rw [show q + 1 + (m - q) = m + 1 from by omega] at h
  exact h
theorem fy_fur168 {post : SY → Prop} {N : Nat → Nat} (hN : fy_V g b_next N) (hm : fd_m g ≤ 24)
    (K : ∀ la, fy_V g la N → post (nI (fd_n g), nI (fd_m g), g_known, g_counted, g_places, g_best, g_made, g_faults, g_place, g_depth, g_much, b_ruleOf, b_sizes, b_items, b_signs, b_text, b_ends, b_far, b_empty, b_begins, b_starts, b_follow, b_derivations, b_row, la, b_next, b_nodes, b_errors, b_openNode, b_openAlt, b_openItem, b_came, b_sum)) :
    ∀ d q n la, q + d = 25 → d < n → (∀ i, i < q → la i = lN (N i)) → wY_further_168 post (nI (fd_n g)) (nI (fd_m g)) g_known g_counted g_places g_best g_made g_faults g_place g_depth g_much n (nI q) b_ruleOf b_sizes b_items b_signs b_text b_ends b_far b_empty b_begins b_starts b_follow b_derivations b_row la b_next b_nodes b_errors b_openNode b_openAlt b_openItem b_came b_sum := by
  intro d
  induction d with
  | zero =>
    intro q n la hq hn h
    obtain ⟨n, rfl⟩ : ∃ k, n = k + 1 := ⟨n - 1, by omega⟩
    exact pk_le 25 q (fun _ => K la ⟨fun i hi => ⟨h i (by omega), (hN.1 i hi).2⟩, hN.2⟩) (fun h => absurd h (by omega))
  | succ d ih =>
    intro q n la hq hn h
    obtain ⟨n, rfl⟩ : ∃ k, n = k + 1 := ⟨n - 1, by omega⟩
    have vq : vp_in (nI q) 25 := vp_in_nI (by omega) (by omega)
    refine pk_le 25 q (fun h => absurd h (by omega)) (fun _ => ⟨vq, vq, nm_r (e' := vp_updL la q (lN (N q))) (by rw [nI_clamp (by omega), (hN.1 q (by omega)).1]) (nm_r (nI_1 _) (ih (q + 1) n _ (by omega) (by omega) (fun i hi => ?_)))⟩)
    by_cases e : i = q
    · rw [e, pk_uLs]
    · rw [pk_uLn e]; exact h i (by omega)
theorem fy_fur97 {post : SY → Prop} {J23 : Int32 → (Nat → Int32) → (Nat → Int32) → (Nat → Int32) → (Nat → Int32) → (Nat → Int32) → (Nat → Int32) → (Nat → Int32) → (Nat → Int32) → (Nat → Int32) → (Nat → Int32) → (Nat → Int32) → (Nat → Int64) → (Nat → Int64) → (Nat → Int64) → (Nat → Int64) → (Nat → Int32) → (Nat → Int32) → (Nat → Int32) → (Nat → Int32) → (Nat → Int32) → (Nat → Int32) → (Nat → Int64) → Prop} {w p : Nat} {L : Nat → Nat} (G : fd_G g b_items b_signs b_sizes b_ruleOf b_text) (NR : fy_NR b_derivations) (hw8 : 8 ≤ w) (hw : w < 14) (hp : p ≤ fd_m g) (hL : fy_V g b_layer L)
    (K : ∀ ne N, fy_V g ne N → (∀ q, q ≤ fd_m g → fc_cg 1000001 (N q) (fy_ns (fc_b g (fy_D b_derivations) w) L (p + 1) q)) → J23 (nI (p + 1)) b_ruleOf b_sizes b_items b_signs b_text b_ends b_far b_empty b_begins b_starts b_follow b_derivations b_row b_layer ne b_nodes b_errors b_openNode b_openAlt b_openItem b_came b_sum) :
    ∀ d q n ne N, q + d = fd_m g + 1 → p ≤ q → d < n → fy_V g ne N → (∀ i, i < q → fc_cg 1000001 (N i) (fy_ns (fc_b g (fy_D b_derivations) w) L (p + 1) i)) → (∀ i, q ≤ i → i ≤ fd_m g → fc_cg 1000001 (N i) (fy_ns (fc_b g (fy_D b_derivations) w) L p i)) →
      wY_further_97 post J23 (nI w) (nI p) (nI (fd_n g)) (nI (fd_m g)) g_known g_counted g_places g_best g_made g_faults g_place g_depth g_much n (nI q) b_ruleOf b_sizes b_items b_signs b_text b_ends b_far b_empty b_begins b_starts b_follow b_derivations b_row b_layer ne b_nodes b_errors b_openNode b_openAlt b_openItem b_came b_sum := by
  have m24 := fd_m24 G
  intro d
  induction d with
  | zero =>
    intro q n ne N hq hpq hn h1 h2 h3
    obtain ⟨n, rfl⟩ : ∃ k, n = k + 1 := ⟨n - 1, by omega⟩
    exact pk_lt (fd_m g) q (fun _ => nm_r (nI_1 _) (K ne N h1 (fun i hi => h2 i (by omega)))) (fun h => absurd h (by omega))
  | succ d ih =>
    intro q n ne N hq hpq hn h1 h2 h3
    obtain ⟨n, rfl⟩ : ∃ k, n = k + 1 := ⟨n - 1, by omega⟩
    have vq : vp_in (nI q) 25 := vp_in_nI (by omega) (by omega)
    have cq : (nI q).toNatClampNeg = q := nI_clamp (by omega)
    have cp : (nI p).toNatClampNeg = p := nI_clamp (by omega)
    obtain ⟨n1, n2⟩ := h1.1 q (by omega)
    obtain ⟨l1, l2⟩ := hL.1 p (by omega)
    obtain ⟨d1, d2⟩ := NR (625 * (w - 8) + 25 * p + q) (by omega)
    have db : fc_b g (fy_D b_derivations) w p q = fy_v b_derivations (625 * (w - 8) + 25 * p + q) := by
      unfold fc_b fy_D
      rw [if_neg (by omega), if_pos (by omega)]
    refine pk_lt (fd_m g) q (fun h => absurd h (by omega)) (fun _ => pk_le w 7 (fun h => by omega) (fun _ => ⟨vq, vp_in_nI (by omega) (by omega), ?_⟩))
    rw [fx_m8 hw8, fx_625]
    refine ⟨vp_in_nI (by omega) (by omega), ?_⟩
    rw [cq, cp, show (nI (625 * (w - 8) + 25 * p + q)).toNatClampNeg = 625 * (w - 8) + 25 * p + q from nI_clamp (by omega)]
    have mb : L p * fy_v b_derivations (625 * (w - 8) + 25 * p + q) ≤ 1000001 * 1000001 := Nat.mul_le_mul l2 d2
    refine fy_least (v := N q + L p * fy_v b_derivations (625 * (w - 8) + 25 * p + q)) (by omega) (by rw [n1, l1, d1, lN_mul, lN_add]) ⟨vq, nm_e (nm_r (nI_1 _) ?_)⟩
    refine ih (q + 1) n _ (fun i => if i = q then fc_sat 1000001 (N q + L p * fy_v b_derivations (625 * (w - 8) + 25 * p + q)) else N i) (by omega) (by omega) (by omega) ⟨fun i hi => ?_, fun i i1 i2 => ?_⟩ (fun i hi => ?_) (fun i i1 i2 => ?_)
    · by_cases e : i = q
      · subst e; rw [pk_uLs]; simp only [if_true]; exact ⟨trivial, fc_sat_le _ _⟩
      · rw [pk_uLn e]; simp only [e, if_false]; exact h1.1 i hi
    · show (if i = q then _ else N i) = 0
      rw [if_neg (by omega)]; exact h1.2 i i1 i2
    · show fc_cg 1000001 (if i = q then _ else N i) _
      by_cases e : i = q
      · subst e
        rw [if_pos rfl, fy_ns_s, if_pos hpq, db]
        exact fc_tr (fc_sat_cg _ _) (fc_ad (h3 i (Nat.le_refl _) (by omega)) fc_rf)
      · rw [if_neg e]; exact h2 i (by omega)
    · show fc_cg 1000001 (if i = q then _ else N i) _
      rw [if_neg (by omega)]; exact h3 i (by omega) i2
theorem fy_fur23 {post : SY → Prop} {w : Nat} {L : Nat → Nat} (G : fd_G g b_items b_signs b_sizes b_ruleOf b_text) (NR : fy_NR b_derivations) (hw : w < 14) (hL : fy_V g b_layer L)
    (K : ∀ ne la N, fy_V g la N → (∀ q, q ≤ fd_m g → fc_cg 1000001 (N q) (fc_on (fc_b g (fy_D b_derivations) w) L q)) → post (nI (fd_n g), nI (fd_m g), g_known, g_counted, g_places, g_best, g_made, g_faults, g_place, g_depth, g_much, b_ruleOf, b_sizes, b_items, b_signs, b_text, b_ends, b_far, b_empty, b_begins, b_starts, b_follow, b_derivations, b_row, la, ne, b_nodes, b_errors, b_openNode, b_openAlt, b_openItem, b_came, b_sum)) :
    ∀ d p n ne N, p + d = fd_m g + 1 → d < n → fy_V g ne N → (∀ q, q ≤ fd_m g → fc_cg 1000001 (N q) (fy_ns (fc_b g (fy_D b_derivations) w) L p q)) →
      wY_further_23 post (nI w) (nI (fd_n g)) (nI (fd_m g)) g_known g_counted g_places g_best g_made g_faults g_place g_depth g_much n (nI p) b_ruleOf b_sizes b_items b_signs b_text b_ends b_far b_empty b_begins b_starts b_follow b_derivations b_row b_layer ne b_nodes b_errors b_openNode b_openAlt b_openItem b_came b_sum := by
  have m24 := fd_m24 G
  intro d
  induction d with
  | zero =>
    intro p n ne N hp hn h1 h2
    obtain ⟨n, rfl⟩ : ∃ k, n = k + 1 := ⟨n - 1, by omega⟩
    refine pk_lt (fd_m g) p (fun _ => ⟨26, ?_⟩) (fun h => absurd h (by omega))
    refine fy_fur168 (b_next := ne) h1 m24 (fun la h => K ne la N h (fun q hq => ?_)) 25 0 26 _ (by omega) (by omega) (fun i hi => by omega)
    rw [← fy_ns_m _ _ hq]
    have e : p = fd_m g + 1 := by omega
    rw [← e]; exact h2 q hq
  | succ d ih =>
    intro p n ne N hp hn h1 h2
    obtain ⟨n, rfl⟩ : ∃ k, n = k + 1 := ⟨n - 1, by omega⟩
    have vp : vp_in (nI p) 25 := vp_in_nI (by omega) (by omega)
    have cp : (nI p).toNatClampNeg = p := nI_clamp (by omega)
    obtain ⟨l1, l2⟩ := hL.1 p (by omega)
    have same : (∀ q, q ≤ fd_m g → p ≤ q → L p * fc_b g (fy_D b_derivations) w p q = 0) → wY_further_23 post (nI w) (nI (fd_n g)) (nI (fd_m g)) g_known g_counted g_places g_best g_made g_faults g_place g_depth g_much n (nI (p + 1)) b_ruleOf b_sizes b_items b_signs b_text b_ends b_far b_empty b_begins b_starts b_follow b_derivations b_row b_layer ne b_nodes b_errors b_openNode b_openAlt b_openItem b_came b_sum := by
      intro hz
      refine ih (p + 1) n ne N (by omega) (by omega) h1 (fun q hq => ?_)
      rw [fy_ns_s]
      by_cases c : p ≤ q
      · rw [if_pos c, hz q hq c, Nat.add_zero]; exact h2 q hq
      · rw [if_neg c, Nat.add_zero]; exact h2 q hq
    have exit7 : ∀ (ne' : Nat → Int64), w < 8 → wY_further_23 post (nI w) (nI (fd_n g)) (nI (fd_m g)) g_known g_counted g_places g_best g_made g_faults g_place g_depth g_much n (nI (p + 1)) b_ruleOf b_sizes b_items b_signs b_text b_ends b_far b_empty b_begins b_starts b_follow b_derivations b_row b_layer ne' b_nodes b_errors b_openNode b_openAlt b_openItem b_came b_sum → ∃ n97, wY_further_97 post (wY_further_23 post (nI w) (nI (fd_n g)) (nI (fd_m g)) g_known g_counted g_places g_best g_made g_faults g_place g_depth g_much n) (nI w) (nI p) (nI (fd_n g)) (nI (fd_m g)) g_known g_counted g_places g_best g_made g_faults g_place g_depth g_much n97 (nI p) b_ruleOf b_sizes b_items b_signs b_text b_ends b_far b_empty b_begins b_starts b_follow b_derivations b_row b_layer ne' b_nodes b_errors b_openNode b_openAlt b_openItem b_came b_sum := by
      intro ne' h7 hk
      refine ⟨1, pk_lt (fd_m g) p (fun _ => nm_r (nI_1 _) hk) (fun _ => pk_le w 7 (fun _ => nm_r (nI_1 _) hk) (fun h => by omega))⟩
    refine pk_lt (fd_m g) p (fun h => absurd h (by omega)) (fun _ => ⟨vp, ?_⟩)
    rw [cp, l1]
    refine br_c (fun hz => nm_r (nI_1 _) (same (fun q _ _ => ?_))) (fun hz => ?_)
    · have : L p = 0 := (pk_lEQ (by omega) (by omega)).mp hz
      rw [this, Nat.zero_mul]
    · refine pk_le 8 w (fun h8 => ⟨fd_m g + 1 - p + 1, ?_⟩) (fun h8 => ?_)
      · refine fy_fur97 G NR h8 hw (by omega) hL (fun ne' N' k1 k2 => ih (p + 1) n ne' N' (by omega) (by omega) k1 k2) (fd_m g + 1 - p) p _ ne N (by omega) (Nat.le_refl _) (by omega) h1 (fun i hi => ?_) (fun i i1 i2 => h2 i i2)
        rw [fy_ns_s, if_neg (by omega), Nat.add_zero]; exact h2 i (by omega)
      · have hb : ∀ q, fc_b g (fy_D b_derivations) w p q = if p < fd_m g ∧ q = p + 1 ∧ fd_T g p = w then 1 else 0 := fun q => by unfold fc_b; rw [if_pos h8]
        refine pk_le (fd_m g) p (fun hpm => exit7 ne h8 (same (fun q _ _ => ?_))) (fun hpm => ⟨vp_in_nI (by omega) (by omega), ?_⟩)
        · rw [hb, if_neg (by omega), Nat.mul_zero]
        · have t8 := fd_T8 G hpm
          rw [show b_text p = nI (fd_T g p) from fd_tx G hpm]
          refine pk_eq (fd_T g p) w (fun ht => ?_) (fun ht => exit7 ne h8 (same (fun q _ _ => ?_)))
          · rw [nI_1 p]
            have v1 : vp_in (nI (p + 1)) 25 := vp_in_nI (by omega) (by omega)
            have c1 : (nI (p + 1)).toNatClampNeg = p + 1 := nI_clamp (by omega)
            obtain ⟨n1, n2⟩ := h1.1 (p + 1) (by omega)
            refine ⟨v1, vp, fy_least (v := N (p + 1) + L p) (by omega) (by rw [c1, n1, lN_add]) ⟨v1, ?_⟩⟩
            rw [c1]
            refine nm_e (exit7 _ h8 (ih (p + 1) n _ (fun i => if i = p + 1 then fc_sat 1000001 (N (p + 1) + L p) else N i) (by omega) (by omega) ⟨fun i hi => ?_, fun i i1 i2 => ?_⟩ (fun q hq => ?_)))
            · by_cases e : i = p + 1
              · subst e; rw [pk_uLs]; simp only [if_true]; exact ⟨trivial, fc_sat_le _ _⟩
              · rw [pk_uLn e]; simp only [e, if_false]; exact h1.1 i hi
            · show (if i = p + 1 then _ else N i) = 0
              rw [if_neg (by omega)]; exact h1.2 i i1 i2
            · show fc_cg 1000001 (if q = p + 1 then _ else N q) _
              rw [fy_ns_s]
              by_cases e : q = p + 1
              · subst e
                rw [if_pos rfl, if_pos (by omega), hb, if_pos ⟨hpm, rfl, ht⟩, Nat.mul_one]
                exact fc_tr (fc_sat_cg _ _) (fc_ad (h2 (p + 1) hq) fc_rf)
              · have hz0 : fc_b g (fy_D b_derivations) w p q = 0 := by rw [hb, if_neg (fun z => e z.2.1)]
                rw [if_neg e, hz0, Nat.mul_zero, ite_self, Nat.add_zero]
                exact h2 q hq
          · rw [hb, if_neg (fun z => ht z.2.2), Nat.mul_zero]
theorem fy_fur2 {post : SY → Prop} {w : Nat} {L : Nat → Nat} (G : fd_G g b_items b_signs b_sizes b_ruleOf b_text) (NR : fy_NR b_derivations) (hw : w < 14) (hL : fy_V g b_layer L)
    (K : ∀ ne la N, fy_V g la N → (∀ q, q ≤ fd_m g → fc_cg 1000001 (N q) (fc_on (fc_b g (fy_D b_derivations) w) L q)) → post (nI (fd_n g), nI (fd_m g), g_known, g_counted, g_places, g_best, g_made, g_faults, g_place, g_depth, g_much, b_ruleOf, b_sizes, b_items, b_signs, b_text, b_ends, b_far, b_empty, b_begins, b_starts, b_follow, b_derivations, b_row, la, ne, b_nodes, b_errors, b_openNode, b_openAlt, b_openItem, b_came, b_sum)) :
    ∀ d q n ne, q + d = 25 → d < n → (∀ i, i < q → ne i = 0) → wY_further_2 post (nI w) (nI (fd_n g)) (nI (fd_m g)) g_known g_counted g_places g_best g_made g_faults g_place g_depth g_much n (nI q) b_ruleOf b_sizes b_items b_signs b_text b_ends b_far b_empty b_begins b_starts b_follow b_derivations b_row b_layer ne b_nodes b_errors b_openNode b_openAlt b_openItem b_came b_sum := by
  intro d
  induction d with
  | zero =>
    intro q n ne hq hn h
    obtain ⟨n, rfl⟩ : ∃ k, n = k + 1 := ⟨n - 1, by omega⟩
    refine pk_le 25 q (fun _ => ⟨fd_m g + 2, ?_⟩) (fun h => absurd h (by omega))
    exact fy_fur23 G NR hw hL K (fd_m g + 1) 0 (fd_m g + 2) ne (fun _ => 0) (by omega) (by omega) ⟨fun i hi => ⟨h i (by omega), Nat.zero_le _⟩, fun _ _ _ => rfl⟩ (fun q _ => fc_rf)
  | succ d ih =>
    intro q n ne hq hn h
    obtain ⟨n, rfl⟩ : ∃ k, n = k + 1 := ⟨n - 1, by omega⟩
    refine pk_le 25 q (fun h => absurd h (by omega)) (fun _ => ⟨vp_in_nI (by omega) (by omega), nm_r (e' := vp_updL ne q 0) (by rw [nI_clamp (by omega)]) (nm_r (nI_1 _) (ih (q + 1) n _ (by omega) (by omega) (fun i hi => ?_)))⟩)
    by_cases e : i = q
    · rw [e, pk_uLs]
    · rw [pk_uLn e]; exact h i (by omega)
theorem fy_further {post : SY → Prop} {w : Nat} {L : Nat → Nat} (G : fd_G g b_items b_signs b_sizes b_ruleOf b_text) (NR : fy_NR b_derivations) (hw : w < 14) (hL : fy_V g b_layer L)
    (K : ∀ ne la N, fy_V g la N → (∀ q, q ≤ fd_m g → fc_cg 1000001 (N q) (fc_on (fc_b g (fy_D b_derivations) w) L q)) → post (nI (fd_n g), nI (fd_m g), g_known, g_counted, g_places, g_best, g_made, g_faults, g_place, g_depth, g_much, b_ruleOf, b_sizes, b_items, b_signs, b_text, b_ends, b_far, b_empty, b_begins, b_starts, b_follow, b_derivations, b_row, la, ne, b_nodes, b_errors, b_openNode, b_openAlt, b_openItem, b_came, b_sum)) : wpY_further post (nI (fd_n g), nI (fd_m g), g_known, g_counted, g_places, g_best, g_made, g_faults, g_place, g_depth, g_much, b_ruleOf, b_sizes, b_items, b_signs, b_text, b_ends, b_far, b_empty, b_begins, b_starts, b_follow, b_derivations, b_row, b_layer, b_next, b_nodes, b_errors, b_openNode, b_openAlt, b_openItem, b_came, b_sum) (nI w) :=
  ⟨26, fy_fur2 G NR hw hL K 25 0 26 _ (by omega) (by omega) (fun i hi => by omega)⟩
theorem fy_isLayer {post : Int32 → Prop} {L : Nat → Nat} (hL : fy_V g b_layer L) (K0 : (∀ q, q < 25 → L q = 0) → post 0) (K1 : (∃ q, q < 25 ∧ L q ≠ 0) → post 1) : wpY_isLayer post (nI (fd_n g), nI (fd_m g), g_known, g_counted, g_places, g_best, g_made, g_faults, g_place, g_depth, g_much, b_ruleOf, b_sizes, b_items, b_signs, b_text, b_ends, b_far, b_empty, b_begins, b_starts, b_follow, b_derivations, b_row, b_layer, b_next, b_nodes, b_errors, b_openNode, b_openAlt, b_openItem, b_came, b_sum) := by
  have loop : ∀ d q n, q + d = 25 → d < n → (∀ i, i < q → L i = 0) → wY_isLayer_2 post (nI (fd_n g)) (nI (fd_m g)) g_known g_counted g_places g_best g_made g_faults g_place g_depth g_much b_ruleOf b_sizes b_items b_signs b_text b_ends b_far b_empty b_begins b_starts b_follow b_derivations b_row b_layer b_next b_nodes b_errors b_openNode b_openAlt b_openItem b_came b_sum n (nI q) := by
    intro d
    induction d with
    | zero =>
      intro q n hq hn h
      obtain ⟨n, rfl⟩ : ∃ k, n = k + 1 := ⟨n - 1, by omega⟩
      exact pk_le 25 q (fun _ => K0 (fun i hi => h i (by omega))) (fun h => absurd h (by omega))
    | succ d ih =>
      intro q n hq hn h
      obtain ⟨n, rfl⟩ : ∃ k, n = k + 1 := ⟨n - 1, by omega⟩
      obtain ⟨l1, l2⟩ := hL.1 q (by omega)
      refine pk_le 25 q (fun h => absurd h (by omega)) (fun _ => ⟨vp_in_nI (by omega) (by omega), ?_⟩)
      rw [show (nI q).toNatClampNeg = q from nI_clamp (by omega), l1]
      refine br_c (fun z => nm_r (nI_1 _) (ih (q + 1) n (by omega) (by omega) (fun i hi => ?_))) (fun z => K1 ⟨q, by omega, fun e => z ((pk_lLE (b := 0) (by omega) (by omega)).mpr (by omega))⟩)
      have z' : L q ≤ 0 := (pk_lLE (b := 0) (by omega) (by omega)).mp z
      rcases Nat.lt_or_ge i q with y | y
      · exact h i y
      · rw [show i = q from by omega]; omega
  exact ⟨26, loop 25 0 26 (by omega) (by omega) (fun i hi => by omega)⟩
end
end
section
theorem fc_on_ad (b : Nat → Nat → Nat) (u v : Nat → Nat) (q : Nat) : fc_on b (fun p => u p + v p) q = fc_on b u q + fc_on b v q := by
  unfold fc_on
  rw [← fc_sum_ad]
  exact fc_sum_e _ (fun p _ => Nat.add_mul _ _ _)
theorem fc_on_e {b : Nat → Nat → Nat} {u v : Nat → Nat} {q : Nat} (h : ∀ p, p ≤ q → u p = v p) : fc_on b u q = fc_on b v q := fc_sum_e _ (fun p hp => by rw [h p (by omega)])
/-- an item's rounds: what is left to add dies out -/
theorem fc_end {b : Nat → Nat → Nat} {c R : Nat → Nat} {m : Nat} (hb : ∀ p, p ≤ m → b p p = 0) (h : ∀ q, q ≤ m → c q + fc_on b R q = R q) : ∀ q, q ≤ m → R q = fc_rep b c q := by
  intro q hq
  apply fc_all
  intro M
  refine fc_rep_u (N := m) (fun q hq => ?_) q hq
  have := h q hq
  unfold fc_on at this
  rw [fc_sum_s, hb q hq, Nat.mul_zero, Nat.add_zero] at this
  rw [this]
  exact fc_rf
section
variable {g : fd_Gr}
variable {g_known g_counted g_places g_best g_made g_faults g_place g_depth g_much : Int32} {b_ruleOf b_sizes b_items b_signs b_text b_ends b_far b_empty b_begins b_starts b_follow b_nodes b_errors b_openNode b_openAlt b_openItem b_came : Nat → Int32} {b_derivations b_row b_layer b_next b_sum : Nat → Int64}
theorem fy_ci70 {post : SY → Prop} {J58 : Int32 → Int32 → Int32 → Int32 → Int32 → Int32 → Int32 → Int32 → Int32 → Int32 → Int32 → Int32 → (Nat → Int32) → (Nat → Int32) → (Nat → Int32) → (Nat → Int32) → (Nat → Int32) → (Nat → Int32) → (Nat → Int32) → (Nat → Int32) → (Nat → Int32) → (Nat → Int32) → (Nat → Int32) → (Nat → Int64) → (Nat → Int64) → (Nat → Int64) → (Nat → Int64) → (Nat → Int32) → (Nat → Int32) → (Nat → Int32) → (Nat → Int32) → (Nat → Int32) → (Nat → Int32) → (Nat → Int64) → Prop} {x1 : Int32} {s : Nat} {R L : Nat → Nat} (hs : s < 4) (hm : fd_m g ≤ 24) (hL : fy_V g b_layer L)
    (K : ∀ ro V, fy_V g ro V → (∀ q, q ≤ fd_m g → fc_cg 1000001 (V q) (R q + L q)) → (s < 2 → J58 0 (nI (fd_n g)) (nI (fd_m g)) g_known g_counted g_places g_best g_made g_faults g_place g_depth g_much b_ruleOf b_sizes b_items b_signs b_text b_ends b_far b_empty b_begins b_starts b_follow b_derivations ro b_layer b_next b_nodes b_errors b_openNode b_openAlt b_openItem b_came b_sum) ∧ (2 ≤ s → ((∀ q, q < 25 → L q = 0) → J58 0 (nI (fd_n g)) (nI (fd_m g)) g_known g_counted g_places g_best g_made g_faults g_place g_depth g_much b_ruleOf b_sizes b_items b_signs b_text b_ends b_far b_empty b_begins b_starts b_follow b_derivations ro b_layer b_next b_nodes b_errors b_openNode b_openAlt b_openItem b_came b_sum) ∧ ((∃ q, q < 25 ∧ L q ≠ 0) → J58 1 (nI (fd_n g)) (nI (fd_m g)) g_known g_counted g_places g_best g_made g_faults g_place g_depth g_much b_ruleOf b_sizes b_items b_signs b_text b_ends b_far b_empty b_begins b_starts b_follow b_derivations ro b_layer b_next b_nodes b_errors b_openNode b_openAlt b_openItem b_came b_sum))) :
    ∀ d q n ro V, q + d = 25 → d < n → fy_V g ro V → (∀ i, i < q → i ≤ fd_m g → fc_cg 1000001 (V i) (R i + L i)) → (∀ i, q ≤ i → i ≤ fd_m g → fc_cg 1000001 (V i) (R i)) →
      wY_countItem_70 post J58 x1 (nI s) (nI (fd_n g)) (nI (fd_m g)) g_known g_counted g_places g_best g_made g_faults g_place g_depth g_much n (nI q) b_ruleOf b_sizes b_items b_signs b_text b_ends b_far b_empty b_begins b_starts b_follow b_derivations ro b_layer b_next b_nodes b_errors b_openNode b_openAlt b_openItem b_came b_sum := by
  intro d
  induction d with
  | zero =>
    intro q n ro V hq hn h1 h2 h3
    obtain ⟨n, rfl⟩ : ∃ k, n = k + 1 := ⟨n - 1, by omega⟩
    obtain ⟨k1, k2⟩ := K ro V h1 (fun i hi => h2 i (by omega) hi)
    refine pk_le 25 q (fun _ => pk_lt s 2 (fun z => k1 z) (fun z => ?_)) (fun h => absurd h (by omega))
    exact fy_isLayer hL (fun h0 => br_t rfl ((k2 z).1 h0)) (fun h1 => br_f (by decide) ((k2 z).2 h1))
  | succ d ih =>
    intro q n ro V hq hn h1 h2 h3
    obtain ⟨n, rfl⟩ : ∃ k, n = k + 1 := ⟨n - 1, by omega⟩
    have vq : vp_in (nI q) 25 := vp_in_nI (by omega) (by omega)
    have cq : (nI q).toNatClampNeg = q := nI_clamp (by omega)
    obtain ⟨r1, r2⟩ := h1.1 q (by omega)
    obtain ⟨l1, l2⟩ := hL.1 q (by omega)
    refine pk_le 25 q (fun h => absurd h (by omega)) (fun _ => ⟨vq, vq, fy_least (v := V q + L q) (by omega) (by rw [cq, r1, l1, lN_add]) ⟨vq, ?_⟩⟩)
    rw [cq]
    refine nm_e (nm_r (nI_1 _) (ih (q + 1) n _ (fun i => if i = q then fc_sat 1000001 (V q + L q) else V i) (by omega) (by omega) ⟨fun i hi => ?_, fun i i1 i2 => ?_⟩ (fun i i1 i2 => ?_) (fun i i1 i2 => ?_)))
    · by_cases e : i = q
      · subst e; rw [pk_uLs]; simp only [if_true]; exact ⟨trivial, fc_sat_le _ _⟩
      · rw [pk_uLn e]; simp only [e, if_false]; exact h1.1 i hi
    · show (if i = q then fc_sat 1000001 (V q + L q) else V i) = 0
      by_cases e : i = q
      · rw [if_pos e, ← e, h1.2 i i1 i2, hL.2 i i1 i2]; rfl
      · rw [if_neg e]; exact h1.2 i i1 i2
    · show fc_cg 1000001 (if i = q then fc_sat 1000001 (V q + L q) else V i) _
      by_cases e : i = q
      · subst e; rw [if_pos rfl]; exact fc_tr (fc_sat_cg _ _) (fc_ad (h3 i (Nat.le_refl _) i2) fc_rf)
      · rw [if_neg e]; exact h2 i (by omega) i2
    · show fc_cg 1000001 (if i = q then fc_sat 1000001 (V q + L q) else V i) _
      rw [if_neg (by omega)]; exact h3 i (by omega) i2
theorem fy_ci58 {post : SY → Prop} {a k : Nat} {V0 c : Nat → Nat} (G : fd_G g b_items b_signs b_sizes b_ruleOf b_text) (NR : fy_NR b_derivations) (ha : a < fd_n g) (hk : k < fd_L g a) (hst : 1 < fd_S g a k → ∀ p, p ≤ fd_m g → fc_b g (fy_D b_derivations) (fd_W g a k) p p = 0)
    (hc : 1 < fd_S g a k → ∀ q, q ≤ fd_m g → fc_rep (fc_b g (fy_D b_derivations) (fd_W g a k)) c q = fc_it g (fy_D b_derivations) a k V0 q)
    (K : ∀ ro la ne V, fy_V g ro V → (∀ q, q ≤ fd_m g → fc_cg 1000001 (V q) (fc_it g (fy_D b_derivations) a k V0 q)) → post (nI (fd_n g), nI (fd_m g), g_known, g_counted, g_places, g_best, g_made, g_faults, g_place, g_depth, g_much, b_ruleOf, b_sizes, b_items, b_signs, b_text, b_ends, b_far, b_empty, b_begins, b_starts, b_follow, b_derivations, ro, la, ne, b_nodes, b_errors, b_openNode, b_openAlt, b_openItem, b_came, b_sum)) :
    ∀ d t n ro la ne V W (R L : Nat → Nat), t + d = fd_m g + 1 → d + 1 < n → fy_V g ro V → fy_V g la W → (∀ q, q ≤ fd_m g → fc_cg 1000001 (V q) (R q)) → (∀ q, q ≤ fd_m g → fc_cg 1000001 (W q) (L q)) →
      (fd_S g a k < 2 → ∀ q, q ≤ fd_m g → fc_it g (fy_D b_derivations) a k V0 q = R q + fc_on (fc_b g (fy_D b_derivations) (fd_W g a k)) L q) →
      (1 < fd_S g a k → (∀ q, q ≤ fd_m g → c q + fc_on (fc_b g (fy_D b_derivations) (fd_W g a k)) R q = R q + fc_on (fc_b g (fy_D b_derivations) (fd_W g a k)) L q) ∧ ∀ q, q < t → q ≤ fd_m g → L q = 0) →
      wY_countItem_58 post (nI (fd_W g a k)) (nI (fd_S g a k)) n 1 (nI (fd_n g)) (nI (fd_m g)) g_known g_counted g_places g_best g_made g_faults g_place g_depth g_much b_ruleOf b_sizes b_items b_signs b_text b_ends b_far b_empty b_begins b_starts b_follow b_derivations ro la ne b_nodes b_errors b_openNode b_openAlt b_openItem b_came b_sum := by
  have m24 := fd_m24 G
  have w14 := fd_W14 G ha hk
  have s4 := fd_S4 G ha hk
  have body : ∀ t n ro la ne V W (R L : Nat → Nat), fy_V g ro V → fy_V g la W → (∀ q, q ≤ fd_m g → fc_cg 1000001 (V q) (R q)) → (∀ q, q ≤ fd_m g → fc_cg 1000001 (W q) (L q)) →
      (fd_S g a k < 2 → ∀ q, q ≤ fd_m g → fc_it g (fy_D b_derivations) a k V0 q = R q + fc_on (fc_b g (fy_D b_derivations) (fd_W g a k)) L q) →
      (1 < fd_S g a k → (∀ q, q ≤ fd_m g → c q + fc_on (fc_b g (fy_D b_derivations) (fd_W g a k)) R q = R q + fc_on (fc_b g (fy_D b_derivations) (fd_W g a k)) L q) ∧ ∀ q, q < t → q ≤ fd_m g → L q = 0) →
      (∀ ro' la' ne' V' W', fy_V g ro' V' → fy_V g la' W' → (∀ q, q ≤ fd_m g → fc_cg 1000001 (V' q) (R q + fc_on (fc_b g (fy_D b_derivations) (fd_W g a k)) L q)) → (∀ q, q ≤ fd_m g → fc_cg 1000001 (W' q) (fc_on (fc_b g (fy_D b_derivations) (fd_W g a k)) L q)) → (∃ q, q < 25 ∧ W' q ≠ 0) → 1 < fd_S g a k →
        wY_countItem_58 post (nI (fd_W g a k)) (nI (fd_S g a k)) (n + 1) 1 (nI (fd_n g)) (nI (fd_m g)) g_known g_counted g_places g_best g_made g_faults g_place g_depth g_much b_ruleOf b_sizes b_items b_signs b_text b_ends b_far b_empty b_begins b_starts b_follow b_derivations ro' la' ne' b_nodes b_errors b_openNode b_openAlt b_openItem b_came b_sum) →
      wY_countItem_58 post (nI (fd_W g a k)) (nI (fd_S g a k)) (n + 2) 1 (nI (fd_n g)) (nI (fd_m g)) g_known g_counted g_places g_best g_made g_faults g_place g_depth g_much b_ruleOf b_sizes b_items b_signs b_text b_ends b_far b_empty b_begins b_starts b_follow b_derivations ro la ne b_nodes b_errors b_openNode b_openAlt b_openItem b_came b_sum := by
    intro t n ro la ne V W R L hV hW h1 h2 h3 h4 NX
    refine br_f (by decide) (fy_further G NR w14 hW (fun ne' la' N k1 k2 => ⟨26, ?_⟩))
    have k3 : ∀ q, q ≤ fd_m g → fc_cg 1000001 (N q) (fc_on (fc_b g (fy_D b_derivations) (fd_W g a k)) L q) := fun q hq => fc_tr (k2 q hq) (fc_on_cg (by omega) (fun p hp => h2 p (by omega)) (fun _ _ _ => fc_rf))
    refine fy_ci70 (b_layer := la') (R := V) (L := N) s4 m24 k1 (fun ro' V' j1 j2 => ⟨fun s2 => br_t rfl (K ro' la' ne' V' j1 (fun q hq => ?_)), fun s2 => ⟨fun hz => br_t rfl (K ro' la' ne' V' j1 (fun q hq => ?_)), fun hz => NX ro' la' ne' V' N j1 k1 (fun q hq => fc_tr (j2 q hq) (fc_ad (h1 q hq) (k3 q hq))) k3 hz (by omega)⟩⟩) 25 0 26 ro V (by omega) (by omega) hV (fun i hi => by omega) (fun i _ _ => fc_rf)
    · rw [h3 s2 q hq]
      exact fc_tr (j2 q hq) (fc_ad (h1 q hq) (k3 q hq))
    · obtain ⟨e1, e2⟩ := h4 (by omega)
      have z : ∀ q, q ≤ fd_m g → fc_on (fc_b g (fy_D b_derivations) (fd_W g a k)) L q = 0 := fun q hq => (fc_z (by omega) (k3 q hq)).mp (hz q (by omega))
      rw [← hc (by omega) q hq, ← fc_end (hst (by omega)) (R := R) (fun q hq => by rw [e1 q hq, z q hq, Nat.add_zero]) q hq]
      have := j2 q hq
      rw [hz q (by omega), Nat.add_zero] at this
      exact fc_tr this (h1 q hq)
  intro d
  induction d with
  | zero =>
    intro t n ro la ne V W R L ht hn hV hW h1 h2 h3 h4
    obtain ⟨n, rfl⟩ : ∃ k, n = k + 2 := ⟨n - 2, by omega⟩
    refine body t n ro la ne V W R L hV hW h1 h2 h3 h4 (fun ro' la' ne' V' W' j1 j2 j3 j4 hz s2 => ?_)
    obtain ⟨q, hq, hn0⟩ := hz
    apply absurd _ hn0
    rcases Nat.lt_or_ge (fd_m g) q with y | y
    · exact j2.2 q y hq
    · refine (fc_z (by omega) (j4 q y)).mpr (fc_sum_z _ (fun p hp => ?_))
      rw [(h4 s2).2 p (by omega) (by omega), Nat.zero_mul]
  | succ d ih =>
    intro t n ro la ne V W R L ht hn hV hW h1 h2 h3 h4
    obtain ⟨n, rfl⟩ : ∃ k, n = k + 2 := ⟨n - 2, by omega⟩
    refine body t n ro la ne V W R L hV hW h1 h2 h3 h4 (fun ro' la' ne' V' W' j1 j2 j3 j4 hz s2 => ?_)
    obtain ⟨e1, e2⟩ := h4 s2
    refine ih (t + 1) (n + 1) ro' la' ne' V' W' (fun q => R q + fc_on (fc_b g (fy_D b_derivations) (fd_W g a k)) L q) (fun q => fc_on (fc_b g (fy_D b_derivations) (fd_W g a k)) L q) (by omega) (by omega) j1 j2 j3 j4 (fun z => by omega) (fun _ => ⟨fun q hq => ?_, fun q q1 q2 => ?_⟩)
    · rw [fc_on_ad, ← Nat.add_assoc, e1 q hq]
    · refine fc_sum_z _ (fun p hp => ?_)
      rcases Nat.lt_or_ge p t with y | y
      · rw [e2 p y (by omega), Nat.zero_mul]
      · have e : p = q := by omega
        subst e
        rw [hst s2 p q2, Nat.mul_zero]
theorem fy_ci37 {post : SY → Prop} {a k : Nat} {V0 : Nat → Nat} (G : fd_G g b_items b_signs b_sizes b_ruleOf b_text) (NR : fy_NR b_derivations) (ha : a < fd_n g) (hk : k < fd_L g a) (hst : 1 < fd_S g a k → ∀ p, p ≤ fd_m g → fc_b g (fy_D b_derivations) (fd_W g a k) p p = 0) (hL : fy_V g b_layer V0) (hs : fd_S g a k = 0 ∨ fd_S g a k = 3)
    (K : ∀ ro la ne V, fy_V g ro V → (∀ q, q ≤ fd_m g → fc_cg 1000001 (V q) (fc_it g (fy_D b_derivations) a k V0 q)) → post (nI (fd_n g), nI (fd_m g), g_known, g_counted, g_places, g_best, g_made, g_faults, g_place, g_depth, g_much, b_ruleOf, b_sizes, b_items, b_signs, b_text, b_ends, b_far, b_empty, b_begins, b_starts, b_follow, b_derivations, ro, la, ne, b_nodes, b_errors, b_openNode, b_openAlt, b_openItem, b_came, b_sum)) :
    ∀ d q n ro, q + d = 25 → d < n → (∀ i, i < q → ro i = 0) → wY_countItem_37 post (nI (fd_W g a k)) (nI (fd_S g a k)) (nI (fd_n g)) (nI (fd_m g)) g_known g_counted g_places g_best g_made g_faults g_place g_depth g_much n (nI q) b_ruleOf b_sizes b_items b_signs b_text b_ends b_far b_empty b_begins b_starts b_follow b_derivations ro b_layer b_next b_nodes b_errors b_openNode b_openAlt b_openItem b_came b_sum := by
  intro d
  induction d with
  | zero =>
    intro q n ro hq hn h
    obtain ⟨n, rfl⟩ : ∃ k, n = k + 1 := ⟨n - 1, by omega⟩
    refine pk_le 25 q (fun _ => ⟨fd_m g + 3, ?_⟩) (fun h => absurd h (by omega))
    refine fy_ci58 (V0 := V0) (c := fc_on (fc_b g (fy_D b_derivations) (fd_W g a k)) V0) G NR ha hk hst (fun s2 q hq => ?_) K (fd_m g + 1) 0 (fd_m g + 3) ro b_layer b_next (fun _ => 0) V0 (fun _ => 0) V0 (by omega) (by omega) ⟨fun i hi => ⟨h i (by omega), Nat.zero_le _⟩, fun _ _ _ => rfl⟩ hL (fun _ _ => fc_rf) (fun _ _ => fc_rf) (fun s2 q hq => ?_) (fun s2 => ⟨fun q hq => ?_, fun q q1 => by omega⟩)
    · rw [fc_it3 (by omega)]
    · rw [fc_it0 (by omega), Nat.zero_add]
    · have : fc_on (fc_b g (fy_D b_derivations) (fd_W g a k)) (fun _ => 0) q = 0 := fc_sum_z _ (fun p _ => Nat.zero_mul _)
      rw [this, Nat.add_zero, Nat.zero_add]
  | succ d ih =>
    intro q n ro hq hn h
    obtain ⟨n, rfl⟩ : ∃ k, n = k + 1 := ⟨n - 1, by omega⟩
    refine pk_le 25 q (fun h => absurd h (by omega)) (fun _ => ⟨vp_in_nI (by omega) (by omega), nm_r (e' := vp_updL ro q 0) (by rw [nI_clamp (by omega)]) (nm_r (nI_1 _) (ih (q + 1) n _ (by omega) (by omega) (fun i hi => ?_)))⟩)
    by_cases e : i = q
    · rw [e, pk_uLs]
    · rw [pk_uLn e]; exact h i (by omega)
theorem fy_ci2 {post : SY → Prop} {a k : Nat} {V0 : Nat → Nat} (G : fd_G g b_items b_signs b_sizes b_ruleOf b_text) (NR : fy_NR b_derivations) (ha : a < fd_n g) (hk : k < fd_L g a) (hst : 1 < fd_S g a k → ∀ p, p ≤ fd_m g → fc_b g (fy_D b_derivations) (fd_W g a k) p p = 0) (hV : fy_V g b_row V0)
    (K : ∀ ro la ne V, fy_V g ro V → (∀ q, q ≤ fd_m g → fc_cg 1000001 (V q) (fc_it g (fy_D b_derivations) a k V0 q)) → post (nI (fd_n g), nI (fd_m g), g_known, g_counted, g_places, g_best, g_made, g_faults, g_place, g_depth, g_much, b_ruleOf, b_sizes, b_items, b_signs, b_text, b_ends, b_far, b_empty, b_begins, b_starts, b_follow, b_derivations, ro, la, ne, b_nodes, b_errors, b_openNode, b_openAlt, b_openItem, b_came, b_sum)) :
    ∀ d q n la, q + d = 25 → d < n → (∀ i, i < q → la i = lN (V0 i)) → wY_countItem_2 post (nI (fd_W g a k)) (nI (fd_S g a k)) (nI (fd_n g)) (nI (fd_m g)) g_known g_counted g_places g_best g_made g_faults g_place g_depth g_much n (nI q) b_ruleOf b_sizes b_items b_signs b_text b_ends b_far b_empty b_begins b_starts b_follow b_derivations b_row la b_next b_nodes b_errors b_openNode b_openAlt b_openItem b_came b_sum := by
  have s4 := fd_S4 G ha hk
  intro d
  induction d with
  | zero =>
    intro q n la hq hn h
    obtain ⟨n, rfl⟩ : ∃ k, n = k + 1 := ⟨n - 1, by omega⟩
    have hL : fy_V g la V0 := ⟨fun i hi => ⟨h i (by omega), (hV.1 i hi).2⟩, hV.2⟩
    have c37 : (fd_S g a k = 0 ∨ fd_S g a k = 3) → ∃ n37, wY_countItem_37 post (nI (fd_W g a k)) (nI (fd_S g a k)) (nI (fd_n g)) (nI (fd_m g)) g_known g_counted g_places g_best g_made g_faults g_place g_depth g_much n37 (nI 0) b_ruleOf b_sizes b_items b_signs b_text b_ends b_far b_empty b_begins b_starts b_follow b_derivations b_row la b_next b_nodes b_errors b_openNode b_openAlt b_openItem b_came b_sum := fun hs => ⟨26, fy_ci37 (b_layer := la) G NR ha hk hst hL hs K 25 0 26 _ (by omega) (by omega) (fun i hi => by omega)⟩
    refine pk_le 25 q (fun _ => pk_eq (fd_S g a k) 0 (fun s0 => c37 (Or.inl s0)) (fun s0 => pk_eq (fd_S g a k) 3 (fun s3 => c37 (Or.inr s3)) (fun s3 => ⟨fd_m g + 3, ?_⟩))) (fun h => absurd h (by omega))
    refine fy_ci58 (V0 := V0) (c := V0) G NR ha hk hst (fun s2 q hq => ?_) K (fd_m g + 1) 0 (fd_m g + 3) b_row la b_next V0 V0 V0 V0 (by omega) (by omega) hV hL (fun _ _ => fc_rf) (fun _ _ => fc_rf) (fun s2 q hq => ?_) (fun s2 => ⟨fun q hq => rfl, fun q q1 => by omega⟩)
    · rw [fc_it2 (by omega)]
    · rw [fc_it1 (by omega)]
  | succ d ih =>
    intro q n la hq hn h
    obtain ⟨n, rfl⟩ : ∃ k, n = k + 1 := ⟨n - 1, by omega⟩
    have vq : vp_in (nI q) 25 := vp_in_nI (by omega) (by omega)
    refine pk_le 25 q (fun h => absurd h (by omega)) (fun _ => ⟨vq, vq, nm_r (e' := vp_updL la q (lN (V0 q))) (by rw [nI_clamp (by omega), (hV.1 q (by omega)).1]) (nm_r (nI_1 _) (ih (q + 1) n _ (by omega) (by omega) (fun i hi => ?_)))⟩)
    by_cases e : i = q
    · rw [e, pk_uLs]
    · rw [pk_uLn e]; exact h i (by omega)
theorem fy_countItem {post : SY → Prop} {a k : Nat} {V0 : Nat → Nat} (G : fd_G g b_items b_signs b_sizes b_ruleOf b_text) (NR : fy_NR b_derivations) (ha : a < fd_n g) (hk : k < fd_L g a) (hst : 1 < fd_S g a k → ∀ p, p ≤ fd_m g → fc_b g (fy_D b_derivations) (fd_W g a k) p p = 0) (hV : fy_V g b_row V0)
    (K : ∀ ro la ne V, fy_V g ro V → (∀ q, q ≤ fd_m g → fc_cg 1000001 (V q) (fc_it g (fy_D b_derivations) a k V0 q)) → post (nI (fd_n g), nI (fd_m g), g_known, g_counted, g_places, g_best, g_made, g_faults, g_place, g_depth, g_much, b_ruleOf, b_sizes, b_items, b_signs, b_text, b_ends, b_far, b_empty, b_begins, b_starts, b_follow, b_derivations, ro, la, ne, b_nodes, b_errors, b_openNode, b_openAlt, b_openItem, b_came, b_sum)) : wpY_countItem post (nI (fd_n g), nI (fd_m g), g_known, g_counted, g_places, g_best, g_made, g_faults, g_place, g_depth, g_much, b_ruleOf, b_sizes, b_items, b_signs, b_text, b_ends, b_far, b_empty, b_begins, b_starts, b_follow, b_derivations, b_row, b_layer, b_next, b_nodes, b_errors, b_openNode, b_openAlt, b_openItem, b_came, b_sum) (nI (fd_W g a k)) (nI (fd_S g a k)) :=
  ⟨26, fy_ci2 G NR ha hk hst hV K 25 0 26 _ (by omega) (by omega) (fun i hi => by omega)⟩
end
end
section
/-- sums by rule and place -/
def fy_SU (su : Nat → Int64) (M : Nat → Nat → Nat) : Prop := ∀ r q, r < 6 → q < 25 → su (25 * r + q) = lN (M r q) ∧ M r q ≤ 1000001
section
variable {g : fd_Gr}
variable {g_known g_counted g_places g_best g_made g_faults g_place g_depth g_much : Int32} {b_ruleOf b_sizes b_items b_signs b_text b_ends b_far b_empty b_begins b_starts b_follow b_nodes b_errors b_openNode b_openAlt b_openItem b_came : Nat → Int32} {b_derivations b_row b_layer b_next b_sum : Nat → Int64}
theorem fy_cf166 {post : SY → Prop} {i : Nat} {M : Nat → Nat → Nat} {de0 : Nat → Int64} (hi : i < 25) (hS : fy_SU b_sum M)
    (K : ∀ de, fy_NR de → (∀ r q, r < 6 → q < 25 → fy_D de r i q = M r q) → (∀ r p q, r < 6 → p < 25 → q < 25 → p ≠ i → fy_D de r p q = fy_D de0 r p q) → post (nI (fd_n g), nI (fd_m g), g_known, g_counted, g_places, g_best, g_made, g_faults, g_place, g_depth, g_much, b_ruleOf, b_sizes, b_items, b_signs, b_text, b_ends, b_far, b_empty, b_begins, b_starts, b_follow, de, b_row, b_layer, b_next, b_nodes, b_errors, b_openNode, b_openAlt, b_openItem, b_came, b_sum)) :
    ∀ d k n de, k + d = 150 → d < n → fy_NR de → (∀ r q, r < 6 → q < 25 → 25 * r + q < k → fy_D de r i q = M r q) → (∀ r p q, r < 6 → p < 25 → q < 25 → p ≠ i → fy_D de r p q = fy_D de0 r p q) →
      wY_countFrom_166 post (nI i) (nI (fd_n g)) (nI (fd_m g)) g_known g_counted g_places g_best g_made g_faults g_place g_depth g_much n (nI k) b_ruleOf b_sizes b_items b_signs b_text b_ends b_far b_empty b_begins b_starts b_follow de b_row b_layer b_next b_nodes b_errors b_openNode b_openAlt b_openItem b_came b_sum := by
  intro d
  induction d with
  | zero =>
    intro k n de hk hn h1 h2 h3
    obtain ⟨n, rfl⟩ : ∃ k, n = k + 1 := ⟨n - 1, by omega⟩
    exact pk_le 150 k (fun _ => K de h1 (fun r q hr hq => h2 r q hr hq (by omega)) h3) (fun h => absurd h (by omega))
  | succ d ih =>
    intro k n de hk hn h1 h2 h3
    obtain ⟨n, rfl⟩ : ∃ k, n = k + 1 := ⟨n - 1, by omega⟩
    have d25 : nI k / 25 = nI (k / 25) := by rw [show (25 : Int32) = nI 25 from rfl, pk_div (by omega) (by omega) (by omega)]
    have r25 : nI k - nI k / 25 * 25 = nI (k % 25) := by rw [show (25 : Int32) = nI 25 from rfl]; exact pk_rem (by omega) (by omega) (by omega)
    refine pk_le 150 k (fun h => absurd h (by omega)) (fun _ => ⟨by decide, by decide, vp_in_nI (by omega) (by omega), ?_⟩)
    rw [r25, d25, fx_625]
    refine ⟨vp_in_nI (by omega) (by omega), ?_⟩
    obtain ⟨s1, s2⟩ := hS (k / 25) (k % 25) (by omega) (by omega)
    rw [show 25 * (k / 25) + k % 25 = k from by omega] at s1
    refine nm_r (e' := vp_updL de (625 * (k / 25) + 25 * i + k % 25) (lN (M (k / 25) (k % 25)))) (by rw [nI_clamp (by omega), nI_clamp (by omega), s1]) (nm_r (nI_1 _) (ih (k + 1) n _ (by omega) (by omega) (fun j hj => ?_) (fun r q hr hq hl => ?_) (fun r p q hr hp hq hpi => ?_)))
    · by_cases e : j = 625 * (k / 25) + 25 * i + k % 25
      · rw [e, pk_uLs, fy_v_s (by omega)]; exact ⟨rfl, s2⟩
      · rw [pk_uLn e, fy_v_n e]; exact h1 j hj
    · unfold fy_D
      rw [if_pos hr]
      by_cases e : 25 * r + q = k
      · have e1 : r = k / 25 := by omega
        have e2 : q = k % 25 := by omega
        rw [e1, e2, fy_v_s (by omega)]
      · rw [fy_v_n (by omega)]
        have := h2 r q hr hq (by omega)
        unfold fy_D at this
        rw [if_pos hr] at this
        exact this
    · rw [← h3 r p q hr hp hq hpi]
      unfold fy_D
      rw [if_pos hr, if_pos hr, fy_v_n (by omega)]
theorem fy_cf104 {post : SY → Prop} {J24 : Int32 → Int32 → Int32 → Int32 → Int32 → Int32 → Int32 → Int32 → Int32 → Int32 → Int32 → Int32 → (Nat → Int32) → (Nat → Int32) → (Nat → Int32) → (Nat → Int32) → (Nat → Int32) → (Nat → Int32) → (Nat → Int32) → (Nat → Int32) → (Nat → Int32) → (Nat → Int32) → (Nat → Int32) → (Nat → Int64) → (Nat → Int64) → (Nat → Int64) → (Nat → Int64) → (Nat → Int32) → (Nat → Int32) → (Nat → Int32) → (Nat → Int32) → (Nat → Int32) → (Nat → Int32) → (Nat → Int64) → Prop} {i a : Nat} {V : Nat → Nat} {M : Nat → Nat → Nat} (G : fd_G g b_items b_signs b_sizes b_ruleOf b_text) (ha : a < fd_n g) (hV : fy_V g b_row V)
    (K : ∀ su M', fy_SU su M' → (∀ r q, r < 6 → q < 25 → fc_cg 1000001 (M' r q) (M r q + (if fd_R g a = r then V q else 0))) → J24 (nI (a + 1)) (nI (fd_n g)) (nI (fd_m g)) g_known g_counted g_places g_best g_made g_faults g_place g_depth g_much b_ruleOf b_sizes b_items b_signs b_text b_ends b_far b_empty b_begins b_starts b_follow b_derivations b_row b_layer b_next b_nodes b_errors b_openNode b_openAlt b_openItem b_came su) :
    ∀ d q n su M', q + d = 25 → d < n → fy_SU su M' → (∀ r j, r < 6 → j < q → fc_cg 1000001 (M' r j) (M r j + (if fd_R g a = r then V j else 0))) → (∀ r j, r < 6 → q ≤ j → j < 25 → M' r j = M r j) →
      wY_countFrom_104 post J24 (nI i) (nI a) (nI (fd_n g)) (nI (fd_m g)) g_known g_counted g_places g_best g_made g_faults g_place g_depth g_much n (nI q) b_ruleOf b_sizes b_items b_signs b_text b_ends b_far b_empty b_begins b_starts b_follow b_derivations b_row b_layer b_next b_nodes b_errors b_openNode b_openAlt b_openItem b_came su := by
  have n12 := fd_n12 G
  have r6 := fd_R6 G ha
  intro d
  induction d with
  | zero =>
    intro q n su M' hq hn h1 h2 h3
    obtain ⟨n, rfl⟩ : ∃ k, n = k + 1 := ⟨n - 1, by omega⟩
    exact pk_le 25 q (fun _ => nm_r (nI_1 _) (K su M' h1 (fun r j hr hj => h2 r j hr (by omega)))) (fun h => absurd h (by omega))
  | succ d ih =>
    intro q n su M' hq hn h1 h2 h3
    obtain ⟨n, rfl⟩ : ∃ k, n = k + 1 := ⟨n - 1, by omega⟩
    have va : vp_in (nI a) 12 := vp_in_nI (by omega) (by omega)
    obtain ⟨m1, m2⟩ := h1 (fd_R g a) q r6 (by omega)
    obtain ⟨v1, v2⟩ := hV.1 q (by omega)
    refine pk_le 25 q (fun h => absurd h (by omega)) (fun _ => ⟨va, va, ?_⟩)
    rw [fx_ru G ha, fx_25]
    have vk : vp_in (nI (25 * fd_R g a + q)) 150 := vp_in_nI (by omega) (by omega)
    refine ⟨vk, vp_in_nI (by omega) (by omega), ?_⟩
    rw [show (nI (25 * fd_R g a + q)).toNatClampNeg = 25 * fd_R g a + q from nI_clamp (by omega), show (nI q).toNatClampNeg = q from nI_clamp (by omega)]
    refine fy_least (v := M' (fd_R g a) q + V q) (by omega) (by rw [m1, v1, lN_add]) ⟨vk, nm_e (nm_r (nI_1 _) (ih (q + 1) n _ (fun r j => if r = fd_R g a ∧ j = q then fc_sat 1000001 (M' (fd_R g a) q + V q) else M' r j) (by omega) (by omega) (fun r j hr hj => ?_) (fun r j hr hj => ?_) (fun r j hr hj1 hj2 => ?_)))⟩
    · show vp_updL su (25 * fd_R g a + q) (lN (fc_sat 1000001 (M' (fd_R g a) q + V q))) (25 * r + j) = lN (if r = fd_R g a ∧ j = q then _ else M' r j) ∧ (if r = fd_R g a ∧ j = q then _ else M' r j) ≤ 1000001
      by_cases e : r = fd_R g a ∧ j = q
      · rw [if_pos e, e.1, e.2, pk_uLs]; exact ⟨rfl, fc_sat_le _ _⟩
      · rw [if_neg e, pk_uLn (by omega)]; exact h1 r j hr hj
    · show fc_cg 1000001 (if r = fd_R g a ∧ j = q then _ else M' r j) _
      by_cases e : j = q
      · subst e
        by_cases e2 : fd_R g a = r
        · rw [if_pos ⟨e2.symm, rfl⟩, if_pos e2, e2, h3 r j hr (Nat.le_refl _) (by omega)]
          exact fc_sat_cg _ _
        · rw [if_neg (fun z => e2 z.1.symm), if_neg e2, h3 r j hr (Nat.le_refl _) (by omega), Nat.add_zero]
          exact fc_rf
      · rw [if_neg (fun z => e z.2)]; exact h2 r j hr (by omega)
    · show (if r = fd_R g a ∧ j = q then _ else M' r j) = M r j
      rw [if_neg (by omega)]; exact h3 r j hr (by omega) hj2
theorem fy_cf66 {post : SY → Prop} {J24 : Int32 → Int32 → Int32 → Int32 → Int32 → Int32 → Int32 → Int32 → Int32 → Int32 → Int32 → Int32 → (Nat → Int32) → (Nat → Int32) → (Nat → Int32) → (Nat → Int32) → (Nat → Int32) → (Nat → Int32) → (Nat → Int32) → (Nat → Int32) → (Nat → Int32) → (Nat → Int32) → (Nat → Int32) → (Nat → Int64) → (Nat → Int64) → (Nat → Int64) → (Nat → Int64) → (Nat → Int32) → (Nat → Int32) → (Nat → Int32) → (Nat → Int32) → (Nat → Int32) → (Nat → Int32) → (Nat → Int64) → Prop} {i a : Nat} (G : fd_G g b_items b_signs b_sizes b_ruleOf b_text) (NR : fy_NR b_derivations) (ha : a < fd_n g) (hst : ∀ k, k < fd_L g a → 1 < fd_S g a k → ∀ p, p ≤ fd_m g → fc_b g (fy_D b_derivations) (fd_W g a k) p p = 0)
    (K : ∀ ro la ne V, fy_V g ro V → (∀ q, q ≤ fd_m g → fc_cg 1000001 (V q) (fc_al g (fy_D b_derivations) a i (fd_L g a) q)) → ∃ n, wY_countFrom_104 post J24 (nI i) (nI a) (nI (fd_n g)) (nI (fd_m g)) g_known g_counted g_places g_best g_made g_faults g_place g_depth g_much n (nI 0) b_ruleOf b_sizes b_items b_signs b_text b_ends b_far b_empty b_begins b_starts b_follow b_derivations ro la ne b_nodes b_errors b_openNode b_openAlt b_openItem b_came b_sum) :
    ∀ d k n ro la ne V, k + d = fd_L g a → d < n → fy_V g ro V → (∀ q, q ≤ fd_m g → fc_cg 1000001 (V q) (fc_al g (fy_D b_derivations) a i k q)) →
      wY_countFrom_66 post J24 (nI i) (nI a) n (nI (5 * a + k)) (nI (fd_n g)) (nI (fd_m g)) g_known g_counted g_places g_best g_made g_faults g_place g_depth g_much b_ruleOf b_sizes b_items b_signs b_text b_ends b_far b_empty b_begins b_starts b_follow b_derivations ro la ne b_nodes b_errors b_openNode b_openAlt b_openItem b_came b_sum := by
  have n12 := fd_n12 G
  have l5 := fd_L5 G ha
  have e5 : (5 : Int32) * nI a + b_sizes (nI a).toNatClampNeg = nI (5 * a + fd_L g a) := by rw [fx_le G ha, fx_5]
  intro d
  induction d with
  | zero =>
    intro k n ro la ne V hk hn h1 h2
    obtain ⟨n, rfl⟩ : ∃ k, n = k + 1 := ⟨n - 1, by omega⟩
    have e : k = fd_L g a := by omega
    subst e
    exact ⟨vp_in_nI (by omega) (by omega), pk_le (5 * a + fd_L g a) (5 * a + fd_L g a) (fun _ => K ro la ne V h1 h2) (fun h => absurd h (by omega)) (hx := e5)⟩
  | succ d ih =>
    intro k n ro la ne V hk hn h1 h2
    obtain ⟨n, rfl⟩ : ∃ k, n = k + 1 := ⟨n - 1, by omega⟩
    have hkl : k < fd_L g a := by omega
    have vi := fx_in G ha hkl
    refine ⟨vp_in_nI (by omega) (by omega), pk_le (5 * a + fd_L g a) (5 * a + k) (fun h => absurd h (by omega)) (fun _ => ⟨vi, vi, ?_⟩) (hx := e5)⟩
    rw [fx_wh G ha hkl, fx_sg G ha hkl]
    exact fy_countItem G NR ha hkl (hst k hkl) h1 (fun ro' la' ne' V' j1 j2 => nm_r (nI_1 _) (ih (k + 1) n ro' la' ne' V' (by omega) (by omega) j1 (fun q hq => fc_tr (j2 q hq) (fc_it_cg (by omega) h2 q hq))))
theorem fy_cf34 {post : SY → Prop} {J24 : Int32 → Int32 → Int32 → Int32 → Int32 → Int32 → Int32 → Int32 → Int32 → Int32 → Int32 → Int32 → (Nat → Int32) → (Nat → Int32) → (Nat → Int32) → (Nat → Int32) → (Nat → Int32) → (Nat → Int32) → (Nat → Int32) → (Nat → Int32) → (Nat → Int32) → (Nat → Int32) → (Nat → Int32) → (Nat → Int64) → (Nat → Int64) → (Nat → Int64) → (Nat → Int64) → (Nat → Int32) → (Nat → Int32) → (Nat → Int32) → (Nat → Int32) → (Nat → Int32) → (Nat → Int32) → (Nat → Int64) → Prop} {i a : Nat} (G : fd_G g b_items b_signs b_sizes b_ruleOf b_text) (NR : fy_NR b_derivations) (hi : i ≤ fd_m g) (ha : a < fd_n g) (hst : ∀ k, k < fd_L g a → 1 < fd_S g a k → ∀ p, p ≤ fd_m g → fc_b g (fy_D b_derivations) (fd_W g a k) p p = 0)
    (K : ∀ ro la ne V, fy_V g ro V → (∀ q, q ≤ fd_m g → fc_cg 1000001 (V q) (fc_al g (fy_D b_derivations) a i (fd_L g a) q)) → ∃ n, wY_countFrom_104 post J24 (nI i) (nI a) (nI (fd_n g)) (nI (fd_m g)) g_known g_counted g_places g_best g_made g_faults g_place g_depth g_much n (nI 0) b_ruleOf b_sizes b_items b_signs b_text b_ends b_far b_empty b_begins b_starts b_follow b_derivations ro la ne b_nodes b_errors b_openNode b_openAlt b_openItem b_came b_sum) :
    ∀ d q n ro, q + d = 25 → d < n → (∀ j, j < q → ro j = lN (if j = i then 1 else 0)) → wY_countFrom_34 post J24 (nI i) (nI a) (nI (fd_n g)) (nI (fd_m g)) g_known g_counted g_places g_best g_made g_faults g_place g_depth g_much n (nI q) b_ruleOf b_sizes b_items b_signs b_text b_ends b_far b_empty b_begins b_starts b_follow b_derivations ro b_layer b_next b_nodes b_errors b_openNode b_openAlt b_openItem b_came b_sum := by
  have m24 := fd_m24 G
  intro d
  induction d with
  | zero =>
    intro q n ro hq hn h
    obtain ⟨n, rfl⟩ : ∃ k, n = k + 1 := ⟨n - 1, by omega⟩
    refine pk_le 25 q (fun _ => nm_r (fx_5' a) ⟨fd_L g a + 1, ?_⟩) (fun h => absurd h (by omega))
    refine fy_cf66 G NR ha hst K (fd_L g a) 0 (fd_L g a + 1) ro b_layer b_next (fun j => if j = i then 1 else 0) (by omega) (by omega) ⟨fun j hj => ⟨h j (by omega), by show (if j = i then 1 else 0) ≤ 1000001; split <;> omega⟩, fun j j1 j2 => by show (if j = i then 1 else 0) = 0; rw [if_neg (by omega)]⟩ (fun q _ => fc_rf)
  | succ d ih =>
    intro q n ro hq hn h
    obtain ⟨n, rfl⟩ : ∃ k, n = k + 1 := ⟨n - 1, by omega⟩
    have vq : vp_in (nI q) 25 := vp_in_nI (by omega) (by omega)
    have cq : (nI q).toNatClampNeg = q := nI_clamp (by omega)
    refine pk_le 25 q (fun h => absurd h (by omega)) (fun _ => pk_eq q i (fun e => ⟨vq, nm_r (e' := vp_updL ro q 1) (by rw [cq]) (nm_r (nI_1 _) (ih (q + 1) n _ (by omega) (by omega) (fun j hj => ?_)))⟩) (fun e => ⟨vq, nm_r (e' := vp_updL ro q 0) (by rw [cq]) (nm_r (nI_1 _) (ih (q + 1) n _ (by omega) (by omega) (fun j hj => ?_)))⟩))
    · by_cases c : j = q
      · rw [c, pk_uLs, if_pos e]; rfl
      · rw [pk_uLn c]; exact h j (by omega)
    · by_cases c : j = q
      · rw [c, pk_uLs, if_neg e]; rfl
      · rw [pk_uLn c]; exact h j (by omega)
theorem fy_cf24 {post : SY → Prop} {i : Nat} (G : fd_G g b_items b_signs b_sizes b_ruleOf b_text) (NR : fy_NR b_derivations) (hb : ¬ fn_bad g) (hi : i ≤ fd_m g) (hZ : ∀ r p, p ≤ fd_m g → fy_D b_derivations r p p ≠ 0 → fn_N g r)
    (K : ∀ ro la ne su de, fy_NR de → (∀ r q, r < 6 → q ≤ fd_m g → fy_D de r i q = fc_sat 1000001 (fc_to g (fy_D b_derivations) r i q)) → (∀ r p q, r < 6 → p < 25 → q < 25 → p ≠ i → fy_D de r p q = fy_D b_derivations r p q) → post (nI (fd_n g), nI (fd_m g), g_known, g_counted, g_places, g_best, g_made, g_faults, g_place, g_depth, g_much, b_ruleOf, b_sizes, b_items, b_signs, b_text, b_ends, b_far, b_empty, b_begins, b_starts, b_follow, de, ro, la, ne, b_nodes, b_errors, b_openNode, b_openAlt, b_openItem, b_came, su)) :
    ∀ d a n ro la ne su (M : Nat → Nat → Nat), a + d = fd_n g → d < n → fy_SU su M → (∀ r q, r < 6 → q ≤ fd_m g → fc_cg 1000001 (M r q) (fc_sum (fun a => if fd_R g a = r then fc_al g (fy_D b_derivations) a i (fd_L g a) q else 0) a)) →
      wY_countFrom_24 post (nI i) n (nI a) (nI (fd_n g)) (nI (fd_m g)) g_known g_counted g_places g_best g_made g_faults g_place g_depth g_much b_ruleOf b_sizes b_items b_signs b_text b_ends b_far b_empty b_begins b_starts b_follow b_derivations ro la ne b_nodes b_errors b_openNode b_openAlt b_openItem b_came su := by
  have m24 := fd_m24 G
  have n12 := fd_n12 G
  intro d
  induction d with
  | zero =>
    intro a n ro la ne su M ha hn h1 h2
    obtain ⟨n, rfl⟩ : ∃ k, n = k + 1 := ⟨n - 1, by omega⟩
    have e : a = fd_n g := by omega
    subst e
    refine pk_le (fd_n g) (fd_n g) (fun _ => ⟨151, ?_⟩) (fun h => absurd h (by omega))
    refine fy_cf166 (de0 := b_derivations) (b_sum := su) (by omega) h1 (fun de k1 k2 k3 => K ro la ne su de k1 (fun r q hr hq => ?_) k3) 150 0 151 b_derivations (by omega) (by omega) NR (fun r q _ _ z => by omega) (fun _ _ _ _ _ _ _ => rfl)
    rw [k2 r q hr (by omega)]
    exact fc_le_e (h1 r q hr (by omega)).2 (h2 r q hr hq)
  | succ d ih =>
    intro a n ro la ne su M ha hn h1 h2
    obtain ⟨n, rfl⟩ : ∃ k, n = k + 1 := ⟨n - 1, by omega⟩
    refine pk_le (fd_n g) a (fun h => absurd h (by omega)) (fun hl => ⟨26, ?_⟩)
    have hst : ∀ k, k < fd_L g a → 1 < fd_S g a k → ∀ p, p ≤ fd_m g → fc_b g (fy_D b_derivations) (fd_W g a k) p p = 0 := by
      intro k hk s2 p hp
      apply Classical.byContradiction
      intro z
      obtain ⟨z1, z2⟩ := fc_b_ii z
      exact hb (Or.inr ⟨a, k, hl, hk, s2, z1, hZ _ p hp z2⟩)
    refine fy_cf34 (b_sum := su) G NR hi hl hst (fun ro' la' ne' V k1 k2 => ⟨26, ?_⟩) 25 0 26 _ (by omega) (by omega) (fun j hj => by omega)
    refine fy_cf104 (M := M) G hl k1 (fun su' M' j1 j2 => ih (a + 1) n ro' la' ne' su' M' (by omega) (by omega) j1 (fun r q hr hq => ?_)) 25 0 26 su M (by omega) (by omega) h1 (fun r j _ hj => by omega) (fun _ _ _ _ _ => rfl)
    rw [fc_sum_s]
    refine fc_tr (j2 r q hr (by omega)) (fc_ad (h2 r q hr hq) ?_)
    by_cases e : fd_R g a = r
    · rw [if_pos e, if_pos e]; exact k2 q hq
    · rw [if_neg e, if_neg e]; exact fc_rf
theorem fy_cf2 {post : SY → Prop} {i : Nat} (G : fd_G g b_items b_signs b_sizes b_ruleOf b_text) (NR : fy_NR b_derivations) (hb : ¬ fn_bad g) (hi : i ≤ fd_m g) (hZ : ∀ r p, p ≤ fd_m g → fy_D b_derivations r p p ≠ 0 → fn_N g r)
    (K : ∀ ro la ne su de, fy_NR de → (∀ r q, r < 6 → q ≤ fd_m g → fy_D de r i q = fc_sat 1000001 (fc_to g (fy_D b_derivations) r i q)) → (∀ r p q, r < 6 → p < 25 → q < 25 → p ≠ i → fy_D de r p q = fy_D b_derivations r p q) → post (nI (fd_n g), nI (fd_m g), g_known, g_counted, g_places, g_best, g_made, g_faults, g_place, g_depth, g_much, b_ruleOf, b_sizes, b_items, b_signs, b_text, b_ends, b_far, b_empty, b_begins, b_starts, b_follow, de, ro, la, ne, b_nodes, b_errors, b_openNode, b_openAlt, b_openItem, b_came, su)) :
    ∀ d k n su, k + d = 150 → d < n → (∀ j, j < k → su j = 0) → wY_countFrom_2 post (nI i) (nI (fd_n g)) (nI (fd_m g)) g_known g_counted g_places g_best g_made g_faults g_place g_depth g_much n (nI k) b_ruleOf b_sizes b_items b_signs b_text b_ends b_far b_empty b_begins b_starts b_follow b_derivations b_row b_layer b_next b_nodes b_errors b_openNode b_openAlt b_openItem b_came su := by
  intro d
  induction d with
  | zero =>
    intro k n su hk hn h
    obtain ⟨n, rfl⟩ : ∃ k, n = k + 1 := ⟨n - 1, by omega⟩
    refine pk_le 150 k (fun _ => ⟨fd_n g + 1, ?_⟩) (fun h => absurd h (by omega))
    exact fy_cf24 G NR hb hi hZ K (fd_n g) 0 (fd_n g + 1) b_row b_layer b_next su (fun _ _ => 0) (by omega) (by omega) (fun r q hr hq => ⟨h _ (by omega), Nat.zero_le _⟩) (fun _ _ _ _ => fc_rf)
  | succ d ih =>
    intro k n su hk hn h
    obtain ⟨n, rfl⟩ : ∃ k, n = k + 1 := ⟨n - 1, by omega⟩
    refine pk_le 150 k (fun h => absurd h (by omega)) (fun _ => ⟨vp_in_nI (by omega) (by omega), nm_r (e' := vp_updL su k 0) (by rw [nI_clamp (by omega)]) (nm_r (nI_1 _) (ih (k + 1) n _ (by omega) (by omega) (fun i hi => ?_)))⟩)
    by_cases e : i = k
    · rw [e, pk_uLs]
    · rw [pk_uLn e]; exact h i (by omega)
/-- row i after z rounds -/
def fy_YI (g : fd_Gr) (de : Nat → Int64) (i z : Nat) : Prop :=
  (∀ r p q, r < 6 → p ≤ q → q ≤ fd_m g → (i < p ∨ (p = i ∧ fc_rk g r < z)) → fc_cg 1000001 (fy_D de r p q) (fc_to g (fy_D de) r p q)) ∧ (∀ r p, p ≤ fd_m g → fy_D de r p p ≠ 0 → fn_N g r)
theorem fy_YI_s (G : fd_G g b_items b_signs b_sizes b_ruleOf b_text) (hb : ¬ fn_bad g) {de de' : Nat → Int64} {i z : Nat} (hi : i ≤ fd_m g) (I : fy_YI g de i z) (h1 : ∀ r q, r < 6 → q ≤ fd_m g → fy_D de' r i q = fc_sat 1000001 (fc_to g (fy_D de) r i q)) (h2 : ∀ r p q, r < 6 → p < 25 → q < 25 → p ≠ i → fy_D de' r p q = fy_D de r p q) : fy_YI g de' i (z + 1) := by
  have m24 := fd_m24 G
  obtain ⟨i1, i2⟩ := I
  refine ⟨fun r p q hr hpq hq hc => ?_, fun r p hp hz => ?_⟩
  · rcases hc with y | ⟨y, hk⟩
    · rw [h2 r p q hr (by omega) (by omega) (by omega)]
      refine fc_tr (i1 r p q hr hpq hq (Or.inl y)) (fc_to_cg (by omega) (fun w _ z => i2 w p (by omega) z) (fun a k ha hR hk h7 p' q' g1 g2 g3 g4 => ?_) hq)
      have w14 := fd_W14 G ha hk
      rw [h2 _ p' q' (by omega) (by omega) (by omega) (by omega)]; exact fc_rf
    · subst y
      rw [h1 r q hr hq]
      refine fc_tr (fc_sat_cg _ _) (fc_to_cg (by omega) (fun w _ z => i2 w p (by omega) z) (fun a k ha hR hk' h7 p' q' g1 g2 g3 g4 => ?_) hq)
      have w14 := fd_W14 G ha hk'
      rcases Nat.eq_or_lt_of_le g1 with y | y
      · subst y
        have lt := fc_rk_lt G hb (g4 rfl)
        rw [h1 _ q' (by omega) g3]
        exact fc_tr (i1 _ p q' (by omega) g2 g3 (Or.inr ⟨rfl, by omega⟩)) (fc_sy (fc_sat_cg _ _))
      · rw [h2 _ p' q' (by omega) (by omega) (by omega) (by omega)]; exact fc_rf
  · by_cases hr : r < 6
    · by_cases e : p = i
      · subst e
        rw [h1 r p hr hp] at hz
        refine fc_to_i (fun w _ z => i2 w p hp z) (fun y => hz ?_)
        rw [y]; rfl
      · rw [h2 r p p hr (by omega) (by omega) e] at hz
        exact i2 r p hp hz
    · unfold fy_D at hz; rw [if_neg hr] at hz; exact absurd rfl hz
theorem fy_ca46 {post : SY → Prop} {J40 : Int32 → Int32 → Int32 → Int32 → Int32 → Int32 → Int32 → Int32 → Int32 → Int32 → Int32 → Int32 → (Nat → Int32) → (Nat → Int32) → (Nat → Int32) → (Nat → Int32) → (Nat → Int32) → (Nat → Int32) → (Nat → Int32) → (Nat → Int32) → (Nat → Int32) → (Nat → Int32) → (Nat → Int32) → (Nat → Int64) → (Nat → Int64) → (Nat → Int64) → (Nat → Int64) → (Nat → Int32) → (Nat → Int32) → (Nat → Int32) → (Nat → Int32) → (Nat → Int32) → (Nat → Int32) → (Nat → Int64) → Prop} {i : Nat} (G : fd_G g b_items b_signs b_sizes b_ruleOf b_text) (hb : ¬ fn_bad g) (hi : i ≤ fd_m g)
    (K : ∀ ro la ne su de, fy_NR de → fy_YI g de i 7 → J40 (nI i + (-1)) (nI (fd_n g)) (nI (fd_m g)) g_known g_counted g_places g_best g_made g_faults g_place g_depth g_much b_ruleOf b_sizes b_items b_signs b_text b_ends b_far b_empty b_begins b_starts b_follow de ro la ne b_nodes b_errors b_openNode b_openAlt b_openItem b_came su) :
    ∀ d z n ro la ne su de, z + d = 7 → d < n → fy_NR de → fy_YI g de i z → wY_countAll_46 post J40 (nI i) n (nI z) (nI (fd_n g)) (nI (fd_m g)) g_known g_counted g_places g_best g_made g_faults g_place g_depth g_much b_ruleOf b_sizes b_items b_signs b_text b_ends b_far b_empty b_begins b_starts b_follow de ro la ne b_nodes b_errors b_openNode b_openAlt b_openItem b_came su := by
  intro d
  induction d with
  | zero =>
    intro z n ro la ne su de hz hn h1 h2
    obtain ⟨n, rfl⟩ : ∃ k, n = k + 1 := ⟨n - 1, by omega⟩
    have e : z = 7 := by omega
    subst e
    exact pk_le 7 7 (fun _ => nm_e (K ro la ne su de h1 h2)) (fun h => absurd h (by omega))
  | succ d ih =>
    intro z n ro la ne su de hz hn h1 h2
    obtain ⟨n, rfl⟩ : ∃ k, n = k + 1 := ⟨n - 1, by omega⟩
    refine pk_le 7 z (fun h => absurd h (by omega)) (fun _ => ?_)
    refine ⟨151, fy_cf2 (b_derivations := de) G h1 hb hi h2.2 (fun ro' la' ne' su' de' k1 k2 k3 => nm_r (nI_1 _) (ih (z + 1) n ro' la' ne' su' de' (by omega) (by omega) k1 (fy_YI_s G hb hi h2 k2 k3))) 150 0 151 su (by omega) (by omega) (fun j hj => by omega)⟩
theorem fy_ca40 {post : SY → Prop} (G : fd_G g b_items b_signs b_sizes b_ruleOf b_text) (hb : ¬ fn_bad g)
    (K : ∀ ro la ne su de, fy_NR de → fc_Sol g 1000001 (fy_D de) → post (nI (fd_n g), nI (fd_m g), g_known, g_counted, g_places, g_best, g_made, g_faults, g_place, g_depth, g_much, b_ruleOf, b_sizes, b_items, b_signs, b_text, b_ends, b_far, b_empty, b_begins, b_starts, b_follow, de, ro, la, ne, b_nodes, b_errors, b_openNode, b_openAlt, b_openItem, b_came, su)) :
    ∀ c n ro la ne su de, c ≤ fd_m g + 1 → c < n → fy_NR de → ((∀ r p q, r < 6 → p ≤ q → q ≤ fd_m g → c ≤ p → fc_cg 1000001 (fy_D de r p q) (fc_to g (fy_D de) r p q)) ∧ (∀ r p, p ≤ fd_m g → fy_D de r p p ≠ 0 → fn_N g r)) →
      wY_countAll_40 post n (nI c - 1) (nI (fd_n g)) (nI (fd_m g)) g_known g_counted g_places g_best g_made g_faults g_place g_depth g_much b_ruleOf b_sizes b_items b_signs b_text b_ends b_far b_empty b_begins b_starts b_follow de ro la ne b_nodes b_errors b_openNode b_openAlt b_openItem b_came su := by
  have m24 := fd_m24 G
  intro c
  induction c with
  | zero =>
    intro n ro la ne su de hc hn h1 h2
    obtain ⟨n, rfl⟩ : ∃ k, n = k + 1 := ⟨n - 1, by omega⟩
    exact br_t (by decide) (K ro la ne su de h1 ⟨fun r p q hr hpq hq => h2.1 r p q hr hpq hq (Nat.zero_le _), h2.2⟩)
  | succ c ih =>
    intro n ro la ne su de hc hn h1 h2
    obtain ⟨n, rfl⟩ : ∃ k, n = k + 1 := ⟨n - 1, by omega⟩
    rw [nI_pred]
    refine br_f (nI_pos (by omega)) ⟨8, ?_⟩
    refine fy_ca46 G hb (by omega) (fun ro' la' ne' su' de' k1 k2 => ?_) 7 0 8 ro la ne su de (by omega) (by omega) h1 ⟨fun r p q hr hpq hq hc => h2.1 r p q hr hpq hq (by omega), h2.2⟩
    rw [show nI c + (-1) = nI c - 1 from (Int32.sub_eq_add_neg _ _).symm]
    refine ih n ro' la' ne' su' de' (by omega) (by omega) k1 ⟨fun r p q hr hpq hq hcp => k2.1 r p q hr hpq hq ?_, k2.2⟩
    rcases Nat.eq_or_lt_of_le hcp with y | y
    · have := fc_rk_6 hb hr
      exact Or.inr ⟨y.symm, by omega⟩
    · exact Or.inl y
theorem fy_ca15 {post : SY → Prop} (G : fd_G g b_items b_signs b_sizes b_ruleOf b_text) (hb : ¬ fn_bad g)
    (K : ∀ ro la ne su de, fy_NR de → fc_Sol g 1000001 (fy_D de) → post (nI (fd_n g), nI (fd_m g), g_known, g_counted, g_places, g_best, g_made, g_faults, g_place, g_depth, g_much, b_ruleOf, b_sizes, b_items, b_signs, b_text, b_ends, b_far, b_empty, b_begins, b_starts, b_follow, de, ro, la, ne, b_nodes, b_errors, b_openNode, b_openAlt, b_openItem, b_came, su)) :
    ∀ d k n de, k + d = 3750 → d < n → (∀ j, j < k → de j = 0) → wY_countAll_15 post (nI (fd_n g)) (nI (fd_m g)) g_known g_counted g_places g_best g_made g_faults g_place g_depth g_much n (nI k) b_ruleOf b_sizes b_items b_signs b_text b_ends b_far b_empty b_begins b_starts b_follow de b_row b_layer b_next b_nodes b_errors b_openNode b_openAlt b_openItem b_came b_sum := by
  have m24 := fd_m24 G
  intro d
  induction d with
  | zero =>
    intro k n de hk hn h
    obtain ⟨n, rfl⟩ : ∃ k, n = k + 1 := ⟨n - 1, by omega⟩
    refine pk_le 3750 k (fun _ => ⟨fd_m g + 2, ?_⟩) (fun h => absurd h (by omega))
    have v0 : ∀ j, j < 3750 → fy_v de j = 0 := fun j hj => by unfold fy_v; rw [h j (by omega)]; rfl
    have key := fy_ca40 (post := post) G hb K (fd_m g + 1) (fd_m g + 2) b_row b_layer b_next b_sum de (Nat.le_refl _) (by omega) (fun j hj => by rw [v0 j hj, h j (by omega)]; exact ⟨rfl, by omega⟩) ⟨fun r p q _ hpq hq hc => by omega, fun r p hp hz => by
      unfold fy_D at hz
      split at hz
      · rw [v0 _ (by omega)] at hz; exact absurd rfl hz
      · exact absurd rfl hz⟩
    rw [nI_pred] at key
    exact key
  | succ d ih =>
    intro k n de hk hn h
    obtain ⟨n, rfl⟩ : ∃ k, n = k + 1 := ⟨n - 1, by omega⟩
    refine pk_le 3750 k (fun h => absurd h (by omega)) (fun _ => ⟨vp_in_nI (by omega) (by omega), nm_r (e' := vp_updL de k 0) (by rw [nI_clamp (by omega)]) (nm_r (nI_1 _) (ih (k + 1) n _ (by omega) (by omega) (fun i hi => ?_)))⟩)
    by_cases e : i = k
    · rw [e, pk_uLs]
    · rw [pk_uLn e]; exact h i (by omega)
/-- Y's numbers between two calls -/
def fy_C (g : fd_Gr) (co : Int32) (de : Nat → Int64) : Prop := co = 0 ∨ (co = 1 ∧ fy_NR de ∧ fc_Sol g 1000001 (fy_D de))
theorem fy_countAll {post : SY → Prop} (G : fd_G g b_items b_signs b_sizes b_ruleOf b_text) (hb : ¬ fn_bad g) (C : fy_C g g_counted b_derivations)
    (K : ∀ ro la ne su de, fy_NR de → fc_Sol g 1000001 (fy_D de) → post (nI (fd_n g), nI (fd_m g), g_known, 1, g_places, g_best, g_made, g_faults, g_place, g_depth, g_much, b_ruleOf, b_sizes, b_items, b_signs, b_text, b_ends, b_far, b_empty, b_begins, b_starts, b_follow, de, ro, la, ne, b_nodes, b_errors, b_openNode, b_openAlt, b_openItem, b_came, su)) : wpY_countAll post (nI (fd_n g), nI (fd_m g), g_known, g_counted, g_places, g_best, g_made, g_faults, g_place, g_depth, g_much, b_ruleOf, b_sizes, b_items, b_signs, b_text, b_ends, b_far, b_empty, b_begins, b_starts, b_follow, b_derivations, b_row, b_layer, b_next, b_nodes, b_errors, b_openNode, b_openAlt, b_openItem, b_came, b_sum) := by
  rcases C with rfl | ⟨rfl, C1, C2⟩
  · exact br_t rfl ⟨3751, fy_ca15 G hb K 3750 0 3751 _ (by omega) (by omega) (fun i hi => by omega)⟩
  · exact br_f (by decide) (K _ _ _ _ _ C1 C2)
end
end
section
/-- the draft -/
def fp_D (wh sg le wh' sg' le' : Nat → Int32) : Prop := ∃ (L : Nat) (DW DS : Nat → Nat), L ≤ 5 ∧ le 12 = nI L ∧ le' 12 = nI L ∧
  ∀ k, k < L → DW k < 14 ∧ DS k < 4 ∧ wh (60 + k) = nI (DW k) ∧ wh' (60 + k) = nI (DW k) ∧ sg (60 + k) = nI (DS k) ∧ sg' (60 + k) = nI (DS k)
/-- nodes and errors -/
def fp_N (nd : Nat) (nr na nf nt np nq no : Nat → Int32) : Prop := nd ≤ 60 ∧ ∀ i, i < nd → no (6 * i) = nr i ∧ no (6 * i + 1) = na i ∧ no (6 * i + 2) = nf i ∧ no (6 * i + 3) = nt i ∧ no (6 * i + 4) = np i ∧ no (6 * i + 5) = nq i
def fp_E (er : Nat) (ek ep ei e : Nat → Int32) : Prop := er ≤ 8 ∧ ∀ i, i < er → e (3 * i) = ek i ∧ e (3 * i + 1) = ep i ∧ e (3 * i + 2) = ei i
def fp_Q (g : fd_Gr) (nd er : Nat) (f_alternatives f_tokens f_studied f_empties f_bad f_kept f_busyCount f_fartherCount f_best f_counted f_depth f_place f_nodes f_errors f_much : Int32) (a_what a_sign a_length a_ruleOf a_text a_begins a_firsts a_been a_ends a_far a_begun a_todo a_busy a_farther a_number a_now a_then a_order a_openAlternative a_openItem a_openCame a_openNode a_nodeRule a_nodeAlternative a_nodeFrom a_nodeTo a_nodeParent a_nodeParts a_errorKind a_errorPlace a_errorItem : Nat → Int32) (g_alternatives g_size g_known g_counted g_places g_best g_made g_faults g_place g_depth g_much : Int32) (b_ruleOf b_sizes b_items b_signs b_text b_ends b_far b_empty b_begins b_starts b_follow : Nat → Int32) (b_derivations b_row b_layer b_next : Nat → Int64) (b_nodes b_errors b_openNode b_openAlt b_openItem b_came : Nat → Int32) (b_sum : Nat → Int64) : Prop :=
  fd_G g a_what a_sign a_length a_ruleOf a_text ∧ fd_G g b_items b_signs b_sizes b_ruleOf b_text ∧ fp_D a_what a_sign a_length b_items b_signs b_sizes ∧
  fx_S g f_studied f_empties f_bad a_begins a_firsts ∧ fy_L g g_known b_empty b_begins b_starts b_ends b_far ∧
  fx_A g f_kept f_busyCount f_fartherCount a_been a_ends a_far a_begun a_todo a_busy a_farther ∧ fx_C g f_counted a_number ∧ fy_C g g_counted b_derivations ∧
  fp_N nd a_nodeRule a_nodeAlternative a_nodeFrom a_nodeTo a_nodeParent a_nodeParts b_nodes ∧ fp_E er a_errorKind a_errorPlace a_errorItem b_errors
def fp_R (f_alternatives f_tokens f_studied f_empties f_bad f_kept f_busyCount f_fartherCount f_best f_counted f_depth f_place f_nodes f_errors f_much : Int32) (a_what a_sign a_length a_ruleOf a_text a_begins a_firsts a_been a_ends a_far a_begun a_todo a_busy a_farther a_number a_now a_then a_order a_openAlternative a_openItem a_openCame a_openNode a_nodeRule a_nodeAlternative a_nodeFrom a_nodeTo a_nodeParent a_nodeParts a_errorKind a_errorPlace a_errorItem : Nat → Int32) (g_alternatives g_size g_known g_counted g_places g_best g_made g_faults g_place g_depth g_much : Int32) (b_ruleOf b_sizes b_items b_signs b_text b_ends b_far b_empty b_begins b_starts b_follow : Nat → Int32) (b_derivations b_row b_layer b_next : Nat → Int64) (b_nodes b_errors b_openNode b_openAlt b_openItem b_came : Nat → Int32) (b_sum : Nat → Int64) : Prop := ∃ (g : fd_Gr) (nd er : Nat), f_alternatives = nI (fd_n g) ∧ f_tokens = nI (fd_m g) ∧ f_nodes = nI nd ∧ f_errors = nI er ∧ g_alternatives = nI (fd_n g) ∧ g_size = nI (fd_m g) ∧ g_made = nI nd ∧ g_faults = nI er ∧
  fp_Q g nd er f_alternatives f_tokens f_studied f_empties f_bad f_kept f_busyCount f_fartherCount f_best f_counted f_depth f_place f_nodes f_errors f_much a_what a_sign a_length a_ruleOf a_text a_begins a_firsts a_been a_ends a_far a_begun a_todo a_busy a_farther a_number a_now a_then a_order a_openAlternative a_openItem a_openCame a_openNode a_nodeRule a_nodeAlternative a_nodeFrom a_nodeTo a_nodeParent a_nodeParts a_errorKind a_errorPlace a_errorItem g_alternatives g_size g_known g_counted g_places g_best g_made g_faults g_place g_depth g_much b_ruleOf b_sizes b_items b_signs b_text b_ends b_far b_empty b_begins b_starts b_follow b_derivations b_row b_layer b_next b_nodes b_errors b_openNode b_openAlt b_openItem b_came b_sum
def i_Rel (_ : Nat) (u : SX) (v : SY) : Prop := fp_R u.1 u.2.1 u.2.2.1 u.2.2.2.1 u.2.2.2.2.1 u.2.2.2.2.2.1 u.2.2.2.2.2.2.1 u.2.2.2.2.2.2.2.1 u.2.2.2.2.2.2.2.2.1 u.2.2.2.2.2.2.2.2.2.1 u.2.2.2.2.2.2.2.2.2.2.1 u.2.2.2.2.2.2.2.2.2.2.2.1 u.2.2.2.2.2.2.2.2.2.2.2.2.1 u.2.2.2.2.2.2.2.2.2.2.2.2.2.1 u.2.2.2.2.2.2.2.2.2.2.2.2.2.2.1 u.2.2.2.2.2.2.2.2.2.2.2.2.2.2.2.1 u.2.2.2.2.2.2.2.2.2.2.2.2.2.2.2.2.1 u.2.2.2.2.2.2.2.2.2.2.2.2.2.2.2.2.2.1 u.2.2.2.2.2.2.2.2.2.2.2.2.2.2.2.2.2.2.1 u.2.2.2.2.2.2.2.2.2.2.2.2.2.2.2.2.2.2.2.1 u.2.2.2.2.2.2.2.2.2.2.2.2.2.2.2.2.2.2.2.2.1 u.2.2.2.2.2.2.2.2.2.2.2.2.2.2.2.2.2.2.2.2.2.1 u.2.2.2.2.2.2.2.2.2.2.2.2.2.2.2.2.2.2.2.2.2.2.1 u.2.2.2.2.2.2.2.2.2.2.2.2.2.2.2.2.2.2.2.2.2.2.2.1 u.2.2.2.2.2.2.2.2.2.2.2.2.2.2.2.2.2.2.2.2.2.2.2.2.1 u.2.2.2.2.2.2.2.2.2.2.2.2.2.2.2.2.2.2.2.2.2.2.2.2.2.1 u.2.2.2.2.2.2.2.2.2.2.2.2.2.2.2.2.2.2.2.2.2.2.2.2.2.2.1 u.2.2.2.2.2.2.2.2.2.2.2.2.2.2.2.2.2.2.2.2.2.2.2.2.2.2.2.1 u.2.2.2.2.2.2.2.2.2.2.2.2.2.2.2.2.2.2.2.2.2.2.2.2.2.2.2.2.1 u.2.2.2.2.2.2.2.2.2.2.2.2.2.2.2.2.2.2.2.2.2.2.2.2.2.2.2.2.2.1 u.2.2.2.2.2.2.2.2.2.2.2.2.2.2.2.2.2.2.2.2.2.2.2.2.2.2.2.2.2.2.1 u.2.2.2.2.2.2.2.2.2.2.2.2.2.2.2.2.2.2.2.2.2.2.2.2.2.2.2.2.2.2.2.1 u.2.2.2.2.2.2.2.2.2.2.2.2.2.2.2.2.2.2.2.2.2.2.2.2.2.2.2.2.2.2.2.2.1 u.2.2.2.2.2.2.2.2.2.2.2.2.2.2.2.2.2.2.2.2.2.2.2.2.2.2.2.2.2.2.2.2.2.1 u.2.2.2.2.2.2.2.2.2.2.2.2.2.2.2.2.2.2.2.2.2.2.2.2.2.2.2.2.2.2.2.2.2.2.1 u.2.2.2.2.2.2.2.2.2.2.2.2.2.2.2.2.2.2.2.2.2.2.2.2.2.2.2.2.2.2.2.2.2.2.2.1 u.2.2.2.2.2.2.2.2.2.2.2.2.2.2.2.2.2.2.2.2.2.2.2.2.2.2.2.2.2.2.2.2.2.2.2.2.1 u.2.2.2.2.2.2.2.2.2.2.2.2.2.2.2.2.2.2.2.2.2.2.2.2.2.2.2.2.2.2.2.2.2.2.2.2.2.1 u.2.2.2.2.2.2.2.2.2.2.2.2.2.2.2.2.2.2.2.2.2.2.2.2.2.2.2.2.2.2.2.2.2.2.2.2.2.2.1 u.2.2.2.2.2.2.2.2.2.2.2.2.2.2.2.2.2.2.2.2.2.2.2.2.2.2.2.2.2.2.2.2.2.2.2.2.2.2.2.1 u.2.2.2.2.2.2.2.2.2.2.2.2.2.2.2.2.2.2.2.2.2.2.2.2.2.2.2.2.2.2.2.2.2.2.2.2.2.2.2.2.1 u.2.2.2.2.2.2.2.2.2.2.2.2.2.2.2.2.2.2.2.2.2.2.2.2.2.2.2.2.2.2.2.2.2.2.2.2.2.2.2.2.2.1 u.2.2.2.2.2.2.2.2.2.2.2.2.2.2.2.2.2.2.2.2.2.2.2.2.2.2.2.2.2.2.2.2.2.2.2.2.2.2.2.2.2.2.1 u.2.2.2.2.2.2.2.2.2.2.2.2.2.2.2.2.2.2.2.2.2.2.2.2.2.2.2.2.2.2.2.2.2.2.2.2.2.2.2.2.2.2.2.1 u.2.2.2.2.2.2.2.2.2.2.2.2.2.2.2.2.2.2.2.2.2.2.2.2.2.2.2.2.2.2.2.2.2.2.2.2.2.2.2.2.2.2.2.2.1 u.2.2.2.2.2.2.2.2.2.2.2.2.2.2.2.2.2.2.2.2.2.2.2.2.2.2.2.2.2.2.2.2.2.2.2.2.2.2.2.2.2.2.2.2.2 v.1 v.2.1 v.2.2.1 v.2.2.2.1 v.2.2.2.2.1 v.2.2.2.2.2.1 v.2.2.2.2.2.2.1 v.2.2.2.2.2.2.2.1 v.2.2.2.2.2.2.2.2.1 v.2.2.2.2.2.2.2.2.2.1 v.2.2.2.2.2.2.2.2.2.2.1 v.2.2.2.2.2.2.2.2.2.2.2.1 v.2.2.2.2.2.2.2.2.2.2.2.2.1 v.2.2.2.2.2.2.2.2.2.2.2.2.2.1 v.2.2.2.2.2.2.2.2.2.2.2.2.2.2.1 v.2.2.2.2.2.2.2.2.2.2.2.2.2.2.2.1 v.2.2.2.2.2.2.2.2.2.2.2.2.2.2.2.2.1 v.2.2.2.2.2.2.2.2.2.2.2.2.2.2.2.2.2.1 v.2.2.2.2.2.2.2.2.2.2.2.2.2.2.2.2.2.2.1 v.2.2.2.2.2.2.2.2.2.2.2.2.2.2.2.2.2.2.2.1 v.2.2.2.2.2.2.2.2.2.2.2.2.2.2.2.2.2.2.2.2.1 v.2.2.2.2.2.2.2.2.2.2.2.2.2.2.2.2.2.2.2.2.2.1 v.2.2.2.2.2.2.2.2.2.2.2.2.2.2.2.2.2.2.2.2.2.2.1 v.2.2.2.2.2.2.2.2.2.2.2.2.2.2.2.2.2.2.2.2.2.2.2.1 v.2.2.2.2.2.2.2.2.2.2.2.2.2.2.2.2.2.2.2.2.2.2.2.2.1 v.2.2.2.2.2.2.2.2.2.2.2.2.2.2.2.2.2.2.2.2.2.2.2.2.2.1 v.2.2.2.2.2.2.2.2.2.2.2.2.2.2.2.2.2.2.2.2.2.2.2.2.2.2.1 v.2.2.2.2.2.2.2.2.2.2.2.2.2.2.2.2.2.2.2.2.2.2.2.2.2.2.2.1 v.2.2.2.2.2.2.2.2.2.2.2.2.2.2.2.2.2.2.2.2.2.2.2.2.2.2.2.2.1 v.2.2.2.2.2.2.2.2.2.2.2.2.2.2.2.2.2.2.2.2.2.2.2.2.2.2.2.2.2.1 v.2.2.2.2.2.2.2.2.2.2.2.2.2.2.2.2.2.2.2.2.2.2.2.2.2.2.2.2.2.2.1 v.2.2.2.2.2.2.2.2.2.2.2.2.2.2.2.2.2.2.2.2.2.2.2.2.2.2.2.2.2.2.2.1 v.2.2.2.2.2.2.2.2.2.2.2.2.2.2.2.2.2.2.2.2.2.2.2.2.2.2.2.2.2.2.2.2
theorem i_up {k : Nat} {u : SX} {v : SY} (h : i_Rel k u v) : i_Rel (k + 4) u v := h
theorem fp_el1 {P : SX → SY → Prop} {k : Nat} {u : SX} {v : SY} (I : i_Rel k u v) (h : ∀ (f_alternatives f_tokens f_studied f_empties f_bad f_kept f_busyCount f_fartherCount f_best f_counted f_depth f_place f_nodes f_errors f_much : Int32) (a_what a_sign a_length a_ruleOf a_text a_begins a_firsts a_been a_ends a_far a_begun a_todo a_busy a_farther a_number a_now a_then a_order a_openAlternative a_openItem a_openCame a_openNode a_nodeRule a_nodeAlternative a_nodeFrom a_nodeTo a_nodeParent a_nodeParts a_errorKind a_errorPlace a_errorItem : Nat → Int32) (g_alternatives g_size g_known g_counted g_places g_best g_made g_faults g_place g_depth g_much : Int32) (b_ruleOf b_sizes b_items b_signs b_text b_ends b_far b_empty b_begins b_starts b_follow : Nat → Int32) (b_derivations b_row b_layer b_next : Nat → Int64) (b_nodes b_errors b_openNode b_openAlt b_openItem b_came : Nat → Int32) (b_sum : Nat → Int64), fp_R f_alternatives f_tokens f_studied f_empties f_bad f_kept f_busyCount f_fartherCount f_best f_counted f_depth f_place f_nodes f_errors f_much a_what a_sign a_length a_ruleOf a_text a_begins a_firsts a_been a_ends a_far a_begun a_todo a_busy a_farther a_number a_now a_then a_order a_openAlternative a_openItem a_openCame a_openNode a_nodeRule a_nodeAlternative a_nodeFrom a_nodeTo a_nodeParent a_nodeParts a_errorKind a_errorPlace a_errorItem g_alternatives g_size g_known g_counted g_places g_best g_made g_faults g_place g_depth g_much b_ruleOf b_sizes b_items b_signs b_text b_ends b_far b_empty b_begins b_starts b_follow b_derivations b_row b_layer b_next b_nodes b_errors b_openNode b_openAlt b_openItem b_came b_sum → P (f_alternatives, f_tokens, f_studied, f_empties, f_bad, f_kept, f_busyCount, f_fartherCount, f_best, f_counted, f_depth, f_place, f_nodes, f_errors, f_much, a_what, a_sign, a_length, a_ruleOf, a_text, a_begins, a_firsts, a_been, a_ends, a_far, a_begun, a_todo, a_busy, a_farther, a_number, a_now, a_then, a_order, a_openAlternative, a_openItem, a_openCame, a_openNode, a_nodeRule, a_nodeAlternative, a_nodeFrom, a_nodeTo, a_nodeParent, a_nodeParts, a_errorKind, a_errorPlace, a_errorItem) (g_alternatives, g_size, g_known, g_counted, g_places, g_best, g_made, g_faults, g_place, g_depth, g_much, b_ruleOf, b_sizes, b_items, b_signs, b_text, b_ends, b_far, b_empty, b_begins, b_starts, b_follow, b_derivations, b_row, b_layer, b_next, b_nodes, b_errors, b_openNode, b_openAlt, b_openItem, b_came, b_sum)) : P u v :=
  h u.1 u.2.1 u.2.2.1 u.2.2.2.1 u.2.2.2.2.1 u.2.2.2.2.2.1 u.2.2.2.2.2.2.1 u.2.2.2.2.2.2.2.1 u.2.2.2.2.2.2.2.2.1 u.2.2.2.2.2.2.2.2.2.1 u.2.2.2.2.2.2.2.2.2.2.1 u.2.2.2.2.2.2.2.2.2.2.2.1 u.2.2.2.2.2.2.2.2.2.2.2.2.1 u.2.2.2.2.2.2.2.2.2.2.2.2.2.1 u.2.2.2.2.2.2.2.2.2.2.2.2.2.2.1 u.2.2.2.2.2.2.2.2.2.2.2.2.2.2.2.1 u.2.2.2.2.2.2.2.2.2.2.2.2.2.2.2.2.1 u.2.2.2.2.2.2.2.2.2.2.2.2.2.2.2.2.2.1 u.2.2.2.2.2.2.2.2.2.2.2.2.2.2.2.2.2.2.1 u.2.2.2.2.2.2.2.2.2.2.2.2.2.2.2.2.2.2.2.1 u.2.2.2.2.2.2.2.2.2.2.2.2.2.2.2.2.2.2.2.2.1 u.2.2.2.2.2.2.2.2.2.2.2.2.2.2.2.2.2.2.2.2.2.1 u.2.2.2.2.2.2.2.2.2.2.2.2.2.2.2.2.2.2.2.2.2.2.1 u.2.2.2.2.2.2.2.2.2.2.2.2.2.2.2.2.2.2.2.2.2.2.2.1 u.2.2.2.2.2.2.2.2.2.2.2.2.2.2.2.2.2.2.2.2.2.2.2.2.1 u.2.2.2.2.2.2.2.2.2.2.2.2.2.2.2.2.2.2.2.2.2.2.2.2.2.1 u.2.2.2.2.2.2.2.2.2.2.2.2.2.2.2.2.2.2.2.2.2.2.2.2.2.2.1 u.2.2.2.2.2.2.2.2.2.2.2.2.2.2.2.2.2.2.2.2.2.2.2.2.2.2.2.1 u.2.2.2.2.2.2.2.2.2.2.2.2.2.2.2.2.2.2.2.2.2.2.2.2.2.2.2.2.1 u.2.2.2.2.2.2.2.2.2.2.2.2.2.2.2.2.2.2.2.2.2.2.2.2.2.2.2.2.2.1 u.2.2.2.2.2.2.2.2.2.2.2.2.2.2.2.2.2.2.2.2.2.2.2.2.2.2.2.2.2.2.1 u.2.2.2.2.2.2.2.2.2.2.2.2.2.2.2.2.2.2.2.2.2.2.2.2.2.2.2.2.2.2.2.1 u.2.2.2.2.2.2.2.2.2.2.2.2.2.2.2.2.2.2.2.2.2.2.2.2.2.2.2.2.2.2.2.2.1 u.2.2.2.2.2.2.2.2.2.2.2.2.2.2.2.2.2.2.2.2.2.2.2.2.2.2.2.2.2.2.2.2.2.1 u.2.2.2.2.2.2.2.2.2.2.2.2.2.2.2.2.2.2.2.2.2.2.2.2.2.2.2.2.2.2.2.2.2.2.1 u.2.2.2.2.2.2.2.2.2.2.2.2.2.2.2.2.2.2.2.2.2.2.2.2.2.2.2.2.2.2.2.2.2.2.2.1 u.2.2.2.2.2.2.2.2.2.2.2.2.2.2.2.2.2.2.2.2.2.2.2.2.2.2.2.2.2.2.2.2.2.2.2.2.1 u.2.2.2.2.2.2.2.2.2.2.2.2.2.2.2.2.2.2.2.2.2.2.2.2.2.2.2.2.2.2.2.2.2.2.2.2.2.1 u.2.2.2.2.2.2.2.2.2.2.2.2.2.2.2.2.2.2.2.2.2.2.2.2.2.2.2.2.2.2.2.2.2.2.2.2.2.2.1 u.2.2.2.2.2.2.2.2.2.2.2.2.2.2.2.2.2.2.2.2.2.2.2.2.2.2.2.2.2.2.2.2.2.2.2.2.2.2.2.1 u.2.2.2.2.2.2.2.2.2.2.2.2.2.2.2.2.2.2.2.2.2.2.2.2.2.2.2.2.2.2.2.2.2.2.2.2.2.2.2.2.1 u.2.2.2.2.2.2.2.2.2.2.2.2.2.2.2.2.2.2.2.2.2.2.2.2.2.2.2.2.2.2.2.2.2.2.2.2.2.2.2.2.2.1 u.2.2.2.2.2.2.2.2.2.2.2.2.2.2.2.2.2.2.2.2.2.2.2.2.2.2.2.2.2.2.2.2.2.2.2.2.2.2.2.2.2.2.1 u.2.2.2.2.2.2.2.2.2.2.2.2.2.2.2.2.2.2.2.2.2.2.2.2.2.2.2.2.2.2.2.2.2.2.2.2.2.2.2.2.2.2.2.1 u.2.2.2.2.2.2.2.2.2.2.2.2.2.2.2.2.2.2.2.2.2.2.2.2.2.2.2.2.2.2.2.2.2.2.2.2.2.2.2.2.2.2.2.2.1 u.2.2.2.2.2.2.2.2.2.2.2.2.2.2.2.2.2.2.2.2.2.2.2.2.2.2.2.2.2.2.2.2.2.2.2.2.2.2.2.2.2.2.2.2.2 v.1 v.2.1 v.2.2.1 v.2.2.2.1 v.2.2.2.2.1 v.2.2.2.2.2.1 v.2.2.2.2.2.2.1 v.2.2.2.2.2.2.2.1 v.2.2.2.2.2.2.2.2.1 v.2.2.2.2.2.2.2.2.2.1 v.2.2.2.2.2.2.2.2.2.2.1 v.2.2.2.2.2.2.2.2.2.2.2.1 v.2.2.2.2.2.2.2.2.2.2.2.2.1 v.2.2.2.2.2.2.2.2.2.2.2.2.2.1 v.2.2.2.2.2.2.2.2.2.2.2.2.2.2.1 v.2.2.2.2.2.2.2.2.2.2.2.2.2.2.2.1 v.2.2.2.2.2.2.2.2.2.2.2.2.2.2.2.2.1 v.2.2.2.2.2.2.2.2.2.2.2.2.2.2.2.2.2.1 v.2.2.2.2.2.2.2.2.2.2.2.2.2.2.2.2.2.2.1 v.2.2.2.2.2.2.2.2.2.2.2.2.2.2.2.2.2.2.2.1 v.2.2.2.2.2.2.2.2.2.2.2.2.2.2.2.2.2.2.2.2.1 v.2.2.2.2.2.2.2.2.2.2.2.2.2.2.2.2.2.2.2.2.2.1 v.2.2.2.2.2.2.2.2.2.2.2.2.2.2.2.2.2.2.2.2.2.2.1 v.2.2.2.2.2.2.2.2.2.2.2.2.2.2.2.2.2.2.2.2.2.2.2.1 v.2.2.2.2.2.2.2.2.2.2.2.2.2.2.2.2.2.2.2.2.2.2.2.2.1 v.2.2.2.2.2.2.2.2.2.2.2.2.2.2.2.2.2.2.2.2.2.2.2.2.2.1 v.2.2.2.2.2.2.2.2.2.2.2.2.2.2.2.2.2.2.2.2.2.2.2.2.2.2.1 v.2.2.2.2.2.2.2.2.2.2.2.2.2.2.2.2.2.2.2.2.2.2.2.2.2.2.2.1 v.2.2.2.2.2.2.2.2.2.2.2.2.2.2.2.2.2.2.2.2.2.2.2.2.2.2.2.2.1 v.2.2.2.2.2.2.2.2.2.2.2.2.2.2.2.2.2.2.2.2.2.2.2.2.2.2.2.2.2.1 v.2.2.2.2.2.2.2.2.2.2.2.2.2.2.2.2.2.2.2.2.2.2.2.2.2.2.2.2.2.2.1 v.2.2.2.2.2.2.2.2.2.2.2.2.2.2.2.2.2.2.2.2.2.2.2.2.2.2.2.2.2.2.2.1 v.2.2.2.2.2.2.2.2.2.2.2.2.2.2.2.2.2.2.2.2.2.2.2.2.2.2.2.2.2.2.2.2 I
theorem fp_el {P : SX → SY → Prop} {k : Nat} {u : SX} {v : SY} (I : i_Rel k u v) (h : ∀ (g : fd_Gr) (nd er : Nat) (f_alternatives f_tokens f_studied f_empties f_bad f_kept f_busyCount f_fartherCount f_best f_counted f_depth f_place f_nodes f_errors f_much : Int32) (a_what a_sign a_length a_ruleOf a_text a_begins a_firsts a_been a_ends a_far a_begun a_todo a_busy a_farther a_number a_now a_then a_order a_openAlternative a_openItem a_openCame a_openNode a_nodeRule a_nodeAlternative a_nodeFrom a_nodeTo a_nodeParent a_nodeParts a_errorKind a_errorPlace a_errorItem : Nat → Int32) (g_alternatives g_size g_known g_counted g_places g_best g_made g_faults g_place g_depth g_much : Int32) (b_ruleOf b_sizes b_items b_signs b_text b_ends b_far b_empty b_begins b_starts b_follow : Nat → Int32) (b_derivations b_row b_layer b_next : Nat → Int64) (b_nodes b_errors b_openNode b_openAlt b_openItem b_came : Nat → Int32) (b_sum : Nat → Int64), fp_Q g nd er (nI (fd_n g)) (nI (fd_m g)) f_studied f_empties f_bad f_kept f_busyCount f_fartherCount f_best f_counted f_depth f_place (nI nd) (nI er) f_much a_what a_sign a_length a_ruleOf a_text a_begins a_firsts a_been a_ends a_far a_begun a_todo a_busy a_farther a_number a_now a_then a_order a_openAlternative a_openItem a_openCame a_openNode a_nodeRule a_nodeAlternative a_nodeFrom a_nodeTo a_nodeParent a_nodeParts a_errorKind a_errorPlace a_errorItem (nI (fd_n g)) (nI (fd_m g)) g_known g_counted g_places g_best (nI nd) (nI er) g_place g_depth g_much b_ruleOf b_sizes b_items b_signs b_text b_ends b_far b_empty b_begins b_starts b_follow b_derivations b_row b_layer b_next b_nodes b_errors b_openNode b_openAlt b_openItem b_came b_sum → P (nI (fd_n g), nI (fd_m g), f_studied, f_empties, f_bad, f_kept, f_busyCount, f_fartherCount, f_best, f_counted, f_depth, f_place, nI nd, nI er, f_much, a_what, a_sign, a_length, a_ruleOf, a_text, a_begins, a_firsts, a_been, a_ends, a_far, a_begun, a_todo, a_busy, a_farther, a_number, a_now, a_then, a_order, a_openAlternative, a_openItem, a_openCame, a_openNode, a_nodeRule, a_nodeAlternative, a_nodeFrom, a_nodeTo, a_nodeParent, a_nodeParts, a_errorKind, a_errorPlace, a_errorItem) (nI (fd_n g), nI (fd_m g), g_known, g_counted, g_places, g_best, nI nd, nI er, g_place, g_depth, g_much, b_ruleOf, b_sizes, b_items, b_signs, b_text, b_ends, b_far, b_empty, b_begins, b_starts, b_follow, b_derivations, b_row, b_layer, b_next, b_nodes, b_errors, b_openNode, b_openAlt, b_openItem, b_came, b_sum)) : P u v := by
  refine fp_el1 I ?_
  intro f_alternatives f_tokens f_studied f_empties f_bad f_kept f_busyCount f_fartherCount f_best f_counted f_depth f_place f_nodes f_errors f_much a_what a_sign a_length a_ruleOf a_text a_begins a_firsts a_been a_ends a_far a_begun a_todo a_busy a_farther a_number a_now a_then a_order a_openAlternative a_openItem a_openCame a_openNode a_nodeRule a_nodeAlternative a_nodeFrom a_nodeTo a_nodeParent a_nodeParts a_errorKind a_errorPlace a_errorItem g_alternatives g_size g_known g_counted g_places g_best g_made g_faults g_place g_depth g_much b_ruleOf b_sizes b_items b_signs b_text b_ends b_far b_empty b_begins b_starts b_follow b_derivations b_row b_layer b_next b_nodes b_errors b_openNode b_openAlt b_openItem b_came b_sum
  rintro ⟨g, nd, er, rfl, rfl, rfl, rfl, rfl, rfl, rfl, rfl, q⟩
  exact h g nd er (nI (fd_n g)) (nI (fd_m g)) f_studied f_empties f_bad f_kept f_busyCount f_fartherCount f_best f_counted f_depth f_place (nI nd) (nI er) f_much a_what a_sign a_length a_ruleOf a_text a_begins a_firsts a_been a_ends a_far a_begun a_todo a_busy a_farther a_number a_now a_then a_order a_openAlternative a_openItem a_openCame a_openNode a_nodeRule a_nodeAlternative a_nodeFrom a_nodeTo a_nodeParent a_nodeParts a_errorKind a_errorPlace a_errorItem (nI (fd_n g)) (nI (fd_m g)) g_known g_counted g_places g_best (nI nd) (nI er) g_place g_depth g_much b_ruleOf b_sizes b_items b_signs b_text b_ends b_far b_empty b_begins b_starts b_follow b_derivations b_row b_layer b_next b_nodes b_errors b_openNode b_openAlt b_openItem b_came b_sum q
section
variable {g : fd_Gr} {nd er : Nat}
variable {f_studied f_empties f_bad f_kept f_busyCount f_fartherCount f_best f_counted f_depth f_place f_much : Int32} {a_what a_sign a_length a_ruleOf a_text a_begins a_firsts a_been a_ends a_far a_begun a_todo a_busy a_farther a_number a_now a_then a_order a_openAlternative a_openItem a_openCame a_openNode a_nodeRule a_nodeAlternative a_nodeFrom a_nodeTo a_nodeParent a_nodeParts a_errorKind a_errorPlace a_errorItem : Nat → Int32}
variable {g_known g_counted g_places g_best g_place g_depth g_much : Int32} {b_ruleOf b_sizes b_items b_signs b_text b_ends b_far b_empty b_begins b_starts b_follow b_nodes b_errors b_openNode b_openAlt b_openItem b_came : Nat → Int32} {b_derivations b_row b_layer b_next b_sum : Nat → Int64}
theorem fp_in {k : Nat} (q : fp_Q g nd er (nI (fd_n g)) (nI (fd_m g)) f_studied f_empties f_bad f_kept f_busyCount f_fartherCount f_best f_counted f_depth f_place (nI nd) (nI er) f_much a_what a_sign a_length a_ruleOf a_text a_begins a_firsts a_been a_ends a_far a_begun a_todo a_busy a_farther a_number a_now a_then a_order a_openAlternative a_openItem a_openCame a_openNode a_nodeRule a_nodeAlternative a_nodeFrom a_nodeTo a_nodeParent a_nodeParts a_errorKind a_errorPlace a_errorItem (nI (fd_n g)) (nI (fd_m g)) g_known g_counted g_places g_best (nI nd) (nI er) g_place g_depth g_much b_ruleOf b_sizes b_items b_signs b_text b_ends b_far b_empty b_begins b_starts b_follow b_derivations b_row b_layer b_next b_nodes b_errors b_openNode b_openAlt b_openItem b_came b_sum) : i_Rel k (nI (fd_n g), nI (fd_m g), f_studied, f_empties, f_bad, f_kept, f_busyCount, f_fartherCount, f_best, f_counted, f_depth, f_place, nI nd, nI er, f_much, a_what, a_sign, a_length, a_ruleOf, a_text, a_begins, a_firsts, a_been, a_ends, a_far, a_begun, a_todo, a_busy, a_farther, a_number, a_now, a_then, a_order, a_openAlternative, a_openItem, a_openCame, a_openNode, a_nodeRule, a_nodeAlternative, a_nodeFrom, a_nodeTo, a_nodeParent, a_nodeParts, a_errorKind, a_errorPlace, a_errorItem) (nI (fd_n g), nI (fd_m g), g_known, g_counted, g_places, g_best, nI nd, nI er, g_place, g_depth, g_much, b_ruleOf, b_sizes, b_items, b_signs, b_text, b_ends, b_far, b_empty, b_begins, b_starts, b_follow, b_derivations, b_row, b_layer, b_next, b_nodes, b_errors, b_openNode, b_openAlt, b_openItem, b_came, b_sum) := ⟨g, nd, er, rfl, rfl, rfl, rfl, rfl, rfl, rfl, rfl, q⟩
end
theorem i_vc0 : wpX_init (fun u => wpY_init (fun v => i_Rel 0 u v)) := by
  have G : fd_G (0, 0, fun _ => 0, fun _ => 0, fun _ _ => 0, fun _ _ => 0, fun _ => 0) (fun _ => 0) (fun _ => 0) (fun _ => 0) (fun _ => 0) (fun _ => 0) := ⟨Nat.zero_le _, Nat.zero_le _, fun a h => absurd h (Nat.not_lt_zero a), fun p h => absurd h (Nat.not_lt_zero p)⟩
  refine fp_in (k := 0) (g := (0, 0, fun _ => 0, fun _ => 0, fun _ _ => 0, fun _ _ => 0, fun _ => 0)) (nd := 0) (er := 0) ⟨G, G, ⟨0, fun _ => 0, fun _ => 0, by omega, rfl, rfl, fun k hk => by omega⟩, Or.inl rfl, Or.inl rfl, ⟨Or.inl rfl, rfl, rfl, fun _ _ => rfl, fun h => absurd h (by decide)⟩, ⟨fun k _ => ⟨rfl, by show (0 : Int32).toNatClampNeg ≤ 1000000; decide⟩, Or.inl rfl⟩, Or.inl rfl, ⟨by omega, fun i hi => by omega⟩, ⟨by omega, fun i hi => by omega⟩⟩
theorem i_vc_item {k : Nat} {u : SX} {v : SY} (I : i_Rel k u v) (hk : k + 4 ≤ 2048) (v1 : Int32) (v2 : Int32) : wpX_item (fun r u' => wpY_item (fun r' v' => r' = r ∧ i_Rel (k + 4) u' v') v v1 v2) u v1 v2 := by
  refine fp_el (P := fun u v => wpX_item (fun r u' => wpY_item (fun r' v' => r' = r ∧ i_Rel (k + 4) u' v') v v1 v2) u v1 v2) I ?_
  intro g nd er f_alternatives f_tokens f_studied f_empties f_bad f_kept f_busyCount f_fartherCount f_best f_counted f_depth f_place f_nodes f_errors f_much a_what a_sign a_length a_ruleOf a_text a_begins a_firsts a_been a_ends a_far a_begun a_todo a_busy a_farther a_number a_now a_then a_order a_openAlternative a_openItem a_openCame a_openNode a_nodeRule a_nodeAlternative a_nodeFrom a_nodeTo a_nodeParent a_nodeParts a_errorKind a_errorPlace a_errorItem g_alternatives g_size g_known g_counted g_places g_best g_made g_faults g_place g_depth g_much b_ruleOf b_sizes b_items b_signs b_text b_ends b_far b_empty b_begins b_starts b_follow b_derivations b_row b_layer b_next b_nodes b_errors b_openNode b_openAlt b_openItem b_came b_sum q
  have q0 := q
  obtain ⟨GX, GY, ⟨L, DW, DS, hL, x12, y12, hD⟩, S, LL, A, CX, CY, ND, ER⟩ := q
  have n12 := fd_n12 GX
  have e60 : (60 : Int32) + nI L = nI (60 + L) := by rw [show (60 : Int32) = nI 60 from rfl, nI_add]
  refine pk_eq L 5 (fun h5 => pk_eq L 5 (fun _ => ⟨rfl, fp_in q0⟩) (fun h => absurd h5 h) (hx := y12)) (fun h5 => ?_) (hx := x12)
  by_cases c1 : 0 ≤ v1 ∧ v1 ≤ 13
  · obtain ⟨w, hw, rfl⟩ := fx_of (n := 13) (by omega) c1.1 c1.2
    by_cases c2 : 0 ≤ v2 ∧ v2 ≤ 3
    · obtain ⟨s, hs, rfl⟩ := fx_of (n := 3) (by omega) c2.1 c2.2
      refine fx_out (fun _ _ => fx_out (fun _ _ => ?_) (fun h => absurd c2 h)) (fun h => absurd c1 h)
      have vi : vp_in (nI (60 + L)) 65 := vp_in_nI (by omega) (by omega)
      have e1 : (a_length 12 + 1).toInt8.toInt32 = nI (L + 1) := by rw [x12, nI_1, fb_nI8 _ (by omega)]
      refine nm_r (e' := nI (60 + L)) (by rw [x12, e60]) ⟨vi, nm_r (e' := upd a_what (60 + L) (nI w)) (by rw [nI_clamp (by omega), fb_vb2 (by omega)]) ⟨vi, nm_r (e' := upd a_sign (60 + L) (nI s)) (by rw [nI_clamp (by omega), fb_vb2 (by omega)]) (nm_r (e' := upd a_length 12 (nI (L + 1))) (by rw [e1, fb_vb (by omega)]) ?_)⟩⟩
      rw [e1]
      refine pk_eq L 5 (fun h => absurd h h5) (fun _ => fy_wi (fun _ _ => fy_wi (fun _ _ => ?_) (fun h => absurd c2 h)) (fun h => absurd c1 h)) (hx := y12)
      rw [y12, e60, nI_1]
      refine ⟨vi, nm_r (e' := upd b_items (60 + L) (nI w)) (by rw [nI_clamp (by omega)]) ⟨vi, nm_r (e' := upd b_signs (60 + L) (nI s)) (by rw [nI_clamp (by omega)]) (nm_e ⟨rfl, fp_in ⟨?_, ?_, ?_, S, LL, A, CX, CY, ND, ER⟩⟩)⟩⟩
      · refine ⟨GX.1, GX.2.1, fun a ha => ?_, GX.2.2.2⟩
        obtain ⟨g1, g2, g3, g4, g5⟩ := GX.2.2.1 a ha
        refine ⟨g1, g2, g3, by rw [pk_un (by omega)]; exact g4, fun j hj => ?_⟩
        rw [pk_un (by omega), pk_un (by omega)]; exact g5 j hj
      · refine ⟨GY.1, GY.2.1, fun a ha => ?_, GY.2.2.2⟩
        obtain ⟨g1, g2, g3, g4, g5⟩ := GY.2.2.1 a ha
        refine ⟨g1, g2, g3, by rw [pk_un (by omega)]; exact g4, fun j hj => ?_⟩
        rw [pk_un (by omega), pk_un (by omega)]; exact g5 j hj
      · refine ⟨L + 1, fun j => if j = L then w else DW j, fun j => if j = L then s else DS j, by omega, pk_us, pk_us, fun j hj => ?_⟩
        show (if j = L then w else DW j) < 14 ∧ (if j = L then s else DS j) < 4 ∧ _ = nI (if j = L then w else DW j) ∧ _ = nI (if j = L then w else DW j) ∧ _ = nI (if j = L then s else DS j) ∧ _ = nI (if j = L then s else DS j)
        by_cases e : j = L
        · subst e
          rw [if_pos rfl, if_pos rfl, pk_us, pk_us, pk_us, pk_us]
          exact ⟨by omega, by omega, rfl, rfl, rfl, rfl⟩
        · rw [if_neg e, if_neg e, pk_un (by omega), pk_un (by omega), pk_un (by omega), pk_un (by omega)]
          exact hD j (by omega)
    · refine fx_out (fun _ _ => fx_out (fun h1 h2 => absurd ⟨h1, h2⟩ c2) (fun _ => ?_)) (fun h => absurd c1 h)
      exact pk_eq L 5 (fun h => absurd h h5) (fun _ => fy_wi (fun _ _ => fy_wi (fun h1 h2 => absurd ⟨h1, h2⟩ c2) (fun _ => ⟨rfl, fp_in q0⟩)) (fun h => absurd c1 h)) (hx := y12)
  · refine fx_out (fun h1 h2 => absurd ⟨h1, h2⟩ c1) (fun _ => ?_)
    exact pk_eq L 5 (fun h => absurd h h5) (fun _ => fy_wi (fun h1 h2 => absurd ⟨h1, h2⟩ c1) (fun _ => ⟨rfl, fp_in q0⟩)) (hx := y12)
end
section
theorem fx_A_0 {g g' : fd_Gr} {ke bc fc : Int32} {be en fa bg td bu ft : Nat → Int32} (A : fx_A g ke bc fc be en fa bg td bu ft) : fx_A g' 0 bc fc be en fa bg td bu ft :=
  ⟨Or.inl rfl, A.2.1, A.2.2.1, A.2.2.2.1, fun h => absurd h (by decide)⟩
theorem fx_C_0 {g g' : fd_Gr} {co : Int32} {nu : Nat → Int32} (C : fx_C g co nu) : fx_C g' 0 nu := ⟨C.1, Or.inl rfl⟩
theorem i_vc_token {k : Nat} {u : SX} {v : SY} (I : i_Rel k u v) (hk : k + 4 ≤ 2048) (v1 : Int32) : wpX_token (fun r u' => wpY_token (fun r' v' => r' = r ∧ i_Rel (k + 4) u' v') v v1) u v1 := by
  refine fp_el (P := fun u v => wpX_token (fun r u' => wpY_token (fun r' v' => r' = r ∧ i_Rel (k + 4) u' v') v v1) u v1) I ?_
  intro g nd er f_alternatives f_tokens f_studied f_empties f_bad f_kept f_busyCount f_fartherCount f_best f_counted f_depth f_place f_nodes f_errors f_much a_what a_sign a_length a_ruleOf a_text a_begins a_firsts a_been a_ends a_far a_begun a_todo a_busy a_farther a_number a_now a_then a_order a_openAlternative a_openItem a_openCame a_openNode a_nodeRule a_nodeAlternative a_nodeFrom a_nodeTo a_nodeParent a_nodeParts a_errorKind a_errorPlace a_errorItem g_alternatives g_size g_known g_counted g_places g_best g_made g_faults g_place g_depth g_much b_ruleOf b_sizes b_items b_signs b_text b_ends b_far b_empty b_begins b_starts b_follow b_derivations b_row b_layer b_next b_nodes b_errors b_openNode b_openAlt b_openItem b_came b_sum q
  have q0 := q
  obtain ⟨n, m, R, L, W, Sg, T⟩ := g
  obtain ⟨GX, GY, DR, S, LL, A, CX, CY, ND, ER⟩ := q
  have m24 : m ≤ 24 := fd_m24 GX
  refine pk_eq m 24 (fun h => pk_eq m 24 (fun _ => ⟨rfl, fp_in q0⟩) (fun c => absurd h c)) (fun h => ?_)
  by_cases c1 : 0 ≤ v1 ∧ v1 ≤ 7
  · obtain ⟨w, hw, rfl⟩ := fx_of (n := 7) (by omega) c1.1 c1.2
    have vi : vp_in (nI m) 24 := vp_in_nI (by omega) (by omega)
    have cm : (nI m).toNatClampNeg = m := nI_clamp (by omega)
    refine fx_out (fun _ _ => nm_r (nI_1 m) ⟨vi, nm_r (e' := upd a_text m (nI w)) (by rw [show (nI (fd_m (n, m, R, L, W, Sg, T))).toNatClampNeg = m from cm, fb_vb2 (by omega)]) ?_⟩) (fun h => absurd c1 h)
    refine pk_eq m 24 (fun c => absurd c h) (fun _ => fy_wi (fun _ _ => nm_r (nI_1 m) ⟨vi, nm_r (e' := upd b_text m (nI w)) (by rw [show (nI (fd_m (n, m, R, L, W, Sg, T))).toNatClampNeg = m from cm]) ?_⟩) (fun h => absurd c1 h))
    have tx : ∀ tx : Nat → Int32, (∀ p, p < m → T p < 8 ∧ tx p = nI (T p)) → ∀ p, p < m + 1 → (if p = m then w else T p) < 8 ∧ upd tx m (nI w) p = nI (if p = m then w else T p) := by
      intro tx h p hp
      by_cases e : p = m
      · rw [if_pos e, e, pk_us]; exact ⟨by omega, rfl⟩
      · rw [if_neg e, pk_un e]; exact h p (by omega)
    refine ⟨rfl, fp_in (g := (n, m + 1, R, L, W, Sg, fun p => if p = m then w else T p)) ⟨⟨GX.1, by show m + 1 ≤ 24; omega, GX.2.2.1, tx _ GX.2.2.2⟩, ⟨GY.1, by show m + 1 ≤ 24; omega, GY.2.2.1, tx _ GY.2.2.2⟩, DR, S, Or.inl rfl, fx_A_0 A, fx_C_0 CX, Or.inl rfl, ND, ER⟩⟩
  · refine fx_out (fun h1 h2 => absurd ⟨h1, h2⟩ c1) (fun _ => ?_)
    exact pk_eq m 24 (fun c => absurd c h) (fun _ => fy_wi (fun h1 h2 => absurd ⟨h1, h2⟩ c1) (fun _ => ⟨rfl, fp_in q0⟩))
theorem i_vc_clear {k : Nat} {u : SX} {v : SY} (I : i_Rel k u v) (hk : k + 4 ≤ 2048) (v1 : Int32) : wpX_clear (fun r u' => wpY_clear (fun r' v' => r' = r ∧ i_Rel (k + 4) u' v') v v1) u v1 := by
  refine fp_el (P := fun u v => wpX_clear (fun r u' => wpY_clear (fun r' v' => r' = r ∧ i_Rel (k + 4) u' v') v v1) u v1) I ?_
  intro g nd er f_alternatives f_tokens f_studied f_empties f_bad f_kept f_busyCount f_fartherCount f_best f_counted f_depth f_place f_nodes f_errors f_much a_what a_sign a_length a_ruleOf a_text a_begins a_firsts a_been a_ends a_far a_begun a_todo a_busy a_farther a_number a_now a_then a_order a_openAlternative a_openItem a_openCame a_openNode a_nodeRule a_nodeAlternative a_nodeFrom a_nodeTo a_nodeParent a_nodeParts a_errorKind a_errorPlace a_errorItem g_alternatives g_size g_known g_counted g_places g_best g_made g_faults g_place g_depth g_much b_ruleOf b_sizes b_items b_signs b_text b_ends b_far b_empty b_begins b_starts b_follow b_derivations b_row b_layer b_next b_nodes b_errors b_openNode b_openAlt b_openItem b_came b_sum q
  have q0 := q
  obtain ⟨n, m, R, L, W, Sg, T⟩ := g
  obtain ⟨GX, GY, DR, S, LL, A, CX, CY, ND, ER⟩ := q
  have n12 : n ≤ 12 := fd_n12 GX
  have m24 : m ≤ 24 := fd_m24 GX
  by_cases c1 : 0 ≤ v1 ∧ v1 ≤ 3
  · obtain ⟨w, hw, rfl⟩ := fx_of (n := 3) (by omega) c1.1 c1.2
    refine fx_out (fun _ _ => ?_) (fun h => absurd c1 h)
    rcases (by omega : w = 0 ∨ w = 1 ∨ w = 2 ∨ w = 3) with rfl | rfl | rfl | rfl
    · refine br_t rfl (br_t rfl (br_f (by decide) (br_f (by decide) (br_f (by decide) (br_t rfl ?_)))))
      refine fy_wi (fun _ _ => br_t rfl (br_t rfl (br_f (by decide) (br_f (by decide) (br_f (by decide) ?_))))) (fun h => absurd c1 h)
      exact ⟨rfl, fp_in (g := (0, m, R, L, W, Sg, T)) ⟨⟨Nat.zero_le _, GX.2.1, fun a h => absurd h (Nat.not_lt_zero a), GX.2.2.2⟩, ⟨Nat.zero_le _, GY.2.1, fun a h => absurd h (Nat.not_lt_zero a), GY.2.2.2⟩, DR, Or.inl rfl, Or.inl rfl, fx_A_0 A, fx_C_0 CX, Or.inl rfl, ND, ER⟩⟩
    · refine br_f (by decide) (br_f (by decide) (br_f (by decide) (br_t rfl (br_f (by decide) (br_f (by decide) (br_f (by decide) ?_))))))
      refine fy_wi (fun _ _ => br_f (by decide) (br_f (by decide) (br_f (by decide) (br_t rfl (br_f (by decide) (br_f (by decide) ?_)))))) (fun h => absurd c1 h)
      exact ⟨rfl, fp_in (g := (n, 0, R, L, W, Sg, T)) ⟨⟨GX.1, Nat.zero_le _, GX.2.2.1, fun a h => absurd h (Nat.not_lt_zero a)⟩, ⟨GY.1, Nat.zero_le _, GY.2.2.1, fun a h => absurd h (Nat.not_lt_zero a)⟩, DR, S, Or.inl rfl, fx_A_0 A, fx_C_0 CX, Or.inl rfl, ND, ER⟩⟩
    · obtain ⟨l, DW, DS, hL, x12, y12, hD⟩ := DR
      refine br_f (by decide) (br_t rfl (br_f (by decide) (br_f (by decide) (br_t rfl (nm_r (e' := upd a_length 12 (nI 0)) (by rw [fb_v0]; rfl) (br_f (by decide) (br_f (by decide) ?_)))))))
      refine fy_wi (fun _ _ => br_f (by decide) (br_t rfl (br_f (by decide) (br_f (by decide) (br_t rfl (nm_r (e' := upd b_sizes 12 (nI 0)) rfl (br_f (by decide) ?_))))))) (fun h => absurd c1 h)
      refine ⟨by rw [x12, y12], fp_in (g := (n, m, R, L, W, Sg, T)) ⟨⟨GX.1, GX.2.1, fun a ha => ?_, GX.2.2.2⟩, ⟨GY.1, GY.2.1, fun a ha => ?_, GY.2.2.2⟩, ⟨0, DW, DS, by omega, pk_us, pk_us, fun j hj => by omega⟩, S, Or.inl rfl, fx_A_0 A, fx_C_0 CX, Or.inl rfl, ND, ER⟩⟩
      · obtain ⟨g1, g2, g3, g4, g5⟩ := GX.2.2.1 a ha
        have : a < 12 := Nat.lt_of_lt_of_le ha n12
        exact ⟨g1, g2, g3, by rw [pk_un (by omega)]; exact g4, g5⟩
      · obtain ⟨g1, g2, g3, g4, g5⟩ := GY.2.2.1 a ha
        have : a < 12 := Nat.lt_of_lt_of_le ha n12
        exact ⟨g1, g2, g3, by rw [pk_un (by omega)]; exact g4, g5⟩
    · refine br_f (by decide) (br_f (by decide) (br_f (by decide) (br_f (by decide) (br_f (by decide) (br_t rfl (pk_le m 0 (fun h0 => br_f (by decide) ?_) (fun h0 => ?_)))))))
      · refine fy_wi (fun _ _ => br_f (by decide) (br_f (by decide) (br_f (by decide) (br_f (by decide) (br_f (by decide) (br_t rfl (pk_le m 0 (fun _ => ?_) (fun c => by omega)))))))) (fun h => absurd c1 h)
        exact ⟨rfl, fp_in (g := (n, m, R, L, W, Sg, T)) ⟨GX, GY, DR, S, Or.inl rfl, fx_A_0 A, fx_C_0 CX, Or.inl rfl, ND, ER⟩⟩
      · obtain ⟨m, rfl⟩ : ∃ j, m = j + 1 := ⟨m - 1, by omega⟩
        refine nm_r (nI_pred m) (br_f (by decide) ?_)
        refine fy_wi (fun _ _ => br_f (by decide) (br_f (by decide) (br_f (by decide) (br_f (by decide) (br_f (by decide) (br_t rfl (pk_le (m + 1) 0 (fun c => by omega) (fun _ => nm_r (nI_pred m) ?_)))))))) (fun h => absurd c1 h)
        exact ⟨rfl, fp_in (g := (n, m, R, L, W, Sg, T)) ⟨⟨GX.1, by show m ≤ 24; omega, GX.2.2.1, fun p hp => GX.2.2.2 p (Nat.lt_succ_of_lt hp)⟩, ⟨GY.1, by show m ≤ 24; omega, GY.2.2.1, fun p hp => GY.2.2.2 p (Nat.lt_succ_of_lt hp)⟩, DR, S, Or.inl rfl, fx_A_0 A, fx_C_0 CX, Or.inl rfl, ND, ER⟩⟩
  · exact fx_out (fun h1 h2 => absurd ⟨h1, h2⟩ c1) (fun _ => fy_wi (fun h1 h2 => absurd ⟨h1, h2⟩ c1) (fun _ => ⟨rfl, fp_in q0⟩))
theorem fp_lim {x : Int32} {n : Nat} (hn : n < 2 ^ 30) (h : ¬ (0 ≤ x ∧ x ≤ nI n - 1)) : x < 0 ∨ nI n ≤ x := by
  by_cases c : x < 0
  · exact Or.inl c
  · right
    obtain ⟨j, hj, rfl⟩ := nI_of c
    rcases Nat.lt_or_ge j n with z | z
    · exfalso
      apply h
      refine ⟨Int32.not_lt.mp c, ?_⟩
      obtain ⟨n, rfl⟩ : ∃ i, n = i + 1 := ⟨n - 1, by omega⟩
      rw [nI_pred]
      exact nI_le (by omega) (by omega)
    · exact nI_le z hj
theorem fp_lim2 {x : Int32} {n : Nat} (hn : n < 2 ^ 30) (h1 : 0 ≤ x) (h2 : x ≤ nI n - 1) : ∃ j, j < n ∧ x = nI j := by
  obtain ⟨j, hj, rfl⟩ := nI_of (Int32.not_lt.mpr h1)
  refine ⟨j, ?_, rfl⟩
  cases n with
  | zero =>
    exfalso
    have : nI j < 0 := Int32.lt_of_le_of_lt h2 (by decide)
    exact nI_pos hj this
  | succ n =>
    rw [nI_pred, nI_leI hj (by omega)] at h2
    omega
theorem i_vc_node {k : Nat} {u : SX} {v : SY} (I : i_Rel k u v) (hk : k + 4 ≤ 2048) (v1 : Int32) (v2 : Int32) : wpX_node (fun r => wpY_node (fun r' => r' = r ∧ i_Rel (k + 4) u v) v v1 v2) u v1 v2 := by
  refine fp_el (P := fun u v => wpX_node (fun r => wpY_node (fun r' => r' = r ∧ i_Rel (k + 4) u v) v v1 v2) u v1 v2) I ?_
  intro g nd er f_alternatives f_tokens f_studied f_empties f_bad f_kept f_busyCount f_fartherCount f_best f_counted f_depth f_place f_nodes f_errors f_much a_what a_sign a_length a_ruleOf a_text a_begins a_firsts a_been a_ends a_far a_begun a_todo a_busy a_farther a_number a_now a_then a_order a_openAlternative a_openItem a_openCame a_openNode a_nodeRule a_nodeAlternative a_nodeFrom a_nodeTo a_nodeParent a_nodeParts a_errorKind a_errorPlace a_errorItem g_alternatives g_size g_known g_counted g_places g_best g_made g_faults g_place g_depth g_much b_ruleOf b_sizes b_items b_signs b_text b_ends b_far b_empty b_begins b_starts b_follow b_derivations b_row b_layer b_next b_nodes b_errors b_openNode b_openAlt b_openItem b_came b_sum q
  have q0 : i_Rel (k + 4) (nI (fd_n g), nI (fd_m g), f_studied, f_empties, f_bad, f_kept, f_busyCount, f_fartherCount, f_best, f_counted, f_depth, f_place, nI nd, nI er, f_much, a_what, a_sign, a_length, a_ruleOf, a_text, a_begins, a_firsts, a_been, a_ends, a_far, a_begun, a_todo, a_busy, a_farther, a_number, a_now, a_then, a_order, a_openAlternative, a_openItem, a_openCame, a_openNode, a_nodeRule, a_nodeAlternative, a_nodeFrom, a_nodeTo, a_nodeParent, a_nodeParts, a_errorKind, a_errorPlace, a_errorItem) (nI (fd_n g), nI (fd_m g), g_known, g_counted, g_places, g_best, nI nd, nI er, g_place, g_depth, g_much, b_ruleOf, b_sizes, b_items, b_signs, b_text, b_ends, b_far, b_empty, b_begins, b_starts, b_follow, b_derivations, b_row, b_layer, b_next, b_nodes, b_errors, b_openNode, b_openAlt, b_openItem, b_came, b_sum) := fp_in q
  obtain ⟨GX, GY, DR, S, LL, A, CX, CY, ⟨nd60, ND⟩, ER⟩ := q
  refine fx_out (fun h1 h2 => ?_) (fun h => ?_)
  · obtain ⟨j, hj, rfl⟩ := fp_lim2 (by omega) h1 h2
    obtain ⟨e0, e1, e2, e3, e4, e5⟩ := ND j hj
    have vj : vp_in (nI j) 60 := vp_in_nI (by omega) (by omega)
    have cj : (nI j).toNatClampNeg = j := nI_clamp (by omega)
    have go : ∀ w x, w ≤ 5 → b_nodes (6 * j + w) = x → wpY_node (fun r' => r' = x ∧ i_Rel (k + 4) (nI (fd_n g), nI (fd_m g), f_studied, f_empties, f_bad, f_kept, f_busyCount, f_fartherCount, f_best, f_counted, f_depth, f_place, nI nd, nI er, f_much, a_what, a_sign, a_length, a_ruleOf, a_text, a_begins, a_firsts, a_been, a_ends, a_far, a_begun, a_todo, a_busy, a_farther, a_number, a_now, a_then, a_order, a_openAlternative, a_openItem, a_openCame, a_openNode, a_nodeRule, a_nodeAlternative, a_nodeFrom, a_nodeTo, a_nodeParent, a_nodeParts, a_errorKind, a_errorPlace, a_errorItem) (nI (fd_n g), nI (fd_m g), g_known, g_counted, g_places, g_best, nI nd, nI er, g_place, g_depth, g_much, b_ruleOf, b_sizes, b_items, b_signs, b_text, b_ends, b_far, b_empty, b_begins, b_starts, b_follow, b_derivations, b_row, b_layer, b_next, b_nodes, b_errors, b_openNode, b_openAlt, b_openItem, b_came, b_sum)) (nI (fd_n g), nI (fd_m g), g_known, g_counted, g_places, g_best, nI nd, nI er, g_place, g_depth, g_much, b_ruleOf, b_sizes, b_items, b_signs, b_text, b_ends, b_far, b_empty, b_begins, b_starts, b_follow, b_derivations, b_row, b_layer, b_next, b_nodes, b_errors, b_openNode, b_openAlt, b_openItem, b_came, b_sum) (nI j) (nI w) := by
      intro w x hw hx
      refine br_f (nI_pos (by omega)) (pk_le nd j (fun c => by omega) (fun _ => fy_wi (fun _ _ => ?_) (fun h => absurd ⟨nI_pos' (by omega), nI_le (b := 5) hw (by omega)⟩ h)))
      have e6 : (6 : Int32) * nI j + nI w = nI (6 * j + w) := by rw [show (6 : Int32) = nI 6 from rfl, pk_mul, nI_add]
      rw [e6]
      refine ⟨vp_in_nI (by omega) (by omega), ?_, q0⟩
      rw [nI_clamp (by omega)]; exact hx
    have out : (v2 < 0 ∨ 5 < v2) → wpY_node (fun r' => r' = -1 ∧ i_Rel (k + 4) (nI (fd_n g), nI (fd_m g), f_studied, f_empties, f_bad, f_kept, f_busyCount, f_fartherCount, f_best, f_counted, f_depth, f_place, nI nd, nI er, f_much, a_what, a_sign, a_length, a_ruleOf, a_text, a_begins, a_firsts, a_been, a_ends, a_far, a_begun, a_todo, a_busy, a_farther, a_number, a_now, a_then, a_order, a_openAlternative, a_openItem, a_openCame, a_openNode, a_nodeRule, a_nodeAlternative, a_nodeFrom, a_nodeTo, a_nodeParent, a_nodeParts, a_errorKind, a_errorPlace, a_errorItem) (nI (fd_n g), nI (fd_m g), g_known, g_counted, g_places, g_best, nI nd, nI er, g_place, g_depth, g_much, b_ruleOf, b_sizes, b_items, b_signs, b_text, b_ends, b_far, b_empty, b_begins, b_starts, b_follow, b_derivations, b_row, b_layer, b_next, b_nodes, b_errors, b_openNode, b_openAlt, b_openItem, b_came, b_sum)) (nI (fd_n g), nI (fd_m g), g_known, g_counted, g_places, g_best, nI nd, nI er, g_place, g_depth, g_much, b_ruleOf, b_sizes, b_items, b_signs, b_text, b_ends, b_far, b_empty, b_begins, b_starts, b_follow, b_derivations, b_row, b_layer, b_next, b_nodes, b_errors, b_openNode, b_openAlt, b_openItem, b_came, b_sum) (nI j) v2 := by
      intro hv
      refine br_f (nI_pos (by omega)) (pk_le nd j (fun c => by omega) (fun _ => fy_wi (fun h1 h2 => ?_) (fun _ => ⟨rfl, q0⟩)))
      rcases hv with z | z
      · exact absurd z (Int32.not_lt.mpr h1)
      · exact absurd z (Int32.not_lt.mpr h2)
    refine br_c (fun z => out (Or.inl z)) (fun z1 => br_c (fun z => out (Or.inr z)) (fun z2 => ?_))
    obtain ⟨w, hw, rfl⟩ := fx_of (n := 5) (by omega) (Int32.not_lt.mp z1) (Int32.not_lt.mp z2)
    rw [cj]
    rcases (by omega : w = 0 ∨ w = 1 ∨ w = 2 ∨ w = 3 ∨ w = 4 ∨ w = 5) with rfl | rfl | rfl | rfl | rfl | rfl
    · exact br_t rfl ⟨vj, go 0 _ (by omega) e0⟩
    · exact br_f (by decide) (br_t rfl ⟨vj, go 1 _ (by omega) e1⟩)
    · exact br_f (by decide) (br_f (by decide) (br_t rfl ⟨vj, go 2 _ (by omega) e2⟩))
    · exact br_f (by decide) (br_f (by decide) (br_f (by decide) (br_t rfl ⟨vj, go 3 _ (by omega) e3⟩)))
    · exact br_f (by decide) (br_f (by decide) (br_f (by decide) (br_f (by decide) (br_t rfl ⟨vj, go 4 _ (by omega) e4⟩))))
    · exact br_f (by decide) (br_f (by decide) (br_f (by decide) (br_f (by decide) (br_f (by decide) (br_t rfl ⟨vj, go 5 _ (by omega) e5⟩)))))
  · rcases fp_lim (by omega) h with z | z
    · exact br_t z ⟨rfl, q0⟩
    · exact br_c (fun _ => ⟨rfl, q0⟩) (fun _ => br_t z ⟨rfl, q0⟩)
theorem i_vc_error {k : Nat} {u : SX} {v : SY} (I : i_Rel k u v) (hk : k + 4 ≤ 2048) (v1 : Int32) (v2 : Int32) : wpX_error (fun r => wpY_error (fun r' => r' = r ∧ i_Rel (k + 4) u v) v v1 v2) u v1 v2 := by
  refine fp_el (P := fun u v => wpX_error (fun r => wpY_error (fun r' => r' = r ∧ i_Rel (k + 4) u v) v v1 v2) u v1 v2) I ?_
  intro g nd er f_alternatives f_tokens f_studied f_empties f_bad f_kept f_busyCount f_fartherCount f_best f_counted f_depth f_place f_nodes f_errors f_much a_what a_sign a_length a_ruleOf a_text a_begins a_firsts a_been a_ends a_far a_begun a_todo a_busy a_farther a_number a_now a_then a_order a_openAlternative a_openItem a_openCame a_openNode a_nodeRule a_nodeAlternative a_nodeFrom a_nodeTo a_nodeParent a_nodeParts a_errorKind a_errorPlace a_errorItem g_alternatives g_size g_known g_counted g_places g_best g_made g_faults g_place g_depth g_much b_ruleOf b_sizes b_items b_signs b_text b_ends b_far b_empty b_begins b_starts b_follow b_derivations b_row b_layer b_next b_nodes b_errors b_openNode b_openAlt b_openItem b_came b_sum q
  have q0 : i_Rel (k + 4) (nI (fd_n g), nI (fd_m g), f_studied, f_empties, f_bad, f_kept, f_busyCount, f_fartherCount, f_best, f_counted, f_depth, f_place, nI nd, nI er, f_much, a_what, a_sign, a_length, a_ruleOf, a_text, a_begins, a_firsts, a_been, a_ends, a_far, a_begun, a_todo, a_busy, a_farther, a_number, a_now, a_then, a_order, a_openAlternative, a_openItem, a_openCame, a_openNode, a_nodeRule, a_nodeAlternative, a_nodeFrom, a_nodeTo, a_nodeParent, a_nodeParts, a_errorKind, a_errorPlace, a_errorItem) (nI (fd_n g), nI (fd_m g), g_known, g_counted, g_places, g_best, nI nd, nI er, g_place, g_depth, g_much, b_ruleOf, b_sizes, b_items, b_signs, b_text, b_ends, b_far, b_empty, b_begins, b_starts, b_follow, b_derivations, b_row, b_layer, b_next, b_nodes, b_errors, b_openNode, b_openAlt, b_openItem, b_came, b_sum) := fp_in q
  obtain ⟨GX, GY, DR, S, LL, A, CX, CY, ND, ⟨er8, ER⟩⟩ := q
  refine br_c (fun h => br_t h ⟨rfl, q0⟩) (fun hm => fx_out (fun h1 h2 => ?_) (fun h => ?_))
  · obtain ⟨j, hj, rfl⟩ := fp_lim2 (by omega) h1 h2
    obtain ⟨e0, e1, e2⟩ := ER j hj
    have vj : vp_in (nI j) 8 := vp_in_nI (by omega) (by omega)
    have cj : (nI j).toNatClampNeg = j := nI_clamp (by omega)
    have go : ∀ w x, w ≤ 2 → b_errors (3 * j + w) = x → wpY_error (fun r' => r' = x ∧ i_Rel (k + 4) (nI (fd_n g), nI (fd_m g), f_studied, f_empties, f_bad, f_kept, f_busyCount, f_fartherCount, f_best, f_counted, f_depth, f_place, nI nd, nI er, f_much, a_what, a_sign, a_length, a_ruleOf, a_text, a_begins, a_firsts, a_been, a_ends, a_far, a_begun, a_todo, a_busy, a_farther, a_number, a_now, a_then, a_order, a_openAlternative, a_openItem, a_openCame, a_openNode, a_nodeRule, a_nodeAlternative, a_nodeFrom, a_nodeTo, a_nodeParent, a_nodeParts, a_errorKind, a_errorPlace, a_errorItem) (nI (fd_n g), nI (fd_m g), g_known, g_counted, g_places, g_best, nI nd, nI er, g_place, g_depth, g_much, b_ruleOf, b_sizes, b_items, b_signs, b_text, b_ends, b_far, b_empty, b_begins, b_starts, b_follow, b_derivations, b_row, b_layer, b_next, b_nodes, b_errors, b_openNode, b_openAlt, b_openItem, b_came, b_sum)) (nI (fd_n g), nI (fd_m g), g_known, g_counted, g_places, g_best, nI nd, nI er, g_place, g_depth, g_much, b_ruleOf, b_sizes, b_items, b_signs, b_text, b_ends, b_far, b_empty, b_begins, b_starts, b_follow, b_derivations, b_row, b_layer, b_next, b_nodes, b_errors, b_openNode, b_openAlt, b_openItem, b_came, b_sum) (nI j) (nI w) := by
      intro w x hw hx
      refine br_f hm (br_f (nI_pos (by omega)) (pk_le er j (fun c => by omega) (fun _ => fy_wi (fun _ _ => ?_) (fun h => absurd ⟨nI_pos' (by omega), nI_le (b := 2) hw (by omega)⟩ h))))
      have e6 : (3 : Int32) * nI j + nI w = nI (3 * j + w) := by rw [show (3 : Int32) = nI 3 from rfl, pk_mul, nI_add]
      rw [e6]
      refine ⟨vp_in_nI (by omega) (by omega), ?_, q0⟩
      rw [nI_clamp (by omega)]; exact hx
    have out : ¬ v2 = 0 → ¬ v2 = 1 → ¬ v2 = 2 → wpY_error (fun r' => r' = -1 ∧ i_Rel (k + 4) (nI (fd_n g), nI (fd_m g), f_studied, f_empties, f_bad, f_kept, f_busyCount, f_fartherCount, f_best, f_counted, f_depth, f_place, nI nd, nI er, f_much, a_what, a_sign, a_length, a_ruleOf, a_text, a_begins, a_firsts, a_been, a_ends, a_far, a_begun, a_todo, a_busy, a_farther, a_number, a_now, a_then, a_order, a_openAlternative, a_openItem, a_openCame, a_openNode, a_nodeRule, a_nodeAlternative, a_nodeFrom, a_nodeTo, a_nodeParent, a_nodeParts, a_errorKind, a_errorPlace, a_errorItem) (nI (fd_n g), nI (fd_m g), g_known, g_counted, g_places, g_best, nI nd, nI er, g_place, g_depth, g_much, b_ruleOf, b_sizes, b_items, b_signs, b_text, b_ends, b_far, b_empty, b_begins, b_starts, b_follow, b_derivations, b_row, b_layer, b_next, b_nodes, b_errors, b_openNode, b_openAlt, b_openItem, b_came, b_sum)) (nI (fd_n g), nI (fd_m g), g_known, g_counted, g_places, g_best, nI nd, nI er, g_place, g_depth, g_much, b_ruleOf, b_sizes, b_items, b_signs, b_text, b_ends, b_far, b_empty, b_begins, b_starts, b_follow, b_derivations, b_row, b_layer, b_next, b_nodes, b_errors, b_openNode, b_openAlt, b_openItem, b_came, b_sum) (nI j) v2 := by
      intro w0 w1 w2
      refine br_f hm (br_f (nI_pos (by omega)) (pk_le er j (fun c => by omega) (fun _ => fy_wi (fun h1 h2 => ?_) (fun _ => ⟨rfl, q0⟩))))
      obtain ⟨w, hw, rfl⟩ := fx_of (n := 2) (by omega) h1 h2
      rcases (by omega : w = 0 ∨ w = 1 ∨ w = 2) with rfl | rfl | rfl
      · exact absurd rfl w0
      · exact absurd rfl w1
      · exact absurd rfl w2
    rw [cj]
    exact br_c (fun e => ⟨vj, by subst e; exact go 0 _ (by omega) e0⟩) (fun w0 => br_c (fun e => ⟨vj, by subst e; exact go 1 _ (by omega) e1⟩) (fun w1 => br_c (fun e => ⟨vj, by subst e; exact go 2 _ (by omega) e2⟩) (fun w2 => out w0 w1 w2)))
  · refine br_f hm ?_
    rcases fp_lim (by omega) h with z | z
    · exact br_t z ⟨rfl, q0⟩
    · exact br_c (fun _ => ⟨rfl, q0⟩) (fun _ => br_t z ⟨rfl, q0⟩)
end
section
section
variable {g : fd_Gr}
variable {g_known g_counted g_places g_best g_made g_faults g_place g_depth g_much : Int32} {b_ruleOf b_sizes b_items b_signs b_text b_ends b_far b_empty b_begins b_starts b_follow b_nodes b_errors b_openNode b_openAlt b_openItem b_came : Nat → Int32} {b_derivations b_row b_layer b_next b_sum : Nat → Int64}
theorem fy_cnt4 {post : Int32 → Prop} {r : Nat} (G : fd_G g b_items b_signs b_sizes b_ruleOf b_text) (hr : r < 6) (K : post (nI (fd_c g r (fd_n g)))) :
    ∀ d a n, a + d = fd_n g → d < n → wY_count_4 post (nI r) (nI (fd_n g)) (nI (fd_m g)) g_known g_counted g_places g_best g_made g_faults g_place g_depth g_much b_ruleOf b_sizes b_items b_signs b_text b_ends b_far b_empty b_begins b_starts b_follow b_derivations b_row b_layer b_next b_nodes b_errors b_openNode b_openAlt b_openItem b_came b_sum n (nI (fd_c g r a)) (nI a) := by
  have := fd_n12 G
  intro d
  induction d with
  | zero =>
    intro a n ha hn
    obtain ⟨n, rfl⟩ : ∃ k, n = k + 1 := ⟨n - 1, by omega⟩
    refine pk_le (fd_n g) a (fun _ => ?_) (fun h => absurd h (by omega))
    rw [show a = fd_n g from by omega]; exact K
  | succ d ih =>
    intro a n ha hn
    obtain ⟨n, rfl⟩ : ∃ k, n = k + 1 := ⟨n - 1, by omega⟩
    refine pk_le (fd_n g) a (fun h => absurd h (by omega)) (fun h => ⟨vp_in_nI (by omega) (by omega), ?_⟩)
    have h6 := fd_R6 G h
    refine pk_eq (fd_R g a) r (fun e => ?_) (fun e => ?_) (hx := fx_ru G h)
    · refine nm_r (nI_1 _) (nm_r (nI_1 _) ?_)
      rw [← fd_c_t e]
      exact ih (a + 1) n (by omega) (by omega)
    · refine nm_r (nI_1 _) ?_
      rw [← fd_c_f e]
      exact ih (a + 1) n (by omega) (by omega)
theorem fy_count {post : Int32 → Prop} {r : Nat} (G : fd_G g b_items b_signs b_sizes b_ruleOf b_text) (hr : r < 6) (K : post (nI (fd_c g r (fd_n g)))) : wpY_count post (nI (fd_n g), nI (fd_m g), g_known, g_counted, g_places, g_best, g_made, g_faults, g_place, g_depth, g_much, b_ruleOf, b_sizes, b_items, b_signs, b_text, b_ends, b_far, b_empty, b_begins, b_starts, b_follow, b_derivations, b_row, b_layer, b_next, b_nodes, b_errors, b_openNode, b_openAlt, b_openItem, b_came, b_sum) (nI r) :=
  ⟨_, fy_cnt4 G hr K (fd_n g) 0 (fd_n g + 1) (by omega) (by omega)⟩
theorem fy_find5 {post : Int32 → Prop} {r : Nat} {v : Int32} (G : fd_G g b_items b_signs b_sizes b_ruleOf b_text) (hr : r < 6) (K1 : ∀ a, (∃ k, k < 12 ∧ v = nI k ∧ fd_at g r k a) → post (nI a)) (K0 : (¬ ∃ k a, k < 12 ∧ v = nI k ∧ fd_at g r k a) → post (-1)) :
    ∀ d a n, a + d = fd_n g → d < n → (∀ b, b < a → fd_R g b = r → v ≠ nI (fd_c g r b)) → wY_find_5 post (nI r) v (nI (fd_n g)) (nI (fd_m g)) g_known g_counted g_places g_best g_made g_faults g_place g_depth g_much b_ruleOf b_sizes b_items b_signs b_text b_ends b_far b_empty b_begins b_starts b_follow b_derivations b_row b_layer b_next b_nodes b_errors b_openNode b_openAlt b_openItem b_came b_sum n (nI (fd_c g r a)) (nI a) := by
  have n12 := fd_n12 G
  intro d
  induction d with
  | zero =>
    intro a n ha hn hx
    obtain ⟨n, rfl⟩ : ∃ k, n = k + 1 := ⟨n - 1, by omega⟩
    refine pk_le (fd_n g) a (fun _ => K0 ?_) (fun h => absurd h (by omega))
    rintro ⟨k, b, hk, e, hb⟩
    exact hx b (by have := hb.1; omega) hb.2.1 (by rw [hb.2.2]; exact e)
  | succ d ih =>
    intro a n ha hn hx
    obtain ⟨n, rfl⟩ : ∃ k, n = k + 1 := ⟨n - 1, by omega⟩
    refine pk_le (fd_n g) a (fun h => absurd h (by omega)) (fun h => ⟨vp_in_nI (by omega) (by omega), ?_⟩)
    have h6 := fd_R6 G h
    have cl := fd_c_le g r a
    refine pk_eq (fd_R g a) r (fun e => br_c (fun z => K1 a ⟨fd_c g r a, by omega, z.symm, h, e, rfl⟩) (fun z => nm_r (nI_1 _) (nm_r (nI_1 _) ?_))) (fun e => nm_r (nI_1 _) ?_) (hx := fx_ru G h)
    · rw [← fd_c_t e]
      refine ih (a + 1) n (by omega) (by omega) (fun b hb hR => ?_)
      rcases Nat.lt_or_ge b a with y | y
      · exact hx b y hR
      · rw [show b = a from by omega]; exact fun y => z y.symm
    · rw [← fd_c_f e]
      refine ih (a + 1) n (by omega) (by omega) (fun b hb hR => ?_)
      rcases Nat.lt_or_ge b a with y | y
      · exact hx b y hR
      · rw [show b = a from by omega] at hR; exact absurd hR e
theorem fy_find {post : Int32 → Prop} {r : Nat} {v : Int32} (G : fd_G g b_items b_signs b_sizes b_ruleOf b_text) (hr : r < 6) (K1 : ∀ a, (∃ k, k < 12 ∧ v = nI k ∧ fd_at g r k a) → post (nI a)) (K0 : (¬ ∃ k a, k < 12 ∧ v = nI k ∧ fd_at g r k a) → post (-1)) : wpY_find post (nI (fd_n g), nI (fd_m g), g_known, g_counted, g_places, g_best, g_made, g_faults, g_place, g_depth, g_much, b_ruleOf, b_sizes, b_items, b_signs, b_text, b_ends, b_far, b_empty, b_begins, b_starts, b_follow, b_derivations, b_row, b_layer, b_next, b_nodes, b_errors, b_openNode, b_openAlt, b_openItem, b_came, b_sum) (nI r) v :=
  ⟨fd_n g + 1, fy_find5 G hr K1 K0 (fd_n g) 0 (fd_n g + 1) (by omega) (by omega) (fun b hb => by omega)⟩
end
theorem fd_at_u {g : fd_Gr} {r k a b : Nat} (ha : fd_at g r k a) (hb : fd_at g r k b) : a = b := by
  rcases Nat.lt_or_ge a b with y | y
  · have := fd_c_m g r (show a + 1 ≤ b from y)
    rw [fd_c_t ha.2.1, ha.2.2, hb.2.2] at this; omega
  · rcases Nat.eq_or_lt_of_le y with z | z
    · exact z.symm
    · have := fd_c_m g r (show b + 1 ≤ a from z)
      rw [fd_c_t hb.2.1, hb.2.2, ha.2.2] at this; omega
theorem fd_c_e {g g' : fd_Gr} {r : Nat} : ∀ a, (∀ b, b < a → fd_R g b = fd_R g' b) → fd_c g r a = fd_c g' r a
  | 0, _ => rfl
  | a + 1, h => by rw [fd_c_s, fd_c_s, fd_c_e a (fun b hb => h b (by omega)), h a (by omega)]
/-! the cells of a new alternative -/
def fp_cp (wh wh' : Nat → Int32) (DW : Nat → Nat) (n L j : Nat) : Prop := (∀ i, (i < 5 * n ∨ 5 * n + 5 ≤ i) → wh' i = wh i) ∧ ∀ k, k < j → k < L → wh' (5 * n + k) = nI (DW k)
section
variable {f_alternatives f_tokens g_alternatives g_size : Int32}
variable {f_studied f_empties f_bad f_kept f_busyCount f_fartherCount f_best f_counted f_depth f_place f_nodes f_errors f_much : Int32} {a_what a_sign a_length a_ruleOf a_text a_begins a_firsts a_been a_ends a_far a_begun a_todo a_busy a_farther a_number a_now a_then a_order a_openAlternative a_openItem a_openCame a_openNode a_nodeRule a_nodeAlternative a_nodeFrom a_nodeTo a_nodeParent a_nodeParts a_errorKind a_errorPlace a_errorItem : Nat → Int32}
theorem fx_alt34 {post : Int32 → SX → Prop} {x1 x3 : Int32} {a L : Nat} {DW DS : Nat → Nat} (ha : a < 12) (hD : ∀ k, k < L → DW k < 14 ∧ DS k < 4 ∧ a_what (60 + k) = nI (DW k) ∧ a_sign (60 + k) = nI (DS k))
    (K : ∀ wh sg, fp_cp a_what wh DW a L 5 → fp_cp a_sign sg DS a L 5 → vp_in (nI a) 13 ∧ ∀ le, le = upd a_length (nI a).toNatClampNeg (vp_nar .byte (a_length 12)) → ∀ le2, le2 = upd le 12 (vp_nar .byte 0) → vp_in (nI a) 12 ∧ ∀ ru, ru = upd a_ruleOf (nI a).toNatClampNeg (vp_nar .byte x1.toInt8.toInt32) → ∀ fa, fa = f_alternatives + 1 → post x3 (fa, f_tokens, 0, f_empties, f_bad, 0, f_busyCount, f_fartherCount, f_best, 0, f_depth, f_place, f_nodes, f_errors, f_much, wh, sg, le2, ru, a_text, a_begins, a_firsts, a_been, a_ends, a_far, a_begun, a_todo, a_busy, a_farther, a_number, a_now, a_then, a_order, a_openAlternative, a_openItem, a_openCame, a_openNode, a_nodeRule, a_nodeAlternative, a_nodeFrom, a_nodeTo, a_nodeParent, a_nodeParts, a_errorKind, a_errorPlace, a_errorItem)) :
    ∀ d j n wh sg, j + d = 5 → d < n → fp_cp a_what wh DW a L j → fp_cp a_sign sg DS a L j → wX_alternative_34 post x1 (nI a) x3 f_alternatives f_tokens f_studied f_empties f_bad f_kept f_busyCount f_fartherCount f_best f_counted f_depth f_place f_nodes f_errors f_much n (nI j) wh sg a_length a_ruleOf a_text a_begins a_firsts a_been a_ends a_far a_begun a_todo a_busy a_farther a_number a_now a_then a_order a_openAlternative a_openItem a_openCame a_openNode a_nodeRule a_nodeAlternative a_nodeFrom a_nodeTo a_nodeParent a_nodeParts a_errorKind a_errorPlace a_errorItem := by
  intro d
  induction d with
  | zero =>
    intro j n wh sg hj hn h1 h2
    obtain ⟨n, rfl⟩ : ∃ k, n = k + 1 := ⟨n - 1, by omega⟩
    have e : j = 5 := by omega
    subst e
    exact pk_le 5 5 (fun _ => K wh sg h1 h2) (fun h => absurd h (by omega))
  | succ d ih =>
    intro j n wh sg hj hn h1 h2
    obtain ⟨n, rfl⟩ : ∃ k, n = k + 1 := ⟨n - 1, by omega⟩
    have e60 : (60 : Int32) + nI j = nI (60 + j) := by rw [show (60 : Int32) = nI 60 from rfl, nI_add]
    refine pk_le 5 j (fun h => absurd h (by omega)) (fun _ => ?_)
    rw [e60, fx_5]
    have v60 : vp_in (nI (60 + j)) 65 := vp_in_nI (by omega) (by omega)
    have v5 : vp_in (nI (5 * a + j)) 65 := vp_in_nI (by omega) (by omega)
    refine ⟨v60, v5, nm_r (e' := upd wh (5 * a + j) (vp_nar .byte (wh (60 + j)))) (by rw [nI_clamp (by omega), nI_clamp (by omega)]) ⟨v60, v5, nm_r (e' := upd sg (5 * a + j) (vp_nar .byte (sg (60 + j)))) (by rw [nI_clamp (by omega), nI_clamp (by omega)]) (nm_r (nI_1 _) (ih (j + 1) n _ _ (by omega) (by omega) ⟨fun i hi => ?_, fun k hk hkL => ?_⟩ ⟨fun i hi => ?_, fun k hk hkL => ?_⟩))⟩⟩
    · rw [pk_un (by omega)]; exact h1.1 i hi
    · by_cases e : k = j
      · subst e
        obtain ⟨d1, d2, d3, d4⟩ := hD k hkL
        rw [pk_us, h1.1 _ (by omega), d3, fb_vb (by omega)]
      · rw [pk_un (by omega)]; exact h1.2 k (by omega) hkL
    · rw [pk_un (by omega)]; exact h2.1 i hi
    · by_cases e : k = j
      · subst e
        obtain ⟨d1, d2, d3, d4⟩ := hD k hkL
        rw [pk_us, h2.1 _ (by omega), d4, fb_vb (by omega)]
      · rw [pk_un (by omega)]; exact h2.2 k (by omega) hkL
variable {g_known g_counted g_places g_best g_made g_faults g_place g_depth g_much : Int32} {b_ruleOf b_sizes b_items b_signs b_text b_ends b_far b_empty b_begins b_starts b_follow b_nodes b_errors b_openNode b_openAlt b_openItem b_came : Nat → Int32} {b_derivations b_row b_layer b_next b_sum : Nat → Int64}
theorem fy_alt54 {post : Int32 → SY → Prop} {x1 : Int32} {a L : Nat} {DW DS : Nat → Nat} (ha : a < 12) (hL : L ≤ 5) (hs : b_sizes a = nI L) (hD : ∀ k, k < L → b_items (60 + k) = nI (DW k) ∧ b_signs (60 + k) = nI (DS k))
    (K : ∀ wh sg, fp_cp b_items wh DW a L 5 → fp_cp b_signs sg DS a L 5 → ∀ le, le = upd b_sizes 12 0 → wpY_count (fun r => post (r - 1) (g_alternatives, g_size, 0, 0, g_places, g_best, g_made, g_faults, g_place, g_depth, g_much, b_ruleOf, le, wh, sg, b_text, b_ends, b_far, b_empty, b_begins, b_starts, b_follow, b_derivations, b_row, b_layer, b_next, b_nodes, b_errors, b_openNode, b_openAlt, b_openItem, b_came, b_sum)) (g_alternatives, g_size, 0, 0, g_places, g_best, g_made, g_faults, g_place, g_depth, g_much, b_ruleOf, le, wh, sg, b_text, b_ends, b_far, b_empty, b_begins, b_starts, b_follow, b_derivations, b_row, b_layer, b_next, b_nodes, b_errors, b_openNode, b_openAlt, b_openItem, b_came, b_sum) x1) :
    ∀ d j n wh sg, j + d = L → d < n → fp_cp b_items wh DW a L j → fp_cp b_signs sg DS a L j → wY_alternative_54 post x1 (nI a) g_alternatives g_size g_known g_counted g_places g_best g_made g_faults g_place g_depth g_much n (nI j) b_ruleOf b_sizes wh sg b_text b_ends b_far b_empty b_begins b_starts b_follow b_derivations b_row b_layer b_next b_nodes b_errors b_openNode b_openAlt b_openItem b_came b_sum := by
  have es : b_sizes (nI a).toNatClampNeg = nI L := by rw [nI_clamp (by omega)]; exact hs
  intro d
  induction d with
  | zero =>
    intro j n wh sg hj hn h1 h2
    obtain ⟨n, rfl⟩ : ∃ k, n = k + 1 := ⟨n - 1, by omega⟩
    exact ⟨vp_in_nI (by omega) (by omega), pk_le L j (fun _ => K wh sg ⟨h1.1, fun k hk hkL => h1.2 k (by omega) hkL⟩ ⟨h2.1, fun k hk hkL => h2.2 k (by omega) hkL⟩) (fun h => absurd h (by omega)) (hx := es)⟩
  | succ d ih =>
    intro j n wh sg hj hn h1 h2
    obtain ⟨n, rfl⟩ : ∃ k, n = k + 1 := ⟨n - 1, by omega⟩
    have e60 : (60 : Int32) + nI j = nI (60 + j) := by rw [show (60 : Int32) = nI 60 from rfl, nI_add]
    refine ⟨vp_in_nI (by omega) (by omega), pk_le L j (fun h => absurd h (by omega)) (fun _ => ?_) (hx := es)⟩
    rw [e60, fx_5]
    have v60 : vp_in (nI (60 + j)) 65 := vp_in_nI (by omega) (by omega)
    have v5 : vp_in (nI (5 * a + j)) 65 := vp_in_nI (by omega) (by omega)
    refine ⟨v60, v5, nm_r (e' := upd wh (5 * a + j) (wh (60 + j))) (by rw [nI_clamp (by omega), nI_clamp (by omega)]) ⟨v60, v5, nm_r (e' := upd sg (5 * a + j) (sg (60 + j))) (by rw [nI_clamp (by omega), nI_clamp (by omega)]) (nm_r (nI_1 _) (ih (j + 1) n _ _ (by omega) (by omega) ⟨fun i hi => ?_, fun k hk hkL => ?_⟩ ⟨fun i hi => ?_, fun k hk hkL => ?_⟩))⟩⟩
    · rw [pk_un (by omega)]; exact h1.1 i hi
    · by_cases e : k = j
      · subst e
        rw [pk_us, h1.1 _ (by omega)]; exact (hD k hkL).1
      · rw [pk_un (by omega)]; exact h1.2 k (by omega) hkL
    · rw [pk_un (by omega)]; exact h2.1 i hi
    · by_cases e : k = j
      · subst e
        rw [pk_us, h2.1 _ (by omega)]; exact (hD k hkL).2
      · rw [pk_un (by omega)]; exact h2.2 k (by omega) hkL
end
/-- the grammar with one alternative more -/
def fd_new (g : fd_Gr) (r L : Nat) (DW DS : Nat → Nat) : fd_Gr :=
  (fd_n g + 1, fd_m g, fun a => if a = fd_n g then r else fd_R g a, fun a => if a = fd_n g then L else fd_L g a, fun a k => if a = fd_n g then DW k else fd_W g a k, fun a k => if a = fd_n g then DS k else fd_S g a k, fd_T g)
theorem fd_new_G {g : fd_Gr} {r L : Nat} {DW DS : Nat → Nat} {wh sg le ru tx wh' sg' le' ru' : Nat → Int32} (G : fd_G g wh sg le ru tx) (hn : fd_n g < 12) (hr : r < 6) (hL : L ≤ 5) (hD : ∀ k, k < L → DW k < 14 ∧ DS k < 4)
    (h1 : fp_cp wh wh' DW (fd_n g) L 5) (h2 : fp_cp sg sg' DS (fd_n g) L 5) (h3 : le' (fd_n g) = nI L) (h4 : ∀ i, i < fd_n g → le' i = le i) (h5 : ru' (fd_n g) = nI r) (h6 : ∀ i, i < fd_n g → ru' i = ru i) : fd_G (fd_new g r L DW DS) wh' sg' le' ru' tx := by
  refine ⟨by show fd_n g + 1 ≤ 12; omega, G.2.1, fun a ha => ?_, G.2.2.2⟩
  have ha' : a < fd_n g + 1 := ha
  show (if a = fd_n g then r else fd_R g a) < 6 ∧ ru' a = nI (if a = fd_n g then r else fd_R g a) ∧ (if a = fd_n g then L else fd_L g a) ≤ 5 ∧ le' a = nI (if a = fd_n g then L else fd_L g a) ∧ ∀ k, k < (if a = fd_n g then L else fd_L g a) → (if a = fd_n g then DW k else fd_W g a k) < 14 ∧ wh' (5 * a + k) = nI (if a = fd_n g then DW k else fd_W g a k) ∧ (if a = fd_n g then DS k else fd_S g a k) < 4 ∧ sg' (5 * a + k) = nI (if a = fd_n g then DS k else fd_S g a k)
  by_cases e : a = fd_n g
  · rw [if_pos e, if_pos e]
    subst e
    refine ⟨hr, h5, hL, h3, fun k hk => ?_⟩
    rw [if_pos rfl, if_pos rfl]
    exact ⟨(hD k hk).1, h1.2 k (by omega) hk, (hD k hk).2, h2.2 k (by omega) hk⟩
  · rw [if_neg e, if_neg e]
    obtain ⟨g1, g2, g3, g4, g5⟩ := G.2.2.1 a (by omega)
    refine ⟨g1, by rw [h6 a (by omega)]; exact g2, g3, by rw [h4 a (by omega)]; exact g4, fun k hk => ?_⟩
    rw [if_neg e, if_neg e, h1.1 _ (by omega), h2.1 _ (by omega)]
    exact g5 k hk
end
section
theorem i_vc_alternative {k : Nat} {u : SX} {v : SY} (I : i_Rel k u v) (hk : k + 4 ≤ 2048) (v1 : Int32) : wpX_alternative (fun r u' => wpY_alternative (fun r' v' => r' = r ∧ i_Rel (k + 4) u' v') v v1) u v1 := by
  refine fp_el (P := fun u v => wpX_alternative (fun r u' => wpY_alternative (fun r' v' => r' = r ∧ i_Rel (k + 4) u' v') v v1) u v1) I ?_
  intro g nd er f_alternatives f_tokens f_studied f_empties f_bad f_kept f_busyCount f_fartherCount f_best f_counted f_depth f_place f_nodes f_errors f_much a_what a_sign a_length a_ruleOf a_text a_begins a_firsts a_been a_ends a_far a_begun a_todo a_busy a_farther a_number a_now a_then a_order a_openAlternative a_openItem a_openCame a_openNode a_nodeRule a_nodeAlternative a_nodeFrom a_nodeTo a_nodeParent a_nodeParts a_errorKind a_errorPlace a_errorItem g_alternatives g_size g_known g_counted g_places g_best g_made g_faults g_place g_depth g_much b_ruleOf b_sizes b_items b_signs b_text b_ends b_far b_empty b_begins b_starts b_follow b_derivations b_row b_layer b_next b_nodes b_errors b_openNode b_openAlt b_openItem b_came b_sum q
  have q0 := q
  obtain ⟨GX, GY, ⟨L, DW, DS, hL, x12, y12, hD⟩, S, LL, A, CX, CY, ND, ER⟩ := q
  have n12 := fd_n12 GX
  by_cases c1 : 0 ≤ v1 ∧ v1 ≤ 5
  · obtain ⟨r, hr, rfl⟩ := fx_of (n := 5) (by omega) c1.1 c1.2
    refine fx_out (fun _ _ => pk_eq (fd_n g) 12 (fun h => ?_) (fun h => ?_)) (fun h => absurd c1 h)
    · exact fy_wi (fun _ _ => pk_eq (fd_n g) 12 (fun _ => ⟨rfl, fp_in q0⟩) (fun c => absurd h c)) (fun h => absurd c1 h)
    · have hn : fd_n g < 12 := by omega
      have cn : (nI (fd_n g)).toNatClampNeg = fd_n g := nI_clamp (by omega)
      refine fx_many GX (by omega) ⟨6, ?_⟩
      refine fx_alt34 (L := L) (DW := DW) (DS := DS) hn (fun k hk => ⟨(hD k hk).1, (hD k hk).2.1, (hD k hk).2.2.1, (hD k hk).2.2.2.2.1⟩) (fun wh sg h1 h2 => ⟨vp_in_nI (by omega) (by omega), nm_r (e' := upd a_length (fd_n g) (nI L)) (by rw [cn, x12, fb_vb (by omega)]) (nm_r (e' := upd (upd a_length (fd_n g) (nI L)) 12 (nI 0)) (by rw [fb_v0]; rfl) ⟨vp_in_nI (by omega) (by omega), nm_r (e' := upd a_ruleOf (fd_n g) (nI r)) (by rw [cn, fb_vb2 (by omega)]) (nm_r (nI_1 _) ?_)⟩)⟩) 5 0 6 _ _ (by omega) (by omega) ⟨fun _ _ => rfl, fun k hk => by omega⟩ ⟨fun _ _ => rfl, fun k hk => by omega⟩
      refine fy_wi (fun _ _ => pk_eq (fd_n g) 12 (fun c => absurd c h) (fun _ => nm_r (nI_1 _) ⟨vp_in_nI (by omega) (by omega), nm_r (e' := upd b_ruleOf (fd_n g) (nI r)) (by rw [cn]) ⟨vp_in_nI (by omega) (by omega), nm_r (e' := upd b_sizes (fd_n g) (nI L)) (by rw [cn, y12]) ⟨L + 1, ?_⟩⟩⟩)) (fun h => absurd c1 h)
      refine fy_alt54 (L := L) (DW := DW) (DS := DS) hn hL pk_us (fun k hk => ⟨(hD k hk).2.2.2.1, (hD k hk).2.2.2.2.2⟩) (fun wh' sg' h3 h4 => nm_r (e' := upd (upd b_sizes (fd_n g) (nI L)) 12 (nI 0)) rfl ?_) L 0 (L + 1) _ _ (by omega) (by omega) ⟨fun _ _ => rfl, fun k hk => by omega⟩ ⟨fun _ _ => rfl, fun k hk => by omega⟩
      have hD' : ∀ k, k < L → DW k < 14 ∧ DS k < 4 := fun k hk => ⟨(hD k hk).1, (hD k hk).2.1⟩
      have GX' : fd_G (fd_new g r L DW DS) wh sg (upd (upd a_length (fd_n g) (nI L)) 12 (nI 0)) (upd a_ruleOf (fd_n g) (nI r)) a_text :=
        fd_new_G GX hn (by omega) hL hD' h1 h2 (by rw [pk_un (by omega), pk_us]) (fun i hi => by rw [pk_un (by omega), pk_un (by omega)]) pk_us (fun i hi => by rw [pk_un (by omega)])
      have GY' : fd_G (fd_new g r L DW DS) wh' sg' (upd (upd b_sizes (fd_n g) (nI L)) 12 (nI 0)) (upd b_ruleOf (fd_n g) (nI r)) b_text :=
        fd_new_G GY hn (by omega) hL hD' h3 h4 (by rw [pk_un (by omega), pk_us]) (fun i hi => by rw [pk_un (by omega), pk_un (by omega)]) pk_us (fun i hi => by rw [pk_un (by omega)])
      have ec : fd_c (fd_new g r L DW DS) r (fd_n (fd_new g r L DW DS)) = fd_c g r (fd_n g) + 1 := by
        show fd_c (fd_new g r L DW DS) r (fd_n g + 1) = _
        rw [fd_c_t (by show (if fd_n g = fd_n g then r else fd_R g (fd_n g)) = r; rw [if_pos rfl]), fd_c_e (g' := g) (fd_n g) (fun b hb => by show (if b = fd_n g then r else fd_R g b) = fd_R g b; rw [if_neg (by omega)])]
      refine fy_count GY' (by omega) ?_
      refine ⟨by rw [ec, nI_pred], fp_in (g := fd_new g r L DW DS) ⟨GX', GY', ⟨0, DW, DS, by omega, pk_us, pk_us, fun j hj => by omega⟩, Or.inl rfl, Or.inl rfl, fx_A_0 A, fx_C_0 CX, Or.inl rfl, ND, ER⟩⟩
  · exact fx_out (fun h1 h2 => absurd ⟨h1, h2⟩ c1) (fun _ => fy_wi (fun h1 h2 => absurd ⟨h1, h2⟩ c1) (fun _ => ⟨rfl, fp_in q0⟩))
end
section
theorem i_vc_about {k : Nat} {u : SX} {v : SY} (I : i_Rel k u v) (hk : k + 4 ≤ 2048) (v1 : Int32) (v2 : Int32) : wpX_about (fun r u' => wpY_about (fun r' v' => r' = r ∧ i_Rel (k + 4) u' v') v v1 v2) u v1 v2 := by
  refine fp_el (P := fun u v => wpX_about (fun r u' => wpY_about (fun r' v' => r' = r ∧ i_Rel (k + 4) u' v') v v1 v2) u v1 v2) I ?_
  intro g nd er f_alternatives f_tokens f_studied f_empties f_bad f_kept f_busyCount f_fartherCount f_best f_counted f_depth f_place f_nodes f_errors f_much a_what a_sign a_length a_ruleOf a_text a_begins a_firsts a_been a_ends a_far a_begun a_todo a_busy a_farther a_number a_now a_then a_order a_openAlternative a_openItem a_openCame a_openNode a_nodeRule a_nodeAlternative a_nodeFrom a_nodeTo a_nodeParent a_nodeParts a_errorKind a_errorPlace a_errorItem g_alternatives g_size g_known g_counted g_places g_best g_made g_faults g_place g_depth g_much b_ruleOf b_sizes b_items b_signs b_text b_ends b_far b_empty b_begins b_starts b_follow b_derivations b_row b_layer b_next b_nodes b_errors b_openNode b_openAlt b_openItem b_came b_sum q
  have q0 := q
  obtain ⟨GX, GY, DR, S, LL, A, CX, CY, ND, ER⟩ := q
  by_cases c1 : 0 ≤ v1 ∧ v1 ≤ 5
  · obtain ⟨r, hr, rfl⟩ := fx_of (n := 5) (by omega) c1.1 c1.2
    have vr : vp_in (nI r) 6 := vp_in_nI (by omega) (by omega)
    have cr : (nI r).toNatClampNeg = r := nI_clamp (by omega)
    refine fx_out (fun _ _ => fx_study GX S (fun e b be fi th so => ?_)) (fun h => absurd c1 h)
    by_cases c2 : 0 ≤ v2 ∧ v2 ≤ 4
    · obtain ⟨w, hw, rfl⟩ := fx_of (n := 4) (by omega) c2.1 c2.2
      refine br_f (nI_pos (by omega)) (br_f (nI_nlt (b := w) (a := 4) hw (by omega)) ?_)
      rw [cr]
      have yy : ∀ (w : Nat) (x : Int32), w ≤ 4 → (∀ (pl bs : Int32) (em yb st en fa : Nat → Int32), fy_LO g em yb st en fa →
          (nI w < 0 → wpY_count (fun r_41 => r_41 = x ∧ i_Rel (k + 4) (nI (fd_n g), nI (fd_m g), 1, e, b, f_kept, f_busyCount, f_fartherCount, f_best, f_counted, f_depth, f_place, nI nd, nI er, f_much, a_what, a_sign, a_length, a_ruleOf, a_text, be, fi, a_been, a_ends, a_far, a_begun, a_todo, a_busy, a_farther, a_number, a_now, th, a_order, a_openAlternative, a_openItem, a_openCame, a_openNode, a_nodeRule, a_nodeAlternative, a_nodeFrom, a_nodeTo, a_nodeParent, a_nodeParts, a_errorKind, a_errorPlace, a_errorItem) (nI (fd_n g), nI (fd_m g), 1, g_counted, pl, bs, nI nd, nI er, g_place, g_depth, g_much, b_ruleOf, b_sizes, b_items, b_signs, b_text, en, fa, em, yb, st, b_follow, b_derivations, b_row, b_layer, b_next, b_nodes, b_errors, b_openNode, b_openAlt, b_openItem, b_came, b_sum)) (nI (fd_n g), nI (fd_m g), 1, g_counted, pl, bs, nI nd, nI er, g_place, g_depth, g_much, b_ruleOf, b_sizes, b_items, b_signs, b_text, en, fa, em, yb, st, b_follow, b_derivations, b_row, b_layer, b_next, b_nodes, b_errors, b_openNode, b_openAlt, b_openItem, b_came, b_sum) (nI r)) ∧ (¬ nI w < 0 → (3 < nI w → wpY_count (fun r_75 => r_75 = x ∧ i_Rel (k + 4) (nI (fd_n g), nI (fd_m g), 1, e, b, f_kept, f_busyCount, f_fartherCount, f_best, f_counted, f_depth, f_place, nI nd, nI er, f_much, a_what, a_sign, a_length, a_ruleOf, a_text, be, fi, a_been, a_ends, a_far, a_begun, a_todo, a_busy, a_farther, a_number, a_now, th, a_order, a_openAlternative, a_openItem, a_openCame, a_openNode, a_nodeRule, a_nodeAlternative, a_nodeFrom, a_nodeTo, a_nodeParent, a_nodeParts, a_errorKind, a_errorPlace, a_errorItem) (nI (fd_n g), nI (fd_m g), 1, g_counted, pl, bs, nI nd, nI er, g_place, g_depth, g_much, b_ruleOf, b_sizes, b_items, b_signs, b_text, en, fa, em, yb, st, b_follow, b_derivations, b_row, b_layer, b_next, b_nodes, b_errors, b_openNode, b_openAlt, b_openItem, b_came, b_sum)) (nI (fd_n g), nI (fd_m g), 1, g_counted, pl, bs, nI nd, nI er, g_place, g_depth, g_much, b_ruleOf, b_sizes, b_items, b_signs, b_text, en, fa, em, yb, st, b_follow, b_derivations, b_row, b_layer, b_next, b_nodes, b_errors, b_openNode, b_openAlt, b_openItem, b_came, b_sum) (nI r)) ∧ (¬ 3 < nI w → (nI w = 0 → vp_in (nI r) 6 ∧ (em (nI r).toNatClampNeg = 0 → 0 = x ∧ i_Rel (k + 4) (nI (fd_n g), nI (fd_m g), 1, e, b, f_kept, f_busyCount, f_fartherCount, f_best, f_counted, f_depth, f_place, nI nd, nI er, f_much, a_what, a_sign, a_length, a_ruleOf, a_text, be, fi, a_been, a_ends, a_far, a_begun, a_todo, a_busy, a_farther, a_number, a_now, th, a_order, a_openAlternative, a_openItem, a_openCame, a_openNode, a_nodeRule, a_nodeAlternative, a_nodeFrom, a_nodeTo, a_nodeParent, a_nodeParts, a_errorKind, a_errorPlace, a_errorItem) (nI (fd_n g), nI (fd_m g), 1, g_counted, pl, bs, nI nd, nI er, g_place, g_depth, g_much, b_ruleOf, b_sizes, b_items, b_signs, b_text, en, fa, em, yb, st, b_follow, b_derivations, b_row, b_layer, b_next, b_nodes, b_errors, b_openNode, b_openAlt, b_openItem, b_came, b_sum)) ∧ (¬ em (nI r).toNatClampNeg = 0 → 1 = x ∧ i_Rel (k + 4) (nI (fd_n g), nI (fd_m g), 1, e, b, f_kept, f_busyCount, f_fartherCount, f_best, f_counted, f_depth, f_place, nI nd, nI er, f_much, a_what, a_sign, a_length, a_ruleOf, a_text, be, fi, a_been, a_ends, a_far, a_begun, a_todo, a_busy, a_farther, a_number, a_now, th, a_order, a_openAlternative, a_openItem, a_openCame, a_openNode, a_nodeRule, a_nodeAlternative, a_nodeFrom, a_nodeTo, a_nodeParent, a_nodeParts, a_errorKind, a_errorPlace, a_errorItem) (nI (fd_n g), nI (fd_m g), 1, g_counted, pl, bs, nI nd, nI er, g_place, g_depth, g_much, b_ruleOf, b_sizes, b_items, b_signs, b_text, en, fa, em, yb, st, b_follow, b_derivations, b_row, b_layer, b_next, b_nodes, b_errors, b_openNode, b_openAlt, b_openItem, b_came, b_sum))) ∧ (¬ nI w = 0 → (nI w = 1 → vp_in (nI r) 6 ∧ ((yb (nI r).toNatClampNeg) >>> (nI r &&& 31)) &&& 1 = x ∧ i_Rel (k + 4) (nI (fd_n g), nI (fd_m g), 1, e, b, f_kept, f_busyCount, f_fartherCount, f_best, f_counted, f_depth, f_place, nI nd, nI er, f_much, a_what, a_sign, a_length, a_ruleOf, a_text, be, fi, a_been, a_ends, a_far, a_begun, a_todo, a_busy, a_farther, a_number, a_now, th, a_order, a_openAlternative, a_openItem, a_openCame, a_openNode, a_nodeRule, a_nodeAlternative, a_nodeFrom, a_nodeTo, a_nodeParent, a_nodeParts, a_errorKind, a_errorPlace, a_errorItem) (nI (fd_n g), nI (fd_m g), 1, g_counted, pl, bs, nI nd, nI er, g_place, g_depth, g_much, b_ruleOf, b_sizes, b_items, b_signs, b_text, en, fa, em, yb, st, b_follow, b_derivations, b_row, b_layer, b_next, b_nodes, b_errors, b_openNode, b_openAlt, b_openItem, b_came, b_sum)) ∧ (¬ nI w = 1 → (nI w = 2 → vp_in (nI r) 6 ∧ yb (nI r).toNatClampNeg = x ∧ i_Rel (k + 4) (nI (fd_n g), nI (fd_m g), 1, e, b, f_kept, f_busyCount, f_fartherCount, f_best, f_counted, f_depth, f_place, nI nd, nI er, f_much, a_what, a_sign, a_length, a_ruleOf, a_text, be, fi, a_been, a_ends, a_far, a_begun, a_todo, a_busy, a_farther, a_number, a_now, th, a_order, a_openAlternative, a_openItem, a_openCame, a_openNode, a_nodeRule, a_nodeAlternative, a_nodeFrom, a_nodeTo, a_nodeParent, a_nodeParts, a_errorKind, a_errorPlace, a_errorItem) (nI (fd_n g), nI (fd_m g), 1, g_counted, pl, bs, nI nd, nI er, g_place, g_depth, g_much, b_ruleOf, b_sizes, b_items, b_signs, b_text, en, fa, em, yb, st, b_follow, b_derivations, b_row, b_layer, b_next, b_nodes, b_errors, b_openNode, b_openAlt, b_openItem, b_came, b_sum)) ∧ (¬ nI w = 2 → (nI w = 3 → vp_in (nI r) 6 ∧ st (nI r).toNatClampNeg = x ∧ i_Rel (k + 4) (nI (fd_n g), nI (fd_m g), 1, e, b, f_kept, f_busyCount, f_fartherCount, f_best, f_counted, f_depth, f_place, nI nd, nI er, f_much, a_what, a_sign, a_length, a_ruleOf, a_text, be, fi, a_been, a_ends, a_far, a_begun, a_todo, a_busy, a_farther, a_number, a_now, th, a_order, a_openAlternative, a_openItem, a_openCame, a_openNode, a_nodeRule, a_nodeAlternative, a_nodeFrom, a_nodeTo, a_nodeParent, a_nodeParts, a_errorKind, a_errorPlace, a_errorItem) (nI (fd_n g), nI (fd_m g), 1, g_counted, pl, bs, nI nd, nI er, g_place, g_depth, g_much, b_ruleOf, b_sizes, b_items, b_signs, b_text, en, fa, em, yb, st, b_follow, b_derivations, b_row, b_layer, b_next, b_nodes, b_errors, b_openNode, b_openAlt, b_openItem, b_came, b_sum)) ∧ (¬ nI w = 3 → True))))))) →
          wpY_about (fun r' v' => r' = x ∧ i_Rel (k + 4) (nI (fd_n g), nI (fd_m g), 1, e, b, f_kept, f_busyCount, f_fartherCount, f_best, f_counted, f_depth, f_place, nI nd, nI er, f_much, a_what, a_sign, a_length, a_ruleOf, a_text, be, fi, a_been, a_ends, a_far, a_begun, a_todo, a_busy, a_farther, a_number, a_now, th, a_order, a_openAlternative, a_openItem, a_openCame, a_openNode, a_nodeRule, a_nodeAlternative, a_nodeFrom, a_nodeTo, a_nodeParent, a_nodeParts, a_errorKind, a_errorPlace, a_errorItem) v') (nI (fd_n g), nI (fd_m g), g_known, g_counted, g_places, g_best, nI nd, nI er, g_place, g_depth, g_much, b_ruleOf, b_sizes, b_items, b_signs, b_text, b_ends, b_far, b_empty, b_begins, b_starts, b_follow, b_derivations, b_row, b_layer, b_next, b_nodes, b_errors, b_openNode, b_openAlt, b_openItem, b_came, b_sum) (nI r) (nI w) := by
        intro w x hw h
        exact fy_wi (fun _ _ => fy_wi (fun _ _ => fy_learn GY LL (fun pl bs em yb st en fa lo => h pl bs em yb st en fa lo)) (fun h => absurd ⟨nI_pos' (by omega), nI_le (b := 4) hw (by omega)⟩ h)) (fun h => absurd c1 h)
      have qq : ∀ (pl bs : Int32) (em yb st en fa : Nat → Int32), fy_LO g em yb st en fa → i_Rel (k + 4) (nI (fd_n g), nI (fd_m g), 1, e, b, f_kept, f_busyCount, f_fartherCount, f_best, f_counted, f_depth, f_place, nI nd, nI er, f_much, a_what, a_sign, a_length, a_ruleOf, a_text, be, fi, a_been, a_ends, a_far, a_begun, a_todo, a_busy, a_farther, a_number, a_now, th, a_order, a_openAlternative, a_openItem, a_openCame, a_openNode, a_nodeRule, a_nodeAlternative, a_nodeFrom, a_nodeTo, a_nodeParent, a_nodeParts, a_errorKind, a_errorPlace, a_errorItem) (nI (fd_n g), nI (fd_m g), 1, g_counted, pl, bs, nI nd, nI er, g_place, g_depth, g_much, b_ruleOf, b_sizes, b_items, b_signs, b_text, en, fa, em, yb, st, b_follow, b_derivations, b_row, b_layer, b_next, b_nodes, b_errors, b_openNode, b_openAlt, b_openItem, b_came, b_sum) := fun pl bs em yb st en fa lo => fp_in ⟨GX, GY, DR, Or.inr ⟨rfl, so⟩, Or.inr ⟨rfl, lo⟩, A, CX, CY, ND, ER⟩
      rcases (by omega : w = 0 ∨ w = 1 ∨ w = 2 ∨ w = 3 ∨ w = 4) with rfl | rfl | rfl | rfl | rfl
      · refine br_t rfl (yy 0 _ (by omega) (fun pl bs em yb st en fa lo => br_f (by decide) (br_f (by decide) (br_t rfl ⟨vr, ?_⟩))))
        rw [cr, fb_val e (by omega)]
        rcases lo.1 r (by omega) with ⟨z1, z2⟩ | ⟨z1, z2⟩
        · rw [z1, if_neg (fun z => z2 ((so.1 r (by omega)).mp z))]
          exact br_t rfl ⟨rfl, qq pl bs em yb st en fa lo⟩
        · rw [z1, if_pos ((so.1 r (by omega)).mpr z2)]
          exact br_f (by decide) ⟨rfl, qq pl bs em yb st en fa lo⟩
      · refine br_f (by decide) (br_t rfl ⟨vr, yy 1 _ (by omega) (fun pl bs em yb st en fa lo => br_f (by decide) (br_f (by decide) (br_f (by decide) (br_t rfl ⟨vr, ?_, qq pl bs em yb st en fa lo⟩))))⟩)
        rw [cr, fb_rep_u (lo.2.1 r (by omega)) (so.2.1 r (by omega))]
      · refine br_f (by decide) (br_f (by decide) (br_t rfl ⟨vr, yy 2 _ (by omega) (fun pl bs em yb st en fa lo => br_f (by decide) (br_f (by decide) (br_f (by decide) (br_f (by decide) (br_t rfl ⟨vr, ?_, qq pl bs em yb st en fa lo⟩)))))⟩))
        rw [cr, fb_rep_u (lo.2.1 r (by omega)) (so.2.1 r (by omega))]
      · refine br_f (by decide) (br_f (by decide) (br_f (by decide) (br_t rfl ⟨vr, yy 3 _ (by omega) (fun pl bs em yb st en fa lo => br_f (by decide) (br_f (by decide) (br_f (by decide) (br_f (by decide) (br_f (by decide) (br_t rfl ⟨vr, ?_, qq pl bs em yb st en fa lo⟩))))))⟩)))
        rw [cr, fb_rep_u (lo.2.2.1 r (by omega)) (so.2.2.1 r (by omega))]
      · refine br_f (by decide) (br_f (by decide) (br_f (by decide) (br_f (by decide) (br_t rfl (fx_many (a_begins := be) (a_firsts := fi) (a_then := th) GX (by omega) (yy 4 _ (by omega) (fun pl bs em yb st en fa lo => br_f (by decide) (br_t (by decide) ?_))))))))
        exact fy_count GY (by omega) ⟨rfl, qq pl bs em yb st en fa lo⟩
    · have qX : i_Rel (k + 4) (nI (fd_n g), nI (fd_m g), 1, e, b, f_kept, f_busyCount, f_fartherCount, f_best, f_counted, f_depth, f_place, nI nd, nI er, f_much, a_what, a_sign, a_length, a_ruleOf, a_text, be, fi, a_been, a_ends, a_far, a_begun, a_todo, a_busy, a_farther, a_number, a_now, th, a_order, a_openAlternative, a_openItem, a_openCame, a_openNode, a_nodeRule, a_nodeAlternative, a_nodeFrom, a_nodeTo, a_nodeParent, a_nodeParts, a_errorKind, a_errorPlace, a_errorItem) (nI (fd_n g), nI (fd_m g), g_known, g_counted, g_places, g_best, nI nd, nI er, g_place, g_depth, g_much, b_ruleOf, b_sizes, b_items, b_signs, b_text, b_ends, b_far, b_empty, b_begins, b_starts, b_follow, b_derivations, b_row, b_layer, b_next, b_nodes, b_errors, b_openNode, b_openAlt, b_openItem, b_came, b_sum) := fp_in ⟨GX, GY, DR, Or.inr ⟨rfl, so⟩, LL, A, CX, CY, ND, ER⟩
      have yy : wpY_about (fun r' v' => r' = -1 ∧ i_Rel (k + 4) (nI (fd_n g), nI (fd_m g), 1, e, b, f_kept, f_busyCount, f_fartherCount, f_best, f_counted, f_depth, f_place, nI nd, nI er, f_much, a_what, a_sign, a_length, a_ruleOf, a_text, be, fi, a_been, a_ends, a_far, a_begun, a_todo, a_busy, a_farther, a_number, a_now, th, a_order, a_openAlternative, a_openItem, a_openCame, a_openNode, a_nodeRule, a_nodeAlternative, a_nodeFrom, a_nodeTo, a_nodeParent, a_nodeParts, a_errorKind, a_errorPlace, a_errorItem) v') (nI (fd_n g), nI (fd_m g), g_known, g_counted, g_places, g_best, nI nd, nI er, g_place, g_depth, g_much, b_ruleOf, b_sizes, b_items, b_signs, b_text, b_ends, b_far, b_empty, b_begins, b_starts, b_follow, b_derivations, b_row, b_layer, b_next, b_nodes, b_errors, b_openNode, b_openAlt, b_openItem, b_came, b_sum) (nI r) v2 := fy_wi (fun _ _ => fy_wi (fun h1 h2 => absurd ⟨h1, h2⟩ c2) (fun _ => ⟨rfl, qX⟩)) (fun h => absurd c1 h)
      exact br_c (fun _ => yy) (fun z1 => br_c (fun _ => yy) (fun z2 => absurd ⟨Int32.not_lt.mp z1, Int32.not_lt.mp z2⟩ c2))
  · exact fx_out (fun h1 h2 => absurd ⟨h1, h2⟩ c1) (fun _ => fy_wi (fun h1 h2 => absurd ⟨h1, h2⟩ c1) (fun _ => ⟨rfl, fp_in q0⟩))
theorem i_vc_behind {k : Nat} {u : SX} {v : SY} (I : i_Rel k u v) (hk : k + 4 ≤ 2048) (v1 : Int32) (v2 : Int32) : wpX_behind (fun r u' => wpY_behind (fun r' v' => r' = r ∧ i_Rel (k + 4) u' v') v v1 v2) u v1 v2 := by
  refine fp_el (P := fun u v => wpX_behind (fun r u' => wpY_behind (fun r' v' => r' = r ∧ i_Rel (k + 4) u' v') v v1 v2) u v1 v2) I ?_
  intro g nd er f_alternatives f_tokens f_studied f_empties f_bad f_kept f_busyCount f_fartherCount f_best f_counted f_depth f_place f_nodes f_errors f_much a_what a_sign a_length a_ruleOf a_text a_begins a_firsts a_been a_ends a_far a_begun a_todo a_busy a_farther a_number a_now a_then a_order a_openAlternative a_openItem a_openCame a_openNode a_nodeRule a_nodeAlternative a_nodeFrom a_nodeTo a_nodeParent a_nodeParts a_errorKind a_errorPlace a_errorItem g_alternatives g_size g_known g_counted g_places g_best g_made g_faults g_place g_depth g_much b_ruleOf b_sizes b_items b_signs b_text b_ends b_far b_empty b_begins b_starts b_follow b_derivations b_row b_layer b_next b_nodes b_errors b_openNode b_openAlt b_openItem b_came b_sum q
  have q0 := q
  obtain ⟨GX, GY, DR, S, LL, A, CX, CY, ND, ER⟩ := q
  by_cases c1 : 0 ≤ v1 ∧ v1 ≤ 5
  · obtain ⟨r, hr, rfl⟩ := fx_of (n := 5) (by omega) c1.1 c1.2
    by_cases c2 : 0 ≤ v2 ∧ v2 ≤ 5
    · obtain ⟨s, hs, rfl⟩ := fx_of (n := 5) (by omega) c2.1 c2.2
      refine fx_out (fun _ _ => fx_out (fun _ _ => fx_study GX S (fun e b be fi th so => ⟨7, ?_⟩)) (fun h => absurd c2 h)) (fun h => absurd c1 h)
      refine fx_beh26 GX so.1 so.2.2.1 (by omega) (by omega) (fun th' x hx => ?_) 6 0 7 th (by omega) (by omega) (fun i hi => by omega)
      refine fy_wi (fun _ _ => fy_wi (fun _ _ => fy_learn GY LL (fun pl bs em yb st en fa lo => ⟨7, ?_⟩)) (fun h => absurd c2 h)) (fun h => absurd c1 h)
      refine fy_beh26 GY lo.1 lo.2.2.1 (by omega) (by omega) (fun fo y hy => ⟨fb_rep_u hy hx, fp_in ⟨GX, GY, DR, Or.inr ⟨rfl, so⟩, Or.inr ⟨rfl, lo⟩, A, CX, CY, ND, ER⟩⟩) 6 0 7 _ (by omega) (by omega) (fun i hi => by omega)
    · exact fx_out (fun _ _ => fx_out (fun h1 h2 => absurd ⟨h1, h2⟩ c2) (fun _ => fy_wi (fun _ _ => fy_wi (fun h1 h2 => absurd ⟨h1, h2⟩ c2) (fun _ => ⟨rfl, fp_in q0⟩)) (fun h => absurd c1 h))) (fun h => absurd c1 h)
  · exact fx_out (fun h1 h2 => absurd ⟨h1, h2⟩ c1) (fun _ => fy_wi (fun h1 h2 => absurd ⟨h1, h2⟩ c1) (fun _ => ⟨rfl, fp_in q0⟩))
section
variable {g : fd_Gr} {nd er : Nat}
variable {g_known g_counted g_places g_best g_place g_depth g_much : Int32} {b_ruleOf b_sizes b_items b_signs b_text b_ends b_far b_empty b_begins b_starts b_follow b_nodes b_errors b_openNode b_openAlt b_openItem b_came : Nat → Int32} {b_derivations b_row b_layer b_next b_sum : Nat → Int64}
theorem fy_part {A B : Prop} {v1 v2 v3 : Int32} (f : 0 ≤ v1 → v1 ≤ 5 → 0 ≤ v2 → v2 ≤ v3 → v3 ≤ nI (fd_m g) → A) (h : ¬ (0 ≤ v1 ∧ v1 ≤ 5 ∧ 0 ≤ v2 ∧ v2 ≤ v3 ∧ v3 ≤ nI (fd_m g)) → B) : wpY_isPart (fun r => (r = 0 → B) ∧ (¬ r = 0 → A)) (nI (fd_n g), nI (fd_m g), g_known, g_counted, g_places, g_best, nI nd, nI er, g_place, g_depth, g_much, b_ruleOf, b_sizes, b_items, b_signs, b_text, b_ends, b_far, b_empty, b_begins, b_starts, b_follow, b_derivations, b_row, b_layer, b_next, b_nodes, b_errors, b_openNode, b_openAlt, b_openItem, b_came, b_sum) v1 v2 v3 := by
  refine fy_wi (fun h1 h2 => br_c (fun z => br_t rfl (h fun c => Int32.not_lt.mpr c.2.2.1 z)) (fun z1 => br_c (fun z => br_t rfl (h fun c => Int32.not_lt.mpr c.2.2.2.1 z)) (fun z2 => br_c (fun z => br_t rfl (h fun c => Int32.not_lt.mpr c.2.2.2.2 z)) (fun z3 => br_f (by decide) (f h1 h2 (Int32.not_lt.mp z1) (Int32.not_lt.mp z2) (Int32.not_lt.mp z3)))))) (fun c => br_t rfl (h fun z => c ⟨z.1, z.2.1⟩))
end
theorem fx_part {A B : Prop} {v1 v2 v3 t : Int32} (f : 0 ≤ v1 → v1 ≤ 5 → 0 ≤ v2 → v2 ≤ v3 → v3 ≤ t → A) (h : ¬ (0 ≤ v1 ∧ v1 ≤ 5 ∧ 0 ≤ v2 ∧ v2 ≤ v3 ∧ v3 ≤ t) → B) : wpX_outside (fun r_1 => (r_1 = 0 → wpX_outside (fun r_3 => (r_3 = 0 → wpX_outside (fun r_5 => (r_5 = 0 → A) ∧ (¬ r_5 = 0 → B)) v3 v2 t) ∧ (¬ r_3 = 0 → B)) v2 0 t) ∧ (¬ r_1 = 0 → B)) v1 0 5 :=
  fx_out (fun h1 h2 => fx_out (fun h3 _ => fx_out (fun h5 h6 => f h1 h2 h3 h5 h6) (fun z => h fun c => z ⟨c.2.2.2.1, c.2.2.2.2⟩)) (fun z => h fun c => z ⟨c.2.2.1, Int32.le_trans c.2.2.2.1 c.2.2.2.2⟩)) (fun z => h fun c => z ⟨c.1, c.2.1⟩)
theorem i_vc_derives {k : Nat} {u : SX} {v : SY} (I : i_Rel k u v) (hk : k + 4 ≤ 2048) (v1 : Int32) (v2 : Int32) (v3 : Int32) : wpX_derives (fun r u' => wpY_derives (fun r' v' => r' = r ∧ i_Rel (k + 4) u' v') v v1 v2 v3) u v1 v2 v3 := by
  refine fp_el (P := fun u v => wpX_derives (fun r u' => wpY_derives (fun r' v' => r' = r ∧ i_Rel (k + 4) u' v') v v1 v2 v3) u v1 v2 v3) I ?_
  intro g nd er f_alternatives f_tokens f_studied f_empties f_bad f_kept f_busyCount f_fartherCount f_best f_counted f_depth f_place f_nodes f_errors f_much a_what a_sign a_length a_ruleOf a_text a_begins a_firsts a_been a_ends a_far a_begun a_todo a_busy a_farther a_number a_now a_then a_order a_openAlternative a_openItem a_openCame a_openNode a_nodeRule a_nodeAlternative a_nodeFrom a_nodeTo a_nodeParent a_nodeParts a_errorKind a_errorPlace a_errorItem g_alternatives g_size g_known g_counted g_places g_best g_made g_faults g_place g_depth g_much b_ruleOf b_sizes b_items b_signs b_text b_ends b_far b_empty b_begins b_starts b_follow b_derivations b_row b_layer b_next b_nodes b_errors b_openNode b_openAlt b_openItem b_came b_sum q
  have q0 := q
  obtain ⟨GX, GY, DR, S, LL, A, CX, CY, ND, ER⟩ := q
  have m24 := fd_m24 GX
  have part : ∀ {A B : Prop}, (0 ≤ v1 → v1 ≤ 5 → 0 ≤ v2 → v2 ≤ v3 → v3 ≤ nI (fd_m g) → A) → (¬ (0 ≤ v1 ∧ v1 ≤ 5 ∧ 0 ≤ v2 ∧ v2 ≤ v3 ∧ v3 ≤ nI (fd_m g)) → B) → wpY_isPart (fun r => (r = 0 → B) ∧ (¬ r = 0 → A)) (nI (fd_n g), nI (fd_m g), g_known, g_counted, g_places, g_best, nI nd, nI er, g_place, g_depth, g_much, b_ruleOf, b_sizes, b_items, b_signs, b_text, b_ends, b_far, b_empty, b_begins, b_starts, b_follow, b_derivations, b_row, b_layer, b_next, b_nodes, b_errors, b_openNode, b_openAlt, b_openItem, b_came, b_sum) v1 v2 v3 := fun f h => fy_part f h
  refine fx_part (fun h1 h2 h3 h4 h5 => ?_) (fun h => part (fun h1 h2 h3 h4 h5 => absurd ⟨h1, h2, h3, h4, h5⟩ h) (fun _ => ⟨rfl, fp_in q0⟩))
  obtain ⟨r, hr, rfl⟩ := fx_of (n := 5) (by omega) h1 h2
  obtain ⟨j, hj, rfl⟩ := fx_of (n := fd_m g) (by omega) (Int32.le_trans h3 h4) h5
  obtain ⟨i, hi, rfl⟩ := fx_of (n := j) (by omega) h3 h4
  have vk : vp_in (nI (25 * r + i)) 150 := vp_in_nI (by omega) (by omega)
  refine fx_ask GX A (by omega) (by omega) (fun ke bc fc xbe xen xfa xbg xtd xbu xft A' e1 e2 => ?_)
  rw [fx_25, show (nI (25 * r + i)).toNatClampNeg = 25 * r + i from nI_clamp (by omega)]
  refine ⟨vk, part (fun _ _ _ _ _ => fy_learn GY LL (fun pl bs em yb st en fa lo => ?_)) (fun h => absurd ⟨h1, h2, h3, h4, h5⟩ h)⟩
  rw [fx_25, show (nI (25 * r + i)).toNatClampNeg = 25 * r + i from nI_clamp (by omega)]
  refine ⟨vk, ?_, fp_in ⟨GX, GY, DR, S, Or.inr ⟨rfl, lo⟩, A', CX, CY, ND, ER⟩⟩
  rw [fb_rep_u (lo.2.2.2 r i (by omega) (by omega)).1 e1]
end
section
section
variable {g : fd_Gr} {nd er : Nat}
variable {g_known g_counted g_places g_best g_place g_depth g_much : Int32} {b_ruleOf b_sizes b_items b_signs b_text b_ends b_far b_empty b_begins b_starts b_follow b_nodes b_errors b_openNode b_openAlt b_openItem b_came : Nat → Int32} {b_derivations b_row b_layer b_next b_sum : Nat → Int64}
theorem fy_bad48 {post : Int32 → SY → Prop} {J36 : Int32 → Prop} {a : Nat} (G : fd_G g b_items b_signs b_sizes b_ruleOf b_text) (hN : ∀ r, r < 6 → (b_empty r = 0 ∧ ¬ fn_N g r) ∨ (b_empty r = 1 ∧ fn_N g r)) (ha : a < fd_n g)
    (K1 : (∃ k, k < fd_L g a ∧ 1 < fd_S g a k ∧ 7 < fd_W g a k ∧ fn_N g (fd_W g a k - 8)) → post 1 (nI (fd_n g), nI (fd_m g), g_known, g_counted, g_places, g_best, nI nd, nI er, g_place, g_depth, g_much, b_ruleOf, b_sizes, b_items, b_signs, b_text, b_ends, b_far, b_empty, b_begins, b_starts, b_follow, b_derivations, b_row, b_layer, b_next, b_nodes, b_errors, b_openNode, b_openAlt, b_openItem, b_came, b_sum)) (K0 : (∀ k, k < fd_L g a → ¬ (1 < fd_S g a k ∧ 7 < fd_W g a k ∧ fn_N g (fd_W g a k - 8))) → J36 (nI (a + 1))) :
    ∀ d k n, k + d = fd_L g a → d < n → (∀ j, j < k → ¬ (1 < fd_S g a j ∧ 7 < fd_W g a j ∧ fn_N g (fd_W g a j - 8))) → wY_isBad_48 post J36 (nI a) (nI (fd_n g)) (nI (fd_m g)) g_known g_counted g_places g_best (nI nd) (nI er) g_place g_depth g_much b_ruleOf b_sizes b_items b_signs b_text b_ends b_far b_empty b_begins b_starts b_follow b_derivations b_row b_layer b_next b_nodes b_errors b_openNode b_openAlt b_openItem b_came b_sum n (nI (5 * a + k)) := by
  have n12 := fd_n12 G
  have l5 := fd_L5 G ha
  have e5 : (5 : Int32) * nI a + b_sizes (nI a).toNatClampNeg = nI (5 * a + fd_L g a) := by rw [fx_le G ha, fx_5]
  intro d
  induction d with
  | zero =>
    intro k n hk hn h
    obtain ⟨n, rfl⟩ : ∃ k, n = k + 1 := ⟨n - 1, by omega⟩
    exact ⟨vp_in_nI (by omega) (by omega), pk_le (5 * a + fd_L g a) (5 * a + k) (fun _ => nm_r (nI_1 _) (K0 (fun j hj => h j (by omega)))) (fun h => absurd h (by omega)) (hx := e5)⟩
  | succ d ih =>
    intro k n hk hn h
    obtain ⟨n, rfl⟩ : ∃ k, n = k + 1 := ⟨n - 1, by omega⟩
    have hkl : k < fd_L g a := by omega
    have s4 := fd_S4 G ha hkl
    have w14 := fd_W14 G ha hkl
    have vi := fx_in G ha hkl
    have next : ¬ (1 < fd_S g a k ∧ 7 < fd_W g a k ∧ fn_N g (fd_W g a k - 8)) → wY_isBad_48 post J36 (nI a) (nI (fd_n g)) (nI (fd_m g)) g_known g_counted g_places g_best (nI nd) (nI er) g_place g_depth g_much b_ruleOf b_sizes b_items b_signs b_text b_ends b_far b_empty b_begins b_starts b_follow b_derivations b_row b_layer b_next b_nodes b_errors b_openNode b_openAlt b_openItem b_came b_sum n (nI (5 * a + k + 1)) := by
      intro c
      refine ih (k + 1) n (by omega) (by omega) (fun j hj => ?_)
      rcases Nat.lt_or_ge j k with y | y
      · exact h j y
      · rw [show j = k from by omega]; exact c
    refine ⟨vp_in_nI (by omega) (by omega), pk_le (5 * a + fd_L g a) (5 * a + k) (fun h => absurd h (by omega)) (fun _ => ⟨vi, ?_⟩) (hx := e5)⟩
    refine pk_lt (fd_S g a k) 2 (fun s2 => nm_r (nI_1 _) (next (fun c => by omega))) (fun s2 => ⟨vi, ?_⟩) (hx := fx_sg G ha hkl)
    refine pk_le (fd_W g a k) 7 (fun w7 => nm_r (nI_1 _) (next (fun c => by omega))) (fun w7 => ⟨vi, ?_⟩) (hx := fx_wh G ha hkl)
    rw [fx_wh G ha hkl, fx_m8 (by omega)]
    refine ⟨vp_in_nI (by omega) (by omega), ?_⟩
    rw [show (nI (fd_W g a k - 8)).toNatClampNeg = fd_W g a k - 8 from nI_clamp (by omega)]
    rcases hN (fd_W g a k - 8) (by omega) with ⟨z1, z2⟩ | ⟨z1, z2⟩
    · rw [z1]; exact br_t rfl (nm_r (nI_1 _) (next (fun c => z2 c.2.2)))
    · rw [z1]; exact br_f (by decide) (K1 ⟨k, hkl, by omega, w7, z2⟩)
theorem fy_bad36 {post : Int32 → SY → Prop} (G : fd_G g b_items b_signs b_sizes b_ruleOf b_text) (hN : ∀ r, r < 6 → (b_empty r = 0 ∧ ¬ fn_N g r) ∨ (b_empty r = 1 ∧ fn_N g r)) (K1 : (∃ a k, a < fd_n g ∧ k < fd_L g a ∧ 1 < fd_S g a k ∧ 7 < fd_W g a k ∧ fn_N g (fd_W g a k - 8)) → post 1 (nI (fd_n g), nI (fd_m g), g_known, g_counted, g_places, g_best, nI nd, nI er, g_place, g_depth, g_much, b_ruleOf, b_sizes, b_items, b_signs, b_text, b_ends, b_far, b_empty, b_begins, b_starts, b_follow, b_derivations, b_row, b_layer, b_next, b_nodes, b_errors, b_openNode, b_openAlt, b_openItem, b_came, b_sum)) (K0 : (¬ ∃ a k, a < fd_n g ∧ k < fd_L g a ∧ 1 < fd_S g a k ∧ 7 < fd_W g a k ∧ fn_N g (fd_W g a k - 8)) → post 0 (nI (fd_n g), nI (fd_m g), g_known, g_counted, g_places, g_best, nI nd, nI er, g_place, g_depth, g_much, b_ruleOf, b_sizes, b_items, b_signs, b_text, b_ends, b_far, b_empty, b_begins, b_starts, b_follow, b_derivations, b_row, b_layer, b_next, b_nodes, b_errors, b_openNode, b_openAlt, b_openItem, b_came, b_sum)) :
    ∀ d a n, a + d = fd_n g → d < n → (∀ c k, c < a → k < fd_L g c → ¬ (1 < fd_S g c k ∧ 7 < fd_W g c k ∧ fn_N g (fd_W g c k - 8))) → wY_isBad_36 post (nI (fd_n g)) (nI (fd_m g)) g_known g_counted g_places g_best (nI nd) (nI er) g_place g_depth g_much b_ruleOf b_sizes b_items b_signs b_text b_ends b_far b_empty b_begins b_starts b_follow b_derivations b_row b_layer b_next b_nodes b_errors b_openNode b_openAlt b_openItem b_came b_sum n (nI a) := by
  have n12 := fd_n12 G
  intro d
  induction d with
  | zero =>
    intro a n ha hn h
    obtain ⟨n, rfl⟩ : ∃ k, n = k + 1 := ⟨n - 1, by omega⟩
    refine pk_le (fd_n g) a (fun _ => K0 ?_) (fun h => absurd h (by omega))
    rintro ⟨c, k, c1, c2, c3⟩
    exact h c k (by omega) c2 c3
  | succ d ih =>
    intro a n ha hn h
    obtain ⟨n, rfl⟩ : ∃ k, n = k + 1 := ⟨n - 1, by omega⟩
    refine pk_le (fd_n g) a (fun h => absurd h (by omega)) (fun hl => nm_r (fx_5' a) ⟨fd_L g a + 1, ?_⟩)
    refine fy_bad48 G hN hl (fun ⟨k, z⟩ => K1 ⟨a, k, hl, z⟩) (fun h0 => ih (a + 1) n (by omega) (by omega) (fun c k hc hkc => ?_)) (fd_L g a) 0 (fd_L g a + 1) (by omega) (by omega) (fun j hj => by omega)
    rcases Nat.lt_or_ge c a with y | y
    · exact h c k y hkc
    · have e : c = a := by omega
      subst e; exact h0 k hkc
theorem fy_bad6 {post : Int32 → SY → Prop} (G : fd_G g b_items b_signs b_sizes b_ruleOf b_text) (hN : ∀ r, r < 6 → (b_empty r = 0 ∧ ¬ fn_N g r) ∨ (b_empty r = 1 ∧ fn_N g r)) (hB : ∀ r, r < 6 → fb_rep (b_begins r) (fn_B g r)) (K1 : fn_bad g → post 1 (nI (fd_n g), nI (fd_m g), g_known, g_counted, g_places, g_best, nI nd, nI er, g_place, g_depth, g_much, b_ruleOf, b_sizes, b_items, b_signs, b_text, b_ends, b_far, b_empty, b_begins, b_starts, b_follow, b_derivations, b_row, b_layer, b_next, b_nodes, b_errors, b_openNode, b_openAlt, b_openItem, b_came, b_sum)) (K0 : ¬ fn_bad g → post 0 (nI (fd_n g), nI (fd_m g), g_known, g_counted, g_places, g_best, nI nd, nI er, g_place, g_depth, g_much, b_ruleOf, b_sizes, b_items, b_signs, b_text, b_ends, b_far, b_empty, b_begins, b_starts, b_follow, b_derivations, b_row, b_layer, b_next, b_nodes, b_errors, b_openNode, b_openAlt, b_openItem, b_came, b_sum)) :
    ∀ d r n, r + d = 6 → d < n → (∀ q, q < r → ¬ fn_B g q q) → wY_isBad_6 post (nI (fd_n g)) (nI (fd_m g)) g_known g_counted g_places g_best (nI nd) (nI er) g_place g_depth g_much b_ruleOf b_sizes b_items b_signs b_text b_ends b_far b_empty b_begins b_starts b_follow b_derivations b_row b_layer b_next b_nodes b_errors b_openNode b_openAlt b_openItem b_came b_sum n (nI r) := by
  intro d
  induction d with
  | zero =>
    intro r n hr hn h
    obtain ⟨n, rfl⟩ : ∃ k, n = k + 1 := ⟨n - 1, by omega⟩
    refine pk_le 6 r (fun _ => ⟨fd_n g + 1, ?_⟩) (fun h => absurd h (by omega))
    refine fy_bad36 G hN (fun z => K1 (Or.inr z)) (fun z => K0 (fun y => ?_)) (fd_n g) 0 (fd_n g + 1) (by omega) (by omega) (fun c k hc => by omega)
    rcases y with ⟨q, q1, q2⟩ | y
    · exact h q (by omega) q2
    · exact z y
  | succ d ih =>
    intro r n hr hn h
    obtain ⟨n, rfl⟩ : ∃ k, n = k + 1 := ⟨n - 1, by omega⟩
    refine pk_le 6 r (fun h => absurd h (by omega)) (fun _ => ⟨vp_in_nI (by omega) (by omega), ?_⟩)
    rw [show (nI r).toNatClampNeg = r from nI_clamp (by omega)]
    refine fb_br1 (by omega) (fun hb => K1 (Or.inl ⟨r, by omega, (hB r (by omega) r (by omega)).mp hb⟩)) (fun hb => nm_r (nI_1 _) (ih (r + 1) n (by omega) (by omega) (fun q hq => ?_)))
    rcases Nat.lt_or_ge q r with y | y
    · exact h q y
    · have e : q = r := by omega
      subst e
      intro z
      rw [(hB q (by omega) q (by omega)).mpr z] at hb; exact absurd hb (by decide)
theorem fy_isBad {post : Int32 → SY → Prop} (G : fd_G g b_items b_signs b_sizes b_ruleOf b_text) (L : fy_L g g_known b_empty b_begins b_starts b_ends b_far)
    (K : ∀ (r pl bs : Int32) (em yb st en fa : Nat → Int32), fy_LO g em yb st en fa → ((r = 0 ∧ ¬ fn_bad g) ∨ (r = 1 ∧ fn_bad g)) → post r (nI (fd_n g), nI (fd_m g), 1, g_counted, pl, bs, nI nd, nI er, g_place, g_depth, g_much, b_ruleOf, b_sizes, b_items, b_signs, b_text, en, fa, em, yb, st, b_follow, b_derivations, b_row, b_layer, b_next, b_nodes, b_errors, b_openNode, b_openAlt, b_openItem, b_came, b_sum)) : wpY_isBad post (nI (fd_n g), nI (fd_m g), g_known, g_counted, g_places, g_best, nI nd, nI er, g_place, g_depth, g_much, b_ruleOf, b_sizes, b_items, b_signs, b_text, b_ends, b_far, b_empty, b_begins, b_starts, b_follow, b_derivations, b_row, b_layer, b_next, b_nodes, b_errors, b_openNode, b_openAlt, b_openItem, b_came, b_sum) :=
  fy_learn G L (fun pl bs em yb st en fa lo => ⟨7, fy_bad6 (b_empty := em) (b_begins := yb) G lo.1 lo.2.1 (fun z => K 1 pl bs em yb st en fa lo (Or.inr ⟨rfl, z⟩)) (fun z => K 0 pl bs em yb st en fa lo (Or.inl ⟨rfl, z⟩)) 6 0 7 (by omega) (by omega) (fun q hq => by omega)⟩)
theorem fy_taken {post : Int32 → Prop} {pl b : Nat} {x : Int32} {S P : Nat → Prop} (hm : fd_m g ≤ 24) (hx : fb_rep x S) (hP : fb_ub b P) (h1 : pl ≤ b) (h2 : pl ≤ fd_m g) (K : post (nI (fo_v g S P pl))) : wpY_taken post (nI (fd_n g), nI (fd_m g), g_known, g_counted, x, nI b, nI nd, nI er, g_place, g_depth, g_much, b_ruleOf, b_sizes, b_items, b_signs, b_text, b_ends, b_far, b_empty, b_begins, b_starts, b_follow, b_derivations, b_row, b_layer, b_next, b_nodes, b_errors, b_openNode, b_openAlt, b_openItem, b_came, b_sum) (nI pl) := by
  refine fb_br1 (by omega) (fun hb => ?_) (fun hb => ?_)
  · rw [fo_v_t ((hx _ (by omega)).mp hb)] at K
    rw [pk_sub h2, nI_1]; exact K
  · rw [fo_v_f (fun z => by rw [(hx _ (by omega)).mpr z] at hb; exact absurd hb (by decide)) hP] at K
    rw [pk_sub h1]; exact K
end
theorem i_vc_bad {k : Nat} {u : SX} {v : SY} (I : i_Rel k u v) (hk : k + 4 ≤ 2048) : wpX_bad (fun r u' => wpY_bad (fun r' v' => r' = r ∧ i_Rel (k + 4) u' v') v) u := by
  refine fp_el (P := fun u v => wpX_bad (fun r u' => wpY_bad (fun r' v' => r' = r ∧ i_Rel (k + 4) u' v') v) u) I ?_
  intro g nd er f_alternatives f_tokens f_studied f_empties f_bad f_kept f_busyCount f_fartherCount f_best f_counted f_depth f_place f_nodes f_errors f_much a_what a_sign a_length a_ruleOf a_text a_begins a_firsts a_been a_ends a_far a_begun a_todo a_busy a_farther a_number a_now a_then a_order a_openAlternative a_openItem a_openCame a_openNode a_nodeRule a_nodeAlternative a_nodeFrom a_nodeTo a_nodeParent a_nodeParts a_errorKind a_errorPlace a_errorItem g_alternatives g_size g_known g_counted g_places g_best g_made g_faults g_place g_depth g_much b_ruleOf b_sizes b_items b_signs b_text b_ends b_far b_empty b_begins b_starts b_follow b_derivations b_row b_layer b_next b_nodes b_errors b_openNode b_openAlt b_openItem b_came b_sum q
  obtain ⟨GX, GY, DR, S, LL, A, CX, CY, ND, ER⟩ := q
  unfold wpX_bad
  refine fx_study GX S (fun e b be fi th so => ?_)
  have yy : ∀ x : Int32, ((x = 0 ∧ ¬ fn_bad g) ∨ (x = 1 ∧ fn_bad g)) → wpY_bad (fun r' v' => r' = x ∧ i_Rel (k + 4) (nI (fd_n g), nI (fd_m g), 1, e, b, f_kept, f_busyCount, f_fartherCount, f_best, f_counted, f_depth, f_place, nI nd, nI er, f_much, a_what, a_sign, a_length, a_ruleOf, a_text, be, fi, a_been, a_ends, a_far, a_begun, a_todo, a_busy, a_farther, a_number, a_now, th, a_order, a_openAlternative, a_openItem, a_openCame, a_openNode, a_nodeRule, a_nodeAlternative, a_nodeFrom, a_nodeTo, a_nodeParent, a_nodeParts, a_errorKind, a_errorPlace, a_errorItem) v') (nI (fd_n g), nI (fd_m g), g_known, g_counted, g_places, g_best, nI nd, nI er, g_place, g_depth, g_much, b_ruleOf, b_sizes, b_items, b_signs, b_text, b_ends, b_far, b_empty, b_begins, b_starts, b_follow, b_derivations, b_row, b_layer, b_next, b_nodes, b_errors, b_openNode, b_openAlt, b_openItem, b_came, b_sum) := by
    intro x hx
    unfold wpY_bad
    refine fy_isBad GY LL (fun r pl bs em yb st en fa lo hr => ?_)
    have qq : i_Rel (k + 4) (nI (fd_n g), nI (fd_m g), 1, e, b, f_kept, f_busyCount, f_fartherCount, f_best, f_counted, f_depth, f_place, nI nd, nI er, f_much, a_what, a_sign, a_length, a_ruleOf, a_text, be, fi, a_been, a_ends, a_far, a_begun, a_todo, a_busy, a_farther, a_number, a_now, th, a_order, a_openAlternative, a_openItem, a_openCame, a_openNode, a_nodeRule, a_nodeAlternative, a_nodeFrom, a_nodeTo, a_nodeParent, a_nodeParts, a_errorKind, a_errorPlace, a_errorItem) (nI (fd_n g), nI (fd_m g), 1, g_counted, pl, bs, nI nd, nI er, g_place, g_depth, g_much, b_ruleOf, b_sizes, b_items, b_signs, b_text, en, fa, em, yb, st, b_follow, b_derivations, b_row, b_layer, b_next, b_nodes, b_errors, b_openNode, b_openAlt, b_openItem, b_came, b_sum) := fp_in ⟨GX, GY, DR, Or.inr ⟨rfl, so⟩, Or.inr ⟨rfl, lo⟩, A, CX, CY, ND, ER⟩
    rcases hr with ⟨rfl, z⟩ | ⟨rfl, z⟩
    · rcases hx with ⟨rfl, y⟩ | ⟨rfl, y⟩
      · exact br_t rfl ⟨rfl, qq⟩
      · exact absurd y z
    · rcases hx with ⟨rfl, y⟩ | ⟨rfl, y⟩
      · exact absurd z y
      · exact br_f (by decide) ⟨rfl, qq⟩
  rcases so.2.2.2 with ⟨rfl, z⟩ | ⟨rfl, z⟩
  · exact br_t rfl (yy 0 (Or.inl ⟨rfl, z⟩))
  · exact br_f (by decide) (yy 1 (Or.inr ⟨rfl, z⟩))
theorem i_vc_ways {k : Nat} {u : SX} {v : SY} (I : i_Rel k u v) (hk : k + 4 ≤ 2048) (v1 : Int32) (v2 : Int32) (v3 : Int32) : wpX_ways (fun r u' => wpY_ways (fun r' v' => r' = r ∧ i_Rel (k + 4) u' v') v v1 v2 v3) u v1 v2 v3 := by
  refine fp_el (P := fun u v => wpX_ways (fun r u' => wpY_ways (fun r' v' => r' = r ∧ i_Rel (k + 4) u' v') v v1 v2 v3) u v1 v2 v3) I ?_
  intro g nd er f_alternatives f_tokens f_studied f_empties f_bad f_kept f_busyCount f_fartherCount f_best f_counted f_depth f_place f_nodes f_errors f_much a_what a_sign a_length a_ruleOf a_text a_begins a_firsts a_been a_ends a_far a_begun a_todo a_busy a_farther a_number a_now a_then a_order a_openAlternative a_openItem a_openCame a_openNode a_nodeRule a_nodeAlternative a_nodeFrom a_nodeTo a_nodeParent a_nodeParts a_errorKind a_errorPlace a_errorItem g_alternatives g_size g_known g_counted g_places g_best g_made g_faults g_place g_depth g_much b_ruleOf b_sizes b_items b_signs b_text b_ends b_far b_empty b_begins b_starts b_follow b_derivations b_row b_layer b_next b_nodes b_errors b_openNode b_openAlt b_openItem b_came b_sum q
  have q0 := q
  obtain ⟨GX, GY, DR, S, LL, A, CX, CY, ND, ER⟩ := q
  have m24 := fd_m24 GX
  have part : ∀ {A B : Prop}, (0 ≤ v1 → v1 ≤ 5 → 0 ≤ v2 → v2 ≤ v3 → v3 ≤ nI (fd_m g) → A) → (¬ (0 ≤ v1 ∧ v1 ≤ 5 ∧ 0 ≤ v2 ∧ v2 ≤ v3 ∧ v3 ≤ nI (fd_m g)) → B) → wpY_isPart (fun r => (r = 0 → B) ∧ (¬ r = 0 → A)) (nI (fd_n g), nI (fd_m g), g_known, g_counted, g_places, g_best, nI nd, nI er, g_place, g_depth, g_much, b_ruleOf, b_sizes, b_items, b_signs, b_text, b_ends, b_far, b_empty, b_begins, b_starts, b_follow, b_derivations, b_row, b_layer, b_next, b_nodes, b_errors, b_openNode, b_openAlt, b_openItem, b_came, b_sum) v1 v2 v3 := fun f h => fy_part f h
  refine fx_part (fun h1 h2 h3 h4 h5 => ?_) (fun h => part (fun h1 h2 h3 h4 h5 => absurd ⟨h1, h2, h3, h4, h5⟩ h) (fun _ => ⟨rfl, fp_in q0⟩))
  obtain ⟨r, hr, rfl⟩ := fx_of (n := 5) (by omega) h1 h2
  obtain ⟨j, hj, rfl⟩ := fx_of (n := fd_m g) (by omega) (Int32.le_trans h3 h4) h5
  obtain ⟨i, hi, rfl⟩ := fx_of (n := j) (by omega) h3 h4
  refine fx_study GX S (fun e b be fi th so => ?_)
  rcases so.2.2.2 with ⟨rfl, nb⟩ | ⟨rfl, nb⟩
  · refine br_t rfl (fx_count GX CX nb so.2.1 (fun now th2 nu o nr sx => ?_))
    rw [fx_625]
    refine ⟨vp_in_nI (by omega) (by omega), ?_⟩
    rw [show (nI (625 * r + 25 * i + j)).toNatClampNeg = 625 * r + 25 * i + j from nI_clamp (by omega)]
    refine part (fun _ _ _ _ _ => fy_isBad GY LL (fun r' pl bs em yb st en fa lo hr' => ?_)) (fun h => absurd ⟨h1, h2, h3, h4, h5⟩ h)
    rcases hr' with ⟨rfl, z⟩ | ⟨rfl, z⟩
    · refine br_t rfl (fy_countAll GY nb CY (fun ro la ne su de ny sy => ?_))
      rw [fx_625]
      refine ⟨vp_in_nI (by omega) (by omega), ?_⟩
      rw [show (nI (625 * r + 25 * i + j)).toNatClampNeg = 625 * r + 25 * i + j from nI_clamp (by omega)]
      obtain ⟨x1, x2⟩ := nr (625 * r + 25 * i + j) (by omega)
      obtain ⟨y1, y2⟩ := ny (625 * r + 25 * i + j) (by omega)
      have cg := fc_uniq GX nb (by omega) sx (fc_Sol_w (by omega) sy) (fd_m g) 6 r i j (by omega) (Nat.le_of_lt (fc_rk_6 nb (by omega))) (by omega) hi (by omega)
      have u1 : fx_U nu r i j = fq_v nu (625 * r + 25 * i + j) := if_pos (by omega)
      have u2 : fy_D de r i j = fy_v de (625 * r + 25 * i + j) := if_pos (by omega)
      rw [u1, u2] at cg
      have eq := fc_le_e x2 cg
      refine nm_r y1 ?_
      rw [x1, eq]
      have em6 : (1000000 : Int64) = lN 1000000 := rfl
      rw [em6]
      have qq : i_Rel (k + 4) (nI (fd_n g), nI (fd_m g), 1, e, 0, f_kept, f_busyCount, f_fartherCount, f_best, 1, f_depth, f_place, nI nd, nI er, f_much, a_what, a_sign, a_length, a_ruleOf, a_text, be, fi, a_been, a_ends, a_far, a_begun, a_todo, a_busy, a_farther, nu, now, th2, o, a_openAlternative, a_openItem, a_openCame, a_openNode, a_nodeRule, a_nodeAlternative, a_nodeFrom, a_nodeTo, a_nodeParent, a_nodeParts, a_errorKind, a_errorPlace, a_errorItem) (nI (fd_n g), nI (fd_m g), 1, 1, pl, bs, nI nd, nI er, g_place, g_depth, g_much, b_ruleOf, b_sizes, b_items, b_signs, b_text, en, fa, em, yb, st, b_follow, de, ro, la, ne, b_nodes, b_errors, b_openNode, b_openAlt, b_openItem, b_came, su) :=
        fp_in ⟨GX, GY, DR, Or.inr ⟨rfl, so⟩, Or.inr ⟨rfl, lo⟩, A, ⟨nr, Or.inr ⟨rfl, sx⟩⟩, Or.inr ⟨rfl, ny, sy⟩, ND, ER⟩
      unfold fc_sat
      refine br_c (fun h => ?_) (fun h => ?_)
      · rw [pk_lLE (by omega) (by omega)] at h
        rw [if_pos h, lN_i]; exact ⟨rfl, qq⟩
      · rw [pk_lLE (by omega) (by omega)] at h
        rw [if_neg h]; exact ⟨rfl, qq⟩
    · exact absurd z nb
  · refine br_f (by decide) (part (fun _ _ _ _ _ => fy_isBad GY LL (fun r' pl bs em yb st en fa lo hr' => ?_)) (fun h => absurd ⟨h1, h2, h3, h4, h5⟩ h))
    rcases hr' with ⟨rfl, z⟩ | ⟨rfl, z⟩
    · exact absurd nb z
    · exact br_f (by decide) ⟨rfl, fp_in ⟨GX, GY, DR, Or.inr ⟨rfl, so⟩, Or.inr ⟨rfl, lo⟩, A, CX, CY, ND, ER⟩⟩
theorem fy_LO_EF {g : fd_Gr} {em be st en fa : Nat → Int32} (h : fy_LO g em be st en fa) : fy_EF g (fs_lE g) (fs_lF g) en fa :=
  ⟨fun r p hr hp => ⟨(h.2.2.2 r p hr hp).1, (h.2.2.2 r p hr hp).2, fs_lF_m hp⟩, fun _ _ _ hp z => fs_lE_m hp z⟩
theorem i_vc_length {k : Nat} {u : SX} {v : SY} (I : i_Rel k u v) (hk : k + 4 ≤ 2048) (v1 : Int32) (v2 : Int32) (v3 : Int32) : wpX_length (fun r u' => wpY_length (fun r' v' => r' = r ∧ i_Rel (k + 4) u' v') v v1 v2 v3) u v1 v2 v3 := by
  refine fp_el (P := fun u v => wpX_length (fun r u' => wpY_length (fun r' v' => r' = r ∧ i_Rel (k + 4) u' v') v v1 v2 v3) u v1 v2 v3) I ?_
  intro g nd er f_alternatives f_tokens f_studied f_empties f_bad f_kept f_busyCount f_fartherCount f_best f_counted f_depth f_place f_nodes f_errors f_much a_what a_sign a_length a_ruleOf a_text a_begins a_firsts a_been a_ends a_far a_begun a_todo a_busy a_farther a_number a_now a_then a_order a_openAlternative a_openItem a_openCame a_openNode a_nodeRule a_nodeAlternative a_nodeFrom a_nodeTo a_nodeParent a_nodeParts a_errorKind a_errorPlace a_errorItem g_alternatives g_size g_known g_counted g_places g_best g_made g_faults g_place g_depth g_much b_ruleOf b_sizes b_items b_signs b_text b_ends b_far b_empty b_begins b_starts b_follow b_derivations b_row b_layer b_next b_nodes b_errors b_openNode b_openAlt b_openItem b_came b_sum q
  have q0 := q
  obtain ⟨GX, GY, DR, S, LL, A, CX, CY, ND, ER⟩ := q
  have m24 := fd_m24 GX
  by_cases c1 : 0 ≤ v1 ∧ v1 ≤ 5
  · obtain ⟨r, hr, rfl⟩ := fx_of (n := 5) (by omega) c1.1 c1.2
    by_cases c3 : 0 ≤ v3 ∧ v3 ≤ nI (fd_m g)
    · obtain ⟨p, hp, rfl⟩ := fx_of (n := fd_m g) (by omega) c3.1 c3.2
      refine fx_out (fun _ _ => fx_out (fun _ _ => fx_find GX (by omega) (fun a ha => ?_) (fun hno => ?_)) (fun h => absurd c3 h)) (fun h => absurd c1 h)
      · have han : a < fd_n g := by obtain ⟨j, _, _, h⟩ := ha; exact h.1
        have n12 := fd_n12 GX
        refine br_t (nI_pos' (by omega)) ?_
        refine fx_rest (k := 0) (c := false) (S := fs_one p) GX A han (Nat.zero_le _) hp (fb_rep_one (by omega)) (fo_in_one hp) (fun x b ke bc fc xbe xen xfa xbg xtd xbu xft A' hb r1 r2 => ?_)
        have hpb : p ≤ b := ((r2 b).mp (Nat.le_refl _)).1
        have fin : ∀ z, z = nI (fo_v g (fs_go g (fs_lE g) a (fd_L g a - 0) 0 false (fs_one p)) (fun u => p ≤ u ∧ fs_gB g (fs_lE g) (fs_lF g) a (fd_L g a - 0) 0 false (fs_one p) u) p) → wpY_length (fun r' v' => r' = z ∧ i_Rel (k + 4) (nI (fd_n g), nI (fd_m g), f_studied, f_empties, f_bad, ke, bc, fc, nI b, f_counted, f_depth, f_place, nI nd, nI er, f_much, a_what, a_sign, a_length, a_ruleOf, a_text, a_begins, a_firsts, xbe, xen, xfa, xbg, xtd, xbu, xft, a_number, a_now, a_then, a_order, a_openAlternative, a_openItem, a_openCame, a_openNode, a_nodeRule, a_nodeAlternative, a_nodeFrom, a_nodeTo, a_nodeParent, a_nodeParts, a_errorKind, a_errorPlace, a_errorItem) v') (nI (fd_n g), nI (fd_m g), g_known, g_counted, g_places, g_best, nI nd, nI er, g_place, g_depth, g_much, b_ruleOf, b_sizes, b_items, b_signs, b_text, b_ends, b_far, b_empty, b_begins, b_starts, b_follow, b_derivations, b_row, b_layer, b_next, b_nodes, b_errors, b_openNode, b_openAlt, b_openItem, b_came, b_sum) (nI r) v2 (nI p) := by
          rintro z rfl
          refine fy_wi (fun _ _ => fy_find GY (by omega) (fun a' ha' => ?_) (fun hno => ?_)) (fun h => absurd c1 h)
          · have e : a' = a := by
              obtain ⟨j, j1, j2, j3⟩ := ha
              obtain ⟨j', j1', j2', j3'⟩ := ha'
              have : j' = j := (nI_eq (by omega) (by omega)).mp (j2'.symm.trans j2)
              subst this
              exact fd_at_u j3' j3
            subst e
            refine br_f (nI_pos (by omega)) (fy_wi (fun _ _ => fy_learn GY LL (fun pl bs em yb st en fa lo => ?_)) (fun h => absurd c3 h))
            unfold wpY_begin
            refine nm_e (fy_go (k := 0) (S := fs_one p) GY (fy_LO_EF lo) han (Nat.zero_le _) hp (fb_rep_one (by omega)) (fo_in_one hp) (fun x' b' hb' q1 q2 => ?_))
            exact fy_taken m24 q1 q2 ((q2 b').mp (Nat.le_refl _)).1 hp ⟨rfl, fp_in ⟨GX, GY, DR, S, Or.inr ⟨rfl, lo⟩, A', CX, CY, ND, ER⟩⟩
          · exact absurd ⟨_, a, ha.choose_spec.1, ha.choose_spec.2.1, ha.choose_spec.2.2⟩ hno
        refine fb_br (by omega) (fun h0 => ?_) (fun h1 => ?_)
        · refine fin _ ?_
          rw [fo_v_f (fun z => by rw [(r1 _ (by omega)).mpr z] at h0; exact absurd h0 (by decide)) r2, pk_sub hpb]
        · refine fin _ ?_
          rw [fo_v_t ((r1 _ (by omega)).mp h1), pk_sub hp, nI_1]
      · refine br_f (by decide) (fy_wi (fun _ _ => fy_find GY (by omega) (fun a ha => ?_) (fun _ => ?_)) (fun h => absurd c1 h))
        · obtain ⟨j, j1, j2, j3⟩ := ha
          exact absurd ⟨j, a, j1, j2, j3⟩ hno
        · exact br_t (by decide) ⟨rfl, fp_in q0⟩
    · refine fx_out (fun _ _ => fx_out (fun h1 h2 => absurd ⟨h1, h2⟩ c3) (fun _ => ?_)) (fun h => absurd c1 h)
      refine fy_wi (fun _ _ => fy_find GY (by omega) (fun a ha => ?_) (fun _ => br_t (by decide) ⟨rfl, fp_in q0⟩)) (fun h => absurd c1 h)
      have n12 := fd_n12 GX
      have han : a < fd_n g := by obtain ⟨j, _, _, h⟩ := ha; exact h.1
      exact br_f (nI_pos (by omega)) (fy_wi (fun h1 h2 => absurd ⟨h1, h2⟩ c3) (fun _ => ⟨rfl, fp_in q0⟩))
  · exact fx_out (fun h1 h2 => absurd ⟨h1, h2⟩ c1) (fun _ => fy_wi (fun h1 h2 => absurd ⟨h1, h2⟩ c1) (fun _ => br_t (by decide) ⟨rfl, fp_in q0⟩))
end
section
/-- an item has been entered: how the two sides hold the same open rule -/
def fp_P (g : fd_Gr) (a oi : Nat) (oc : Bool) (k : Nat) : Prop := k < fd_L g a ∧ ((fd_S g a k < 2 ∧ oi = k + 1 ∧ oc = false) ∨ (fd_S g a k = 2 ∧ oi = k ∧ oc = false) ∨ (fd_S g a k = 3 ∧ oi = k ∧ oc = true))
/-- all open rules are entered -/
def fp_Y0 (g : fd_Gr) (OA OI : Nat → Nat) (OC : Nat → Bool) (d : Nat) (ya yi : Nat → Int32) : Prop := d ≤ 60 ∧ ∀ i, i < d → OA i < fd_n g ∧ ya i = nI (OA i) ∧ ∃ k, yi i = nI k ∧ fp_P g (OA i) (OI i) (OC i) k
section
variable {g : fd_Gr}
variable {g_known g_counted g_places g_best g_made g_faults g_place g_depth g_much : Int32} {b_ruleOf b_sizes b_items b_signs b_text b_ends b_far b_empty b_begins b_starts b_follow b_nodes b_errors b_openNode b_openAlt b_openItem b_came : Nat → Int32} {b_derivations b_row b_layer b_next b_sum : Nat → Int64}
theorem fy_rst2 {post : SY → Prop} {OA OI : Nat → Nat} {OC : Nat → Bool} (G : fd_G g b_items b_signs b_sizes b_ruleOf b_text) (H : fy_EF g (fs_lE g) (fs_lF g) b_ends b_far) :
    ∀ d n x b0 (S P : Nat → Prop), d < n → fp_Y0 g OA OI OC d b_openAlt b_openItem → b0 ≤ fd_m g → fb_rep x S → fo_in g S → fb_ub b0 P →
      (∀ (x : Int32) (b : Nat), b ≤ fd_m g → b0 ≤ b → fb_rep x (fo_S g (fs_lE g) OA OI OC d S) → fb_ub b (fun u => P u ∧ fo_B g (fs_lE g) (fs_lF g) OA OI OC d S u) → post (nI (fd_n g), nI (fd_m g), g_known, g_counted, x, nI b, g_made, g_faults, g_place, g_depth, g_much, b_ruleOf, b_sizes, b_items, b_signs, b_text, b_ends, b_far, b_empty, b_begins, b_starts, b_follow, b_derivations, b_row, b_layer, b_next, b_nodes, b_errors, b_openNode, b_openAlt, b_openItem, b_came, b_sum)) →
      wY_rest_2 post n (nI d - 1) (nI (fd_n g)) (nI (fd_m g)) g_known g_counted x (nI b0) g_made g_faults g_place g_depth g_much b_ruleOf b_sizes b_items b_signs b_text b_ends b_far b_empty b_begins b_starts b_follow b_derivations b_row b_layer b_next b_nodes b_errors b_openNode b_openAlt b_openItem b_came b_sum := by
  have n12 := fd_n12 G
  have m24 := fd_m24 G
  intro d
  induction d with
  | zero =>
    intro n x b0 S P hn hF hb hx hS hP K
    obtain ⟨n, rfl⟩ : ∃ k, n = k + 1 := ⟨n - 1, by omega⟩
    exact br_t (by decide) (K x b0 hb (Nat.le_refl _) hx (fb_ub_e hP fun u => ⟨fun z => ⟨z, trivial⟩, fun z => z.1⟩))
  | succ d ih =>
    intro n x b0 S P hn hF hb hx hS hP K
    obtain ⟨n, rfl⟩ : ∃ k, n = k + 1 := ⟨n - 1, by omega⟩
    obtain ⟨hd, hF'⟩ := hF
    obtain ⟨f1, f2, k, f3, hk, f4⟩ := hF' d (by omega)
    have l5 := fd_L5 G f1
    have s4 := fd_S4 G f1 hk
    have w14 := fd_W14 G f1 hk
    rw [nI_pred]
    have vi : vp_in (nI d) 60 := vp_in_nI (by omega) (by omega)
    have cd : (nI d).toNatClampNeg = d := nI_clamp (by omega)
    have e3 : (5 : Int32) * b_openAlt (nI d).toNatClampNeg + b_openItem (nI d).toNatClampNeg = nI (5 * OA d + k) := by rw [cd, f2, f3, fx_5]
    have vc := fx_in G f1 hk
    have fin : ∀ (x' : Int32) (b' : Nat) (S' R : Nat → Prop), b' ≤ fd_m g → b0 ≤ b' → fb_rep x' S' → fo_in g S' →
        (fs_go g (fs_lE g) (OA d) (fd_L g (OA d) - (k + 1)) (k + 1) false S' = fs_go g (fs_lE g) (OA d) (fd_L g (OA d) - OI d) (OI d) (OC d) S) →
        fb_ub b' (fun u => P u ∧ R u) →
        (∀ u, (R u ∧ fs_gB g (fs_lE g) (fs_lF g) (OA d) (fd_L g (OA d) - (k + 1)) (k + 1) false S' u) ↔ fs_gB g (fs_lE g) (fs_lF g) (OA d) (fd_L g (OA d) - OI d) (OI d) (OC d) S u) →
        wY_rest_42 post (wY_rest_2 post n) (nI d) (nI (fd_n g)) (nI (fd_m g)) g_known g_counted x' (nI b') g_made g_faults g_place g_depth g_much b_ruleOf b_sizes b_items b_signs b_text b_ends b_far b_empty b_begins b_starts b_follow b_derivations b_row b_layer b_next b_nodes b_errors b_openNode b_openAlt b_openItem b_came b_sum := by
      intro x' b' S' R hb' hbb hx' hS' hgo hub hgB
      unfold wY_rest_42
      rw [cd, f2, f3, nI_1]
      refine ⟨vi, vi, fy_go G H f1 hk hb' hx' hS' (fun x2 b2 hb2 q1 q2 => ?_)⟩
      refine nm_r (e' := nI d - 1) (by rw [Int32.sub_eq_add_neg]) (ih n x2 b2 _ (fun u => P u ∧ fs_gB g (fs_lE g) (fs_lF g) (OA d) (fd_L g (OA d) - OI d) (OI d) (OC d) S u) (by omega) ⟨by omega, fun i hi => hF' i (by omega)⟩ hb2 q1 (fy_in_go H hS') ?_ (fun x3 b3 hb3 hbl r1 r2 => ?_))
      · refine fb_ub_e (fb_ub_c hub q2) fun u => ⟨fun z => ⟨z.1.1, (hgB u).mp ⟨z.1.2, z.2⟩⟩, fun z => ⟨⟨z.1, ((hgB u).mpr z.2).1⟩, ((hgB u).mpr z.2).2⟩⟩
      · have hb02 : b' ≤ b2 := ((q2 b2).mp (Nat.le_refl _)).1
        rw [hgo] at r1
        refine K x3 b3 hb3 (by omega) r1 (fb_ub_e r2 fun u => ?_)
        rw [hgo]
        exact ⟨fun z => ⟨z.1.1, z.1.2, z.2⟩, fun z => ⟨⟨z.1, z.2.1⟩, z.2.2⟩⟩
    refine br_f (nI_pos (by omega)) ⟨vi, vi, nm_r e3 ⟨vc, ?_⟩⟩
    refine pk_lt (fd_S g (OA d) k) 2 (fun s2 => ?_) (fun s2 => ⟨vc, ?_⟩) (hx := fx_sg G f1 hk)
    · obtain ⟨o1, o2⟩ : OI d = k + 1 ∧ OC d = false := by
        rcases f4 with z | z | z
        · exact z.2
        · omega
        · omega
      refine fin x b0 S (fun _ => True) hb (Nat.le_refl _) hx hS (by rw [o1, o2]) (fb_ub_e hP fun u => ⟨fun z => ⟨z, trivial⟩, fun z => z.1⟩) (fun u => by rw [o1, o2]; exact ⟨fun z => z.2, fun z => ⟨trivial, z⟩⟩)
    · rw [fx_wh G f1 hk]
      refine fy_again G H w14 hb hx hS (fun x' b' hb' r1 r2 => ?_)
      have o1 : OI d = k := by
        rcases f4 with z | z | z
        · omega
        · exact z.2.1
        · exact z.2.1
      have hiS : fs_iS g (fs_lE g) (OA d) k (OC d) S = fs_Sr g (fs_lE g) (fd_W g (OA d) k) S := by
        rcases f4 with z | z | z
        · omega
        · exact fs_iS2 z.1
        · rw [z.2.2]; exact fs_iS3t (by omega)
      have hiB : ∀ u, fs_iB g (fs_lE g) (fs_lF g) (OA d) k (OC d) S u ↔ ∀ p, fs_Sr g (fs_lE g) (fd_W g (OA d) k) S p → fs_Ct g (fs_lF g) (fd_W g (OA d) k) p u := by
        intro u
        rcases f4 with z | z | z
        · omega
        · rw [fs_iB2 z.1]
        · rw [z.2.2, fs_iB3 (by omega), fs_iS3t (by omega)]
          exact ⟨fun y => y.2, fun y => ⟨Or.inl rfl, y⟩⟩
      have hL : fd_L g (OA d) - k = (fd_L g (OA d) - (k + 1)) + 1 := by omega
      have e1 : fs_go g (fs_lE g) (OA d) (fd_L g (OA d) - OI d) (OI d) (OC d) S = fs_go g (fs_lE g) (OA d) (fd_L g (OA d) - (k + 1)) (k + 1) false (fs_iS g (fs_lE g) (OA d) k (OC d) S) := by rw [o1, hL]; rfl
      have e2 : ∀ u, fs_gB g (fs_lE g) (fs_lF g) (OA d) (fd_L g (OA d) - OI d) (OI d) (OC d) S u ↔ fs_iB g (fs_lE g) (fs_lF g) (OA d) k (OC d) S u ∧ fs_gB g (fs_lE g) (fs_lF g) (OA d) (fd_L g (OA d) - (k + 1)) (k + 1) false (fs_iS g (fs_lE g) (OA d) k (OC d) S) u := by intro u; rw [o1, hL]; exact Iff.rfl
      exact fin x' b' _ (fun u => ∀ p, fs_Sr g (fs_lE g) (fd_W g (OA d) k) S p → fs_Ct g (fs_lF g) (fd_W g (OA d) k) p u) hb' ((r2 b').mp (Nat.le_refl _)).1 r1 (fy_in_Sr H hS) (by rw [e1, hiS]) (fb_ub_c hP r2) (fun u => by rw [e2 u, hiB u, hiS])
theorem fy_rest {post : SY → Prop} {OA OI : Nat → Nat} {OC : Nat → Bool} {d b0 : Nat} {x : Int32} {S P : Nat → Prop} (G : fd_G g b_items b_signs b_sizes b_ruleOf b_text) (H : fy_EF g (fs_lE g) (fs_lF g) b_ends b_far) (hF : fp_Y0 g OA OI OC d b_openAlt b_openItem) (hb : b0 ≤ fd_m g) (hx : fb_rep x S) (hS : fo_in g S) (hP : fb_ub b0 P)
    (K : ∀ (x : Int32) (b : Nat), b ≤ fd_m g → b0 ≤ b → fb_rep x (fo_S g (fs_lE g) OA OI OC d S) → fb_ub b (fun u => P u ∧ fo_B g (fs_lE g) (fs_lF g) OA OI OC d S u) → post (nI (fd_n g), nI (fd_m g), g_known, g_counted, x, nI b, g_made, g_faults, g_place, g_depth, g_much, b_ruleOf, b_sizes, b_items, b_signs, b_text, b_ends, b_far, b_empty, b_begins, b_starts, b_follow, b_derivations, b_row, b_layer, b_next, b_nodes, b_errors, b_openNode, b_openAlt, b_openItem, b_came, b_sum)) :
    wpY_rest post (nI (fd_n g), nI (fd_m g), g_known, g_counted, x, nI b0, g_made, g_faults, g_place, g_depth, g_much, b_ruleOf, b_sizes, b_items, b_signs, b_text, b_ends, b_far, b_empty, b_begins, b_starts, b_follow, b_derivations, b_row, b_layer, b_next, b_nodes, b_errors, b_openNode, b_openAlt, b_openItem, b_came, b_sum) (nI d - 1) :=
  ⟨d + 1, fy_rst2 G H d (d + 1) x b0 S P (by omega) hF hb hx hS hP K⟩
end
/-! the choice of an alternative -/
noncomputable def fp_len (g : fd_Gr) (OA OI : Nat → Nat) (OC : Nat → Bool) (d pl a : Nat) : Nat :=
  fo_v g (fo_S g (fs_lE g) OA OI OC d (fs_go g (fs_lE g) a (fd_L g a - 0) 0 false (fs_one pl))) (fun u => (pl ≤ u ∧ fs_gB g (fs_lE g) (fs_lF g) a (fd_L g a - 0) 0 false (fs_one pl) u) ∧ fo_B g (fs_lE g) (fs_lF g) OA OI OC d (fs_go g (fs_lE g) a (fd_L g a - 0) 0 false (fs_one pl)) u) pl
theorem fo_lb_le {P : Nat → Prop} {u : Nat} (h : P u) : fo_lb P ≤ u := by
  have hx : ∃ u, P u := ⟨u, h⟩
  have e : fo_lb P = Classical.choose (pk_least P hx) := by unfold fo_lb; rw [dif_pos hx]
  have s := Classical.choose_spec (pk_least P hx)
  rw [e]
  rcases Nat.lt_or_ge u (Classical.choose (pk_least P hx)) with z | z
  · exact absurd h (s.2 u z)
  · exact z
theorem fo_gB_m {g : fd_Gr} {a d k : Nat} {c : Bool} {S : Nat → Prop} (h : fo_in g S) : fs_gB g (fs_lE g) (fs_lF g) a d k c S (fd_m g) :=
  fs_gB_in (I := fun p => p ≤ fd_m g) fs_lSt_m (fun _ _ hp => ⟨fun _ z _ => z, fun _ => fs_lF_m hp⟩) d k c S h
theorem fo_B_m {g : fd_Gr} {OA OI : Nat → Nat} {OC : Nat → Bool} : ∀ (d : Nat) (S : Nat → Prop), fo_in g S → fo_B g (fs_lE g) (fs_lF g) OA OI OC d S (fd_m g)
  | 0, _, _ => trivial
  | d + 1, _, h => ⟨fo_gB_m h, fo_B_m d _ (fo_in_go h)⟩
theorem fo_v_le {g : fd_Gr} {S P : Nat → Prop} {pl : Nat} (h : P (fd_m g)) : fo_v g S P pl ≤ fd_m g + 1 := by
  rcases Classical.em (S (fd_m g)) with z | z
  · rw [fo_v_t z]; omega
  · unfold fo_v; rw [if_neg z]; have := fo_lb_le h; omega
theorem fp_len_le {g : fd_Gr} {OA OI : Nat → Nat} {OC : Nat → Bool} {d pl a : Nat} (hpl : pl ≤ fd_m g) : fp_len g OA OI OC d pl a ≤ fd_m g + 1 :=
  fo_v_le ⟨⟨hpl, fo_gB_m (fo_in_one hpl)⟩, fo_B_m d _ (fo_in_go (fo_in_one hpl))⟩
theorem fd_c_ex {g : fd_Gr} {r k : Nat} : ∀ A, k < fd_c g r A → ∃ a, a < A ∧ fd_R g a = r ∧ fd_c g r a = k
  | 0, h => absurd h (Nat.not_lt_zero _)
  | A + 1, h => by
    by_cases e : fd_R g A = r
    · rw [fd_c_t e] at h
      by_cases z : k = fd_c g r A
      · exact ⟨A, by omega, e, z.symm⟩
      · obtain ⟨a, a1, a2⟩ := fd_c_ex A (by omega : k < fd_c g r A)
        exact ⟨a, by omega, a2⟩
    · rw [fd_c_f e] at h
      obtain ⟨a, a1, a2⟩ := fd_c_ex A h
      exact ⟨a, by omega, a2⟩
def fp_am (g : fd_Gr) (r : Nat) (Ln : Nat → Nat) (k c : Nat) : Prop :=
  c < fd_n g ∧ fd_R g c = r ∧ fd_c g r c < k ∧ (∀ a, a < fd_n g → fd_R g a = r → fd_c g r a < k → Ln a ≤ Ln c) ∧ ∀ a, a < c → fd_R g a = r → Ln a < Ln c
theorem fp_am_u {g : fd_Gr} {r k c c' : Nat} {Ln : Nat → Nat} (h : fp_am g r Ln k c) (h' : fp_am g r Ln k c') : c = c' := by
  obtain ⟨a1, a2, a3, a4, a5⟩ := h
  obtain ⟨b1, b2, b3, b4, b5⟩ := h'
  rcases Nat.lt_or_ge c c' with y | y
  · have := b5 c y a2
    have := a4 c' b1 b2 b3
    omega
  · rcases Nat.eq_or_lt_of_le y with z | z
    · exact z.symm
    · have := a5 c' z b2
      have := b4 c a1 a2 a3
      omega
/-- one alternative more -/
theorem fp_am_s {g : fd_Gr} {r a : Nat} {Ln : Nat → Nat} (ha : a < fd_n g) (hR : fd_R g a = r) :
    (fd_c g r a = 0 → fp_am g r Ln (fd_c g r a + 1) a) ∧ ∀ c, fp_am g r Ln (fd_c g r a) c → (Ln c < Ln a → fp_am g r Ln (fd_c g r a + 1) a) ∧ (Ln a ≤ Ln c → fp_am g r Ln (fd_c g r a + 1) c) := by
  have lt : ∀ b, b < a → fd_R g b = r → fd_c g r b < fd_c g r a := fun b hb hr => by
    have := fd_c_m g r (show b + 1 ≤ a from hb)
    rw [fd_c_t hr] at this; omega
  have only : ∀ b, b < fd_n g → fd_R g b = r → fd_c g r b < fd_c g r a + 1 → b = a ∨ fd_c g r b < fd_c g r a := fun b hb hr hc => by
    rcases Nat.lt_or_ge a b with y | y
    · have := fd_c_m g r (show a + 1 ≤ b from y)
      rw [fd_c_t hR] at this; omega
    · rcases Nat.eq_or_lt_of_le y with z | z
      · exact Or.inl z
      · exact Or.inr (lt b z hr)
  refine ⟨fun h0 => ⟨ha, hR, by omega, fun b h1 h2 h3 => ?_, fun b h1 h2 => ?_⟩, fun c hc => ?_⟩
  · rcases only b h1 h2 h3 with z | z
    · rw [z]; exact Nat.le_refl _
    · omega
  · have := lt b h1 h2; omega
  · obtain ⟨a1, a2, a3, a4, a5⟩ := hc
    refine ⟨fun hl => ⟨ha, hR, by omega, fun b h1 h2 h3 => ?_, fun b h1 h2 => ?_⟩, fun hl => ⟨a1, a2, by omega, fun b h1 h2 h3 => ?_, a5⟩⟩
    · rcases only b h1 h2 h3 with z | z
      · rw [z]; exact Nat.le_refl _
      · have := a4 b h1 h2 z; omega
    · have := a4 b (by omega) h2 (lt b h1 h2); omega
    · rcases only b h1 h2 h3 with z | z
      · rw [z]; exact hl
      · exact a4 b h1 h2 z
section
variable {g : fd_Gr}
variable {g_known g_counted g_places g_best g_made g_faults g_place g_depth g_much : Int32} {b_ruleOf b_sizes b_items b_signs b_text b_ends b_far b_empty b_begins b_starts b_follow b_nodes b_errors b_openNode b_openAlt b_openItem b_came : Nat → Int32} {b_derivations b_row b_layer b_next b_sum : Nat → Int64}
theorem fy_takn {post : Int32 → Prop} {pl b : Nat} {x : Int32} {S P : Nat → Prop} (hm : fd_m g ≤ 24) (hx : fb_rep x S) (hP : fb_ub b P) (h1 : pl ≤ b) (h2 : pl ≤ fd_m g) (K : post (nI (fo_v g S P pl))) : wpY_taken post (nI (fd_n g), nI (fd_m g), g_known, g_counted, x, nI b, g_made, g_faults, g_place, g_depth, g_much, b_ruleOf, b_sizes, b_items, b_signs, b_text, b_ends, b_far, b_empty, b_begins, b_starts, b_follow, b_derivations, b_row, b_layer, b_next, b_nodes, b_errors, b_openNode, b_openAlt, b_openItem, b_came, b_sum) (nI pl) := by
  refine fb_br1 (by omega) (fun hb => ?_) (fun hb => ?_)
  · rw [fo_v_t ((hx _ (by omega)).mp hb)] at K
    rw [pk_sub h2, nI_1]; exact K
  · rw [fo_v_f (fun z => by rw [(hx _ (by omega)).mpr z] at hb; exact absurd hb (by decide)) hP] at K
    rw [pk_sub h1]; exact K
theorem fy_cho14 {post : Int32 → SY → Prop} {OA OI : Nat → Nat} {OC : Nat → Bool} {d pl r : Nat} (G : fd_G g b_items b_signs b_sizes b_ruleOf b_text) (H : fy_EF g (fs_lE g) (fs_lF g) b_ends b_far) (hr : r < 6) (hpl : pl ≤ fd_m g) (hF : fp_Y0 g OA OI OC d b_openAlt b_openItem)
    (K : ∀ (x bs : Int32) c, fp_am g r (fp_len g OA OI OC d pl) (fd_c g r (fd_n g)) c → post (nI (fd_c g r c)) (nI (fd_n g), nI (fd_m g), g_known, g_counted, x, bs, g_made, g_faults, nI pl, nI d, g_much, b_ruleOf, b_sizes, b_items, b_signs, b_text, b_ends, b_far, b_empty, b_begins, b_starts, b_follow, b_derivations, b_row, b_layer, b_next, b_nodes, b_errors, b_openNode, b_openAlt, b_openItem, b_came, b_sum)) :
    ∀ e k n x3 x4 x bs, k + e = fd_c g r (fd_n g) → e < n → ((x3 = -1 ∧ k = 0 ∧ 0 < fd_c g r (fd_n g)) ∨ ∃ c, fp_am g r (fp_len g OA OI OC d pl) k c ∧ x3 = nI (fp_len g OA OI OC d pl c) ∧ x4 = nI (fd_c g r c)) →
      wY_choose_14 post (nI r) (nI (fd_c g r (fd_n g))) n x3 x4 (nI k) (nI (fd_n g)) (nI (fd_m g)) g_known g_counted x bs g_made g_faults (nI pl) (nI d) g_much b_ruleOf b_sizes b_items b_signs b_text b_ends b_far b_empty b_begins b_starts b_follow b_derivations b_row b_layer b_next b_nodes b_errors b_openNode b_openAlt b_openItem b_came b_sum := by
  have n12 := fd_n12 G
  have m24 := fd_m24 G
  have cl := fd_c_le g r (fd_n g)
  have llt : ∀ a, fp_len g OA OI OC d pl a < 2 ^ 31 := fun a => by
    have := fp_len_le (g := g) (OA := OA) (OI := OI) (OC := OC) (d := d) (a := a) hpl
    omega
  intro e
  induction e with
  | zero =>
    intro k n x3 x4 x bs hk hn h
    obtain ⟨n, rfl⟩ : ∃ k, n = k + 1 := ⟨n - 1, by omega⟩
    refine pk_le (fd_c g r (fd_n g)) k (fun _ => ?_) (fun h => absurd h (by omega))
    rcases h with ⟨_, h1, h2⟩ | ⟨c, h1, h2, h3⟩
    · omega
    · rw [h3]
      have ek : k = fd_c g r (fd_n g) := by omega
      rw [ek] at h1
      exact K x bs c h1
  | succ e ih =>
    intro k n x3 x4 x bs hk hn h
    obtain ⟨n, rfl⟩ : ∃ k, n = k + 1 := ⟨n - 1, by omega⟩
    refine pk_le (fd_c g r (fd_n g)) k (fun h => absurd h (by omega)) (fun hl => fy_find G hr (fun a ha => ?_) (fun hno => ?_))
    · obtain ⟨k', hk', e1, ⟨an, aR, ac⟩⟩ := ha
      have ek : k' = k := (nI_eq (by omega) (by omega)).mp e1.symm
      subst ek
      unfold wpY_begin
      refine nm_e (fy_go (k := 0) (S := fs_one pl) G H an (Nat.zero_le _) hpl (fb_rep_one (by omega)) (fo_in_one hpl) (fun x' b' hb' q1 q2 => ?_))
      refine fy_rest G H hF hb' q1 (fy_in_go H (fo_in_one hpl)) q2 (fun x2 b2 hb2 hbl r1 r2 => ?_)
      refine fy_takn m24 r1 r2 (by have := ((q2 b').mp (Nat.le_refl _)).1; omega) hpl ?_
      have am := fp_am_s (Ln := fp_len g OA OI OC d pl) an aR
      rw [ac] at am
      rcases h with ⟨rfl, h1, h2⟩ | ⟨c, h1, rfl, h3⟩
      · refine br_t ?_ (nm_r (nI_1 _) (ih (k' + 1) n _ _ _ _ (by omega) (by omega) (Or.inr ⟨a, am.1 h1, rfl, by rw [ac]⟩)))
        exact Int32.lt_of_lt_of_le (by decide) (nI_pos' (llt a))
      · refine pk_lt (fp_len g OA OI OC d pl c) (fp_len g OA OI OC d pl a) (fun z => nm_r (nI_1 _) (ih (k' + 1) n _ _ _ _ (by omega) (by omega) (Or.inr ⟨a, (am.2 c h1).1 z, rfl, by rw [ac]⟩))) (fun z => nm_r (nI_1 _) (ih (k' + 1) n _ _ _ _ (by omega) (by omega) (Or.inr ⟨c, (am.2 c h1).2 z, rfl, h3⟩))) (ha := llt c) (hb := llt a)
    · obtain ⟨a, a1, a2, a3⟩ := fd_c_ex (fd_n g) hl
      exact absurd ⟨k, a, by omega, rfl, a1, a2, a3⟩ hno
theorem fy_choose {post : Int32 → SY → Prop} {OA OI : Nat → Nat} {OC : Nat → Bool} {d pl r : Nat} (G : fd_G g b_items b_signs b_sizes b_ruleOf b_text) (H : fy_EF g (fs_lE g) (fs_lF g) b_ends b_far) (hr : r < 6) (hpl : pl ≤ fd_m g) (hF : fp_Y0 g OA OI OC d b_openAlt b_openItem) (h0 : 0 < fd_c g r (fd_n g))
    (K : ∀ (x bs : Int32) c, fp_am g r (fp_len g OA OI OC d pl) (fd_c g r (fd_n g)) c → post (nI (fd_c g r c)) (nI (fd_n g), nI (fd_m g), g_known, g_counted, x, bs, g_made, g_faults, nI pl, nI d, g_much, b_ruleOf, b_sizes, b_items, b_signs, b_text, b_ends, b_far, b_empty, b_begins, b_starts, b_follow, b_derivations, b_row, b_layer, b_next, b_nodes, b_errors, b_openNode, b_openAlt, b_openItem, b_came, b_sum)) :
    wpY_choose post (nI (fd_n g), nI (fd_m g), g_known, g_counted, g_places, g_best, g_made, g_faults, nI pl, nI d, g_much, b_ruleOf, b_sizes, b_items, b_signs, b_text, b_ends, b_far, b_empty, b_begins, b_starts, b_follow, b_derivations, b_row, b_layer, b_next, b_nodes, b_errors, b_openNode, b_openAlt, b_openItem, b_came, b_sum) (nI r) :=
  fy_count G hr ⟨fd_c g r (fd_n g) + 1, fy_cho14 G H hr hpl hF K (fd_c g r (fd_n g)) 0 (fd_c g r (fd_n g) + 1) (-1) 0 _ _ (by omega) (by omega) (Or.inl ⟨rfl, rfl, h0⟩)⟩
end
end
section
theorem fo_S_e {g : fd_Gr} {OA OI OI' : Nat → Nat} {OC OC' : Nat → Bool} : ∀ (d : Nat) (S : Nat → Prop), (∀ i, i < d → OI i = OI' i ∧ OC i = OC' i) → fo_S g (fs_lE g) OA OI OC d S = fo_S g (fs_lE g) OA OI' OC' d S
  | 0, _, _ => rfl
  | d + 1, S, h => by
    show fo_S g (fs_lE g) OA OI OC d (fs_go g (fs_lE g) (OA d) (fd_L g (OA d) - OI d) (OI d) (OC d) S) = fo_S g (fs_lE g) OA OI' OC' d (fs_go g (fs_lE g) (OA d) (fd_L g (OA d) - OI' d) (OI' d) (OC' d) S)
    rw [(h d (by omega)).1, (h d (by omega)).2, fo_S_e d _ (fun i hi => h i (by omega))]
theorem fo_B_e {g : fd_Gr} {OA OI OI' : Nat → Nat} {OC OC' : Nat → Bool} {u : Nat} : ∀ (d : Nat) (S : Nat → Prop), (∀ i, i < d → OI i = OI' i ∧ OC i = OC' i) → fo_B g (fs_lE g) (fs_lF g) OA OI OC d S u = fo_B g (fs_lE g) (fs_lF g) OA OI' OC' d S u
  | 0, _, _ => rfl
  | d + 1, S, h => by
    show (fs_gB g (fs_lE g) (fs_lF g) (OA d) (fd_L g (OA d) - OI d) (OI d) (OC d) S u ∧ fo_B g (fs_lE g) (fs_lF g) OA OI OC d (fs_go g (fs_lE g) (OA d) (fd_L g (OA d) - OI d) (OI d) (OC d) S) u) = (fs_gB g (fs_lE g) (fs_lF g) (OA d) (fd_L g (OA d) - OI' d) (OI' d) (OC' d) S u ∧ fo_B g (fs_lE g) (fs_lF g) OA OI' OC' d (fs_go g (fs_lE g) (OA d) (fd_L g (OA d) - OI' d) (OI' d) (OC' d) S) u)
    rw [(h d (by omega)).1, (h d (by omega)).2, fo_B_e d _ (fun i hi => h i (by omega))]
/-- with an item that need not come, and without it -/
noncomputable def fp_wi (g : fd_Gr) (OA OI : Nat → Nat) (OC : Nat → Bool) (d pl w : Nat) : Nat :=
  fo_v g (fo_S g (fs_lE g) OA OI OC d (fs_On g (fs_lE g) w (fs_one pl))) (fun u => (pl ≤ u ∧ ∀ p, fs_one pl p → fs_Ct g (fs_lF g) w p u) ∧ fo_B g (fs_lE g) (fs_lF g) OA OI OC d (fs_On g (fs_lE g) w (fs_one pl)) u) pl
noncomputable def fp_wo (g : fd_Gr) (OA OI : Nat → Nat) (OC : Nat → Bool) (d pl : Nat) : Nat :=
  fo_v g (fo_S g (fs_lE g) OA OI OC d (fs_one pl)) (fun u => pl ≤ u ∧ fo_B g (fs_lE g) (fs_lF g) OA OI OC d (fs_one pl) u) pl
theorem fp_wi_le {g : fd_Gr} {OA OI : Nat → Nat} {OC : Nat → Bool} {d pl w : Nat} (hpl : pl ≤ fd_m g) : fp_wi g OA OI OC d pl w ≤ fd_m g + 1 :=
  fo_v_le ⟨⟨hpl, fun p hp => by rw [show p = pl from hp]; exact ⟨fun _ z _ => z, fun _ => fs_lF_m hpl⟩⟩, fo_B_m d _ (fo_in_On (fo_in_one hpl))⟩
theorem fp_wo_le {g : fd_Gr} {OA OI : Nat → Nat} {OC : Nat → Bool} {d pl : Nat} (hpl : pl ≤ fd_m g) : fp_wo g OA OI OC d pl ≤ fd_m g + 1 :=
  fo_v_le ⟨hpl, fo_B_m d _ (fo_in_one hpl)⟩
def fp_bt (g : fd_Gr) (pl wi wo : Nat) : Prop := wo < wi ∨ (wi = wo ∧ wi = fd_m g - pl + 1)
theorem fp_dec {A B : Prop} {g : fd_Gr} {pl wi wo : Nat} (hpl : pl ≤ fd_m g) (hm : fd_m g ≤ 24) (h1 : wi ≤ fd_m g + 1) (h2 : wo ≤ fd_m g + 1) (K1 : fp_bt g pl wi wo → A) (K0 : ¬ fp_bt g pl wi wo → B) :
    (nI wo < nI wi → A) ∧ (¬ nI wo < nI wi → (nI wi = nI wo → (nI wi = nI (fd_m g) - nI pl + 1 → A) ∧ (¬ nI wi = nI (fd_m g) - nI pl + 1 → B)) ∧ (¬ nI wi = nI wo → B)) := by
  have e : nI (fd_m g) - nI pl + 1 = nI (fd_m g - pl + 1) := by rw [pk_sub hpl, nI_1]
  refine pk_lt wo wi (fun h => K1 (Or.inl h)) (fun h => pk_eq wi wo (fun h3 => pk_eq wi (fd_m g - pl + 1) (fun h4 => K1 (Or.inr ⟨h3, h4⟩)) (fun h4 => K0 (fun z => ?_)) (hy := e)) (fun h3 => K0 (fun z => ?_)))
  · rcases z with z | z
    · omega
    · exact h4 z.2
  · rcases z with z | z
    · omega
    · exact h3 z.1
section
variable {g : fd_Gr}
variable {g_known g_counted g_places g_best g_made g_faults g_place g_depth g_much : Int32} {b_ruleOf b_sizes b_items b_signs b_text b_ends b_far b_empty b_begins b_starts b_follow b_nodes b_errors b_openNode b_openAlt b_openItem b_came : Nat → Int32} {b_derivations b_row b_layer b_next b_sum : Nat → Int64}
theorem fy_comes {post : Int32 → SY → Prop} {OA OI OI2 : Nat → Nat} {OC OC2 : Nat → Bool} {f pl k : Nat} (G : fd_G g b_items b_signs b_sizes b_ruleOf b_text) (H : fy_EF g (fs_lE g) (fs_lF g) b_ends b_far) (hpl : pl ≤ fd_m g) (hF : fp_Y0 g OA OI OC (f + 1) b_openAlt b_openItem) (hk : b_openItem f = nI k) (hkl : k < fd_L g (OA f)) (h2 : ∀ i, i < f → OI i = OI2 i ∧ OC i = OC2 i) (h3 : OI2 f = k + 1) (h4 : OC2 f = false)
    (K : ∀ (r x bs : Int32), ((r = 1 ∧ fp_bt g pl (fp_wi g OA OI OC (f + 1) pl (fd_W g (OA f) k)) (fp_wo g OA OI2 OC2 (f + 1) pl)) ∨ (r = 0 ∧ ¬ fp_bt g pl (fp_wi g OA OI OC (f + 1) pl (fd_W g (OA f) k)) (fp_wo g OA OI2 OC2 (f + 1) pl))) → post r (nI (fd_n g), nI (fd_m g), g_known, g_counted, x, bs, g_made, g_faults, nI pl, g_depth, g_much, b_ruleOf, b_sizes, b_items, b_signs, b_text, b_ends, b_far, b_empty, b_begins, b_starts, b_follow, b_derivations, b_row, b_layer, b_next, b_nodes, b_errors, b_openNode, b_openAlt, b_openItem, b_came, b_sum)) :
    wpY_comes post (nI (fd_n g), nI (fd_m g), g_known, g_counted, g_places, g_best, g_made, g_faults, nI pl, g_depth, g_much, b_ruleOf, b_sizes, b_items, b_signs, b_text, b_ends, b_far, b_empty, b_begins, b_starts, b_follow, b_derivations, b_row, b_layer, b_next, b_nodes, b_errors, b_openNode, b_openAlt, b_openItem, b_came, b_sum) (nI f) := by
  have n12 := fd_n12 G
  have m24 := fd_m24 G
  obtain ⟨hd, hF'⟩ := hF
  obtain ⟨f1, f2, _⟩ := hF' f (by omega)
  have l5 := fd_L5 G f1
  have w14 := fd_W14 G f1 hkl
  have vf : vp_in (nI f) 60 := vp_in_nI (by omega) (by omega)
  have cf : (nI f).toNatClampNeg = f := nI_clamp (by omega)
  have e5 : (5 : Int32) * b_openAlt (nI f).toNatClampNeg + b_openItem (nI f).toNatClampNeg = nI (5 * OA f + k) := by rw [cf, f2, hk, fx_5]
  refine ⟨vf, vf, nm_r e5 ?_⟩
  unfold wpY_begin
  refine nm_e ⟨fx_in G f1 hkl, ?_⟩
  rw [fx_wh G f1 hkl]
  refine fy_once (S := fs_one pl) G H w14 hpl (fb_rep_one (by omega)) (fo_in_one hpl) (fun x b hb q1 q2 => ?_)
  have hpb : pl ≤ b := ((q2 b).mp (Nat.le_refl _)).1
  have R1 : ∀ post', (∀ (x : Int32) (b' : Nat), b' ≤ fd_m g → b ≤ b' → fb_rep x (fo_S g (fs_lE g) OA OI OC (f + 1) (fs_On g (fs_lE g) (fd_W g (OA f) k) (fs_one pl))) → fb_ub b' (fun u => (pl ≤ u ∧ ∀ p, fs_one pl p → fs_Ct g (fs_lF g) (fd_W g (OA f) k) p u) ∧ fo_B g (fs_lE g) (fs_lF g) OA OI OC (f + 1) (fs_On g (fs_lE g) (fd_W g (OA f) k) (fs_one pl)) u) → post' (nI (fd_n g), nI (fd_m g), g_known, g_counted, x, nI b', g_made, g_faults, nI pl, g_depth, g_much, b_ruleOf, b_sizes, b_items, b_signs, b_text, b_ends, b_far, b_empty, b_begins, b_starts, b_follow, b_derivations, b_row, b_layer, b_next, b_nodes, b_errors, b_openNode, b_openAlt, b_openItem, b_came, b_sum)) → wpY_rest post' (nI (fd_n g), nI (fd_m g), g_known, g_counted, x, nI b, g_made, g_faults, nI pl, g_depth, g_much, b_ruleOf, b_sizes, b_items, b_signs, b_text, b_ends, b_far, b_empty, b_begins, b_starts, b_follow, b_derivations, b_row, b_layer, b_next, b_nodes, b_errors, b_openNode, b_openAlt, b_openItem, b_came, b_sum) (nI f) := by
    intro post' hK
    have := fy_rest (post := post') (g_place := nI pl) G H ⟨hd, hF'⟩ hb q1 (fy_in_On H (fo_in_one hpl)) q2 hK
    rw [nI_pred] at this
    exact this
  refine R1 _ (fun x1 b1 hb1 hbl1 r1 r2 => ?_)
  refine fy_takn (g_place := nI pl) m24 r1 r2 (by omega) hpl ?_
  refine nm_e ⟨vf, vf, ?_⟩
  rw [cf, f2, hk, nI_1]
  refine fy_go (S := fs_one pl) (g_place := nI pl) G H f1 (by omega) hpl (fb_rep_one (by omega)) (fo_in_one hpl) (fun x2 b2 hb2 p1 p2 => ?_)
  have hpb2 : pl ≤ b2 := ((p2 b2).mp (Nat.le_refl _)).1
  refine fy_rest (OI := OI) (OC := OC) (d := f) (g_place := nI pl) G H ⟨by omega, fun i hi => hF' i (by omega)⟩ hb2 p1 (fy_in_go H (fo_in_one hpl)) p2 (fun x3 b3 hb3 hbl3 t1 t2 => ?_)
  have eS : fo_S g (fs_lE g) OA OI OC f (fs_go g (fs_lE g) (OA f) (fd_L g (OA f) - (k + 1)) (k + 1) false (fs_one pl)) = fo_S g (fs_lE g) OA OI2 OC2 (f + 1) (fs_one pl) := by
    show _ = fo_S g (fs_lE g) OA OI2 OC2 f (fs_go g (fs_lE g) (OA f) (fd_L g (OA f) - OI2 f) (OI2 f) (OC2 f) (fs_one pl))
    rw [h3, h4, fo_S_e f _ h2]
  have eB : (fun u => (pl ≤ u ∧ fs_gB g (fs_lE g) (fs_lF g) (OA f) (fd_L g (OA f) - (k + 1)) (k + 1) false (fs_one pl) u) ∧ fo_B g (fs_lE g) (fs_lF g) OA OI OC f (fs_go g (fs_lE g) (OA f) (fd_L g (OA f) - (k + 1)) (k + 1) false (fs_one pl)) u) = (fun u => pl ≤ u ∧ fo_B g (fs_lE g) (fs_lF g) OA OI2 OC2 (f + 1) (fs_one pl) u) := by
    funext u
    show ((pl ≤ u ∧ fs_gB g (fs_lE g) (fs_lF g) (OA f) (fd_L g (OA f) - (k + 1)) (k + 1) false (fs_one pl) u) ∧ fo_B g (fs_lE g) (fs_lF g) OA OI OC f (fs_go g (fs_lE g) (OA f) (fd_L g (OA f) - (k + 1)) (k + 1) false (fs_one pl)) u) = (pl ≤ u ∧ (fs_gB g (fs_lE g) (fs_lF g) (OA f) (fd_L g (OA f) - OI2 f) (OI2 f) (OC2 f) (fs_one pl) u ∧ fo_B g (fs_lE g) (fs_lF g) OA OI2 OC2 f (fs_go g (fs_lE g) (OA f) (fd_L g (OA f) - OI2 f) (OI2 f) (OC2 f) (fs_one pl)) u))
    rw [h3, h4, fo_B_e f _ h2]
    exact propext ⟨fun z => ⟨z.1.1, z.1.2, z.2⟩, fun z => ⟨⟨z.1, z.2.1⟩, z.2.2⟩⟩
  rw [eS] at t1
  rw [eB] at t2
  refine fy_takn (g_place := nI pl) m24 t1 t2 (by omega) hpl ?_
  exact fp_dec hpl m24 (fp_wi_le hpl) (fp_wo_le hpl) (fun z => K 1 _ _ (Or.inl ⟨rfl, z⟩)) (fun z => K 0 _ _ (Or.inr ⟨rfl, z⟩))
theorem fy_fault {post : SY → Prop} {er pl : Nat} {p0 p1 : Int32} (he : er ≤ 8) (K8 : er = 8 → post (nI (fd_n g), nI (fd_m g), g_known, g_counted, g_places, g_best, g_made, nI 8, nI pl, g_depth, 1, b_ruleOf, b_sizes, b_items, b_signs, b_text, b_ends, b_far, b_empty, b_begins, b_starts, b_follow, b_derivations, b_row, b_layer, b_next, b_nodes, b_errors, b_openNode, b_openAlt, b_openItem, b_came, b_sum))
    (K : er < 8 → ∀ e, (∀ i, i < 3 * er → e i = b_errors i) → e (3 * er) = p0 → e (3 * er + 1) = nI pl → e (3 * er + 2) = p1 → post (nI (fd_n g), nI (fd_m g), g_known, g_counted, g_places, g_best, g_made, nI (er + 1), nI pl, g_depth, g_much, b_ruleOf, b_sizes, b_items, b_signs, b_text, b_ends, b_far, b_empty, b_begins, b_starts, b_follow, b_derivations, b_row, b_layer, b_next, b_nodes, e, b_openNode, b_openAlt, b_openItem, b_came, b_sum)) : wpY_fault post (nI (fd_n g), nI (fd_m g), g_known, g_counted, g_places, g_best, g_made, nI er, nI pl, g_depth, g_much, b_ruleOf, b_sizes, b_items, b_signs, b_text, b_ends, b_far, b_empty, b_begins, b_starts, b_follow, b_derivations, b_row, b_layer, b_next, b_nodes, b_errors, b_openNode, b_openAlt, b_openItem, b_came, b_sum) p0 p1 := by
  refine pk_eq er 8 (fun h => by subst h; exact K8 rfl) (fun h => ?_)
  have e3 : (3 : Int32) * nI er = nI (3 * er) := by rw [show (3 : Int32) = nI 3 from rfl, pk_mul]
  have e31 : nI (3 * er) + 1 = nI (3 * er + 1) := nI_1 _
  have e32 : nI (3 * er) + 2 = nI (3 * er + 2) := by rw [show (2 : Int32) = nI 2 from rfl, nI_add]
  rw [e3, e31, e32]
  refine ⟨vp_in_nI (by omega) (by omega), nm_r (e' := upd b_errors (3 * er) p0) (by rw [nI_clamp (by omega)]) ⟨vp_in_nI (by omega) (by omega), nm_r (e' := upd (upd b_errors (3 * er) p0) (3 * er + 1) (nI pl)) (by rw [nI_clamp (by omega)]) ⟨vp_in_nI (by omega) (by omega), nm_r (e' := upd (upd (upd b_errors (3 * er) p0) (3 * er + 1) (nI pl)) (3 * er + 2) p1) (by rw [nI_clamp (by omega)]) (nm_r (nI_1 _) (K (by omega) _ (fun i hi => ?_) ?_ ?_ pk_us))⟩⟩⟩
  · rw [pk_un (by omega), pk_un (by omega), pk_un (by omega)]
  · rw [pk_un (by omega), pk_un (by omega), pk_us]
  · rw [pk_un (by omega), pk_us]
theorem fy_passed {post : SY → Prop} {f a oi k : Nat} {oc : Bool} (G : fd_G g b_items b_signs b_sizes b_ruleOf b_text) (hf : f < 60) (ha : a < fd_n g) (h1 : b_openAlt f = nI a) (h2 : b_openItem f = nI k) (h3 : fp_P g a oi oc k)
    (K : ∀ yi yc, (∀ i, i ≠ f → yi i = b_openItem i ∧ yc i = b_came i) → yi f = nI oi → (∃ c, yc f = fb_i c ∧ (oi < fd_L g a → fd_S g a oi = 3 → c = oc)) → post (nI (fd_n g), nI (fd_m g), g_known, g_counted, g_places, g_best, g_made, g_faults, g_place, nI (f + 1), g_much, b_ruleOf, b_sizes, b_items, b_signs, b_text, b_ends, b_far, b_empty, b_begins, b_starts, b_follow, b_derivations, b_row, b_layer, b_next, b_nodes, b_errors, b_openNode, b_openAlt, yi, yc, b_sum)) : wpY_passed post (nI (fd_n g), nI (fd_m g), g_known, g_counted, g_places, g_best, g_made, g_faults, g_place, nI (f + 1), g_much, b_ruleOf, b_sizes, b_items, b_signs, b_text, b_ends, b_far, b_empty, b_begins, b_starts, b_follow, b_derivations, b_row, b_layer, b_next, b_nodes, b_errors, b_openNode, b_openAlt, b_openItem, b_came, b_sum) := by
  have n12 := fd_n12 G
  obtain ⟨hk, h4⟩ := h3
  have l5 := fd_L5 G ha
  have s4 := fd_S4 G ha hk
  have vf : vp_in (nI f) 60 := vp_in_nI hf (by omega)
  have cf : (nI f).toNatClampNeg = f := nI_clamp (by omega)
  refine nm_r (nI_pred f) (br_t (nI_pos' (by omega)) ⟨vf, vf, ?_⟩)
  rw [cf, h1, h2, fx_5]
  refine ⟨fx_in G ha hk, pk_lt (fd_S g a k) 2 (fun s2 => ⟨vf, nm_r (e' := upd b_came f 0) (by rw [cf, fb_b0]) (br_t rfl ⟨vf, vf, nm_r (e' := upd b_openItem f (nI (k + 1))) (by rw [cf, h2, nI_1]) (K _ _ (fun i hi => ⟨pk_un hi, pk_un hi⟩) ?_ ⟨false, pk_us, ?_⟩)⟩)⟩) (fun s2 => ⟨vf, nm_r (e' := upd b_came f 1) (by rw [cf, fb_b1]) (br_f (by decide) (K _ _ (fun i hi => ⟨rfl, pk_un hi⟩) ?_ ⟨true, pk_us, ?_⟩))⟩) (hx := fx_sg G ha hk)⟩
  · rw [pk_us]
    rcases h4 with z | z | z
    · rw [z.2.1]
    · omega
    · omega
  · intro _ _
    rcases h4 with z | z | z
    · exact z.2.2.symm
    · omega
    · omega
  · rw [h2]
    rcases h4 with z | z | z
    · omega
    · rw [z.2.1]
    · rw [z.2.1]
  · intro _ hs
    rcases h4 with z | z | z
    · omega
    · rw [z.2.1] at hs; omega
    · exact z.2.2.symm
theorem fy_passed0 {post : SY → Prop} (K : post (nI (fd_n g), nI (fd_m g), g_known, g_counted, g_places, g_best, g_made, g_faults, g_place, nI 0, g_much, b_ruleOf, b_sizes, b_items, b_signs, b_text, b_ends, b_far, b_empty, b_begins, b_starts, b_follow, b_derivations, b_row, b_layer, b_next, b_nodes, b_errors, b_openNode, b_openAlt, b_openItem, b_came, b_sum)) : wpY_passed post (nI (fd_n g), nI (fd_m g), g_known, g_counted, g_places, g_best, g_made, g_faults, g_place, nI 0, g_much, b_ruleOf, b_sizes, b_items, b_signs, b_text, b_ends, b_far, b_empty, b_begins, b_starts, b_follow, b_derivations, b_row, b_layer, b_next, b_nodes, b_errors, b_openNode, b_openAlt, b_openItem, b_came, b_sum) := nm_e (br_f (by decide) K)
end
end
section
def fp_u {α : Type} (F : Nat → α) (f : Nat) (v : α) : Nat → α := fun i => if i = f then v else F i
theorem fp_us {α : Type} {F : Nat → α} {f : Nat} {v : α} : fp_u F f v f = v := if_pos rfl
theorem fp_un {α : Type} {F : Nat → α} {f i : Nat} {v : α} (h : i ≠ f) : fp_u F f v i = F i := if_neg h
section
variable {g : fd_Gr}
variable {f_studied f_empties f_bad f_kept f_busyCount f_fartherCount f_best f_counted f_depth f_place f_nodes f_errors f_much : Int32} {a_what a_sign a_length a_ruleOf a_text a_begins a_firsts a_been a_ends a_far a_begun a_todo a_busy a_farther a_number a_now a_then a_order a_openAlternative a_openItem a_openCame a_openNode a_nodeRule a_nodeAlternative a_nodeFrom a_nodeTo a_nodeParent a_nodeParts a_errorKind a_errorPlace a_errorItem : Nat → Int32}
theorem fx_wrong {post : SX → Prop} {er pl : Nat} {p0 p1 : Int32} (he : er ≤ 8) (hpl : pl ≤ 24) (n0 : vp_nar .byte p0.toInt8.toInt32 = p0) (n1 : vp_nar .byte p1.toInt8.toInt32 = p1) (K8 : er = 8 → post (nI (fd_n g), nI (fd_m g), f_studied, f_empties, f_bad, f_kept, f_busyCount, f_fartherCount, f_best, f_counted, f_depth, nI pl, f_nodes, nI 8, 1, a_what, a_sign, a_length, a_ruleOf, a_text, a_begins, a_firsts, a_been, a_ends, a_far, a_begun, a_todo, a_busy, a_farther, a_number, a_now, a_then, a_order, a_openAlternative, a_openItem, a_openCame, a_openNode, a_nodeRule, a_nodeAlternative, a_nodeFrom, a_nodeTo, a_nodeParent, a_nodeParts, a_errorKind, a_errorPlace, a_errorItem))
    (K : er < 8 → post (nI (fd_n g), nI (fd_m g), f_studied, f_empties, f_bad, f_kept, f_busyCount, f_fartherCount, f_best, f_counted, f_depth, nI pl, f_nodes, nI (er + 1), f_much, a_what, a_sign, a_length, a_ruleOf, a_text, a_begins, a_firsts, a_been, a_ends, a_far, a_begun, a_todo, a_busy, a_farther, a_number, a_now, a_then, a_order, a_openAlternative, a_openItem, a_openCame, a_openNode, a_nodeRule, a_nodeAlternative, a_nodeFrom, a_nodeTo, a_nodeParent, a_nodeParts, upd a_errorKind er p0, upd a_errorPlace er (nI pl), upd a_errorItem er p1)) : wpX_wrong post (nI (fd_n g), nI (fd_m g), f_studied, f_empties, f_bad, f_kept, f_busyCount, f_fartherCount, f_best, f_counted, f_depth, nI pl, f_nodes, nI er, f_much, a_what, a_sign, a_length, a_ruleOf, a_text, a_begins, a_firsts, a_been, a_ends, a_far, a_begun, a_todo, a_busy, a_farther, a_number, a_now, a_then, a_order, a_openAlternative, a_openItem, a_openCame, a_openNode, a_nodeRule, a_nodeAlternative, a_nodeFrom, a_nodeTo, a_nodeParent, a_nodeParts, a_errorKind, a_errorPlace, a_errorItem) p0 p1 := by
  refine pk_eq er 8 (fun h => by subst h; exact K8 rfl) (fun h => ?_)
  have ve : vp_in (nI er) 8 := vp_in_nI (by omega) (by omega)
  have ce : (nI er).toNatClampNeg = er := nI_clamp (by omega)
  exact ⟨ve, nm_r (e' := upd a_errorKind er p0) (by rw [ce, n0]) ⟨ve, nm_r (e' := upd a_errorPlace er (nI pl)) (by rw [ce, fb_vb2 (by omega)]) (nm_r (nI_1 _) ⟨ve, nm_r (e' := upd a_errorItem er p1) (by rw [ce, n1]) (K (by omega))⟩)⟩⟩
theorem fx_cho11 {post : Int32 → SX → Prop} {OA OI : Nat → Nat} {OC : Nat → Bool} {d pl r node : Nat} {na0 : Nat → Int32} (G : fd_G g a_what a_sign a_length a_ruleOf a_text) (hr : r < 6) (hpl : pl ≤ fd_m g) (hn : node < 60) (hF : fo_X g OA OI OC d a_openAlternative a_openItem a_openCame)
    (K : ∀ (x3 bs : Int32) (ke bc fc : Int32) (be en fa bg td bu ft : Nat → Int32) na, fx_A g ke bc fc be en fa bg td bu ft → (∀ i, i ≠ node → na i = na0 i) → ((x3 = -1 ∧ fd_c g r (fd_n g) = 0 ∧ na node = -1) ∨ ∃ c, fp_am g r (fp_len g OA OI OC d pl) (fd_c g r (fd_n g)) c ∧ x3 = nI c ∧ na node = nI (fd_c g r c)) → post x3 (nI (fd_n g), nI (fd_m g), f_studied, f_empties, f_bad, ke, bc, fc, bs, f_counted, nI d, nI pl, f_nodes, f_errors, f_much, a_what, a_sign, a_length, a_ruleOf, a_text, a_begins, a_firsts, be, en, fa, bg, td, bu, ft, a_number, a_now, a_then, a_order, a_openAlternative, a_openItem, a_openCame, a_openNode, a_nodeRule, na, a_nodeFrom, a_nodeTo, a_nodeParent, a_nodeParts, a_errorKind, a_errorPlace, a_errorItem)) :
    ∀ e a n x3 x4 bs (ke bc fc : Int32) (be en fa bg td bu ft : Nat → Int32) na, a + e = fd_n g → e < n → fx_A g ke bc fc be en fa bg td bu ft → (∀ i, i ≠ node → na i = na0 i) → ((x3 = -1 ∧ x4 = -1 ∧ fd_c g r a = 0 ∧ na node = -1) ∨ ∃ c, fp_am g r (fp_len g OA OI OC d pl) (fd_c g r a) c ∧ x3 = nI c ∧ x4 = nI (fp_len g OA OI OC d pl c) ∧ na node = nI (fd_c g r c)) →
      wX_choose_11 post (nI r) (nI node) n x3 x4 (nI (fd_c g r a)) (nI a) (nI (fd_n g)) (nI (fd_m g)) f_studied f_empties f_bad ke bc fc bs f_counted (nI d) (nI pl) f_nodes f_errors f_much a_what a_sign a_length a_ruleOf a_text a_begins a_firsts be en fa bg td bu ft a_number a_now a_then a_order a_openAlternative a_openItem a_openCame a_openNode a_nodeRule na a_nodeFrom a_nodeTo a_nodeParent a_nodeParts a_errorKind a_errorPlace a_errorItem := by
  have n12 := fd_n12 G
  have m24 := fd_m24 G
  have llt : ∀ a, fp_len g OA OI OC d pl a < 2 ^ 31 := fun a => by
    have := fp_len_le (g := g) (OA := OA) (OI := OI) (OC := OC) (d := d) (a := a) hpl
    omega
  intro e
  induction e with
  | zero =>
    intro a n x3 x4 bs ke bc fc be en fa bg td bu ft na ha hn' A h1 h2
    obtain ⟨n, rfl⟩ : ∃ k, n = k + 1 := ⟨n - 1, by omega⟩
    have ea : a = fd_n g := by omega
    subst ea
    refine pk_le (fd_n g) (fd_n g) (fun _ => K _ _ _ _ _ _ _ _ _ _ _ _ _ A h1 ?_) (fun h => absurd h (by omega))
    rcases h2 with ⟨z1, z2, z3, z4⟩ | ⟨c, z1, z2, z3, z4⟩
    · exact Or.inl ⟨z1, z3, z4⟩
    · exact Or.inr ⟨c, z1, z2, z4⟩
  | succ e ih =>
    intro a n x3 x4 bs ke bc fc be en fa bg td bu ft na ha hn' A h1 h2
    obtain ⟨n, rfl⟩ : ∃ k, n = k + 1 := ⟨n - 1, by omega⟩
    refine pk_le (fd_n g) a (fun h => absurd h (by omega)) (fun hl => ⟨vp_in_nI (by omega) (by omega), ?_⟩)
    have r6 := fd_R6 G hl
    have cl := fd_c_le g r a
    refine pk_eq (fd_R g a) r (fun eR => ?_) (fun eR => nm_r (nI_1 _) ?_) (hx := fx_ru G hl)
    · refine fx_rest (k := 0) (c := false) (S := fs_one pl) (f_place := nI pl) G A hl (Nat.zero_le _) hpl (fb_rep_one (by omega)) (fo_in_one hpl) (fun x1 b1 ke1 bc1 fc1 be1 en1 fa1 bg1 td1 bu1 ft1 A1 hb1 r1 r2 => ?_)
      refine fx_onward (OA := OA) (OI := OI) (OC := OC) (d := d) G A1 hpl hF hb1 ((r2 b1).mp (Nat.le_refl _)).1 r1 (fo_in_go (fo_in_one hpl)) r2 (fun b2 ke2 bc2 fc2 be2 en2 fa2 bg2 td2 bu2 ft2 A2 hb2 => ?_)
      have am := fp_am_s (Ln := fp_len g OA OI OC d pl) hl eR
      rw [← fd_c_t eR] at am
      have better : fp_am g r (fp_len g OA OI OC d pl) (fd_c g r (a + 1)) a → vp_in (nI node) 60 ∧ ∀ na', na' = upd na (nI node).toNatClampNeg (vp_nar .byte (nI (fd_c g r a)).toInt8.toInt32) → ∀ y5, y5 = nI (fd_c g r a) + 1 → ∀ y6, y6 = nI a + 1 → wX_choose_11 post (nI r) (nI node) n (nI a) (nI (fp_len g OA OI OC d pl a)) y5 y6 (nI (fd_n g)) (nI (fd_m g)) f_studied f_empties f_bad ke2 bc2 fc2 (nI b2) f_counted (nI d) (nI pl) f_nodes f_errors f_much a_what a_sign a_length a_ruleOf a_text a_begins a_firsts be2 en2 fa2 bg2 td2 bu2 ft2 a_number a_now a_then a_order a_openAlternative a_openItem a_openCame a_openNode a_nodeRule na' a_nodeFrom a_nodeTo a_nodeParent a_nodeParts a_errorKind a_errorPlace a_errorItem := by
        intro ham
        refine ⟨vp_in_nI hn (by omega), nm_r (e' := upd na node (nI (fd_c g r a))) (by rw [nI_clamp (by omega), fb_vb2 (by omega)]) (nm_r (e' := nI (fd_c g r (a + 1))) (by rw [nI_1, fd_c_t eR]) (nm_r (nI_1 _) (ih (a + 1) n _ _ _ _ _ _ _ _ _ _ _ _ _ _ (by omega) (by omega) A2 (fun i hi => by rw [pk_un hi]; exact h1 i hi) (Or.inr ⟨a, ham, rfl, rfl, pk_us⟩))))⟩
      rcases h2 with ⟨rfl, rfl, z3, z4⟩ | ⟨c, z1, rfl, rfl, z4⟩
      · refine br_f ?_ (better (am.1 z3))
        exact Int32.not_le.mpr (Int32.lt_of_lt_of_le (by decide) (nI_pos' (llt a)))
      · refine pk_le (fp_len g OA OI OC d pl a) (fp_len g OA OI OC d pl c) (fun hle => nm_r (e' := nI (fd_c g r (a + 1))) (by rw [nI_1, fd_c_t eR]) (nm_r (nI_1 _) (ih (a + 1) n _ _ _ _ _ _ _ _ _ _ _ _ _ _ (by omega) (by omega) A2 h1 (Or.inr ⟨c, (am.2 c z1).2 hle, rfl, rfl, z4⟩)))) (fun hgt => better ((am.2 c z1).1 hgt)) (ha := llt a) (hb := llt c)
    · rw [← fd_c_f eR] at h2 ⊢
      exact ih (a + 1) n _ _ _ _ _ _ _ _ _ _ _ _ _ _ (by omega) (by omega) A h1 h2
theorem fx_choose {post : Int32 → SX → Prop} {OA OI : Nat → Nat} {OC : Nat → Bool} {d pl r node : Nat} (G : fd_G g a_what a_sign a_length a_ruleOf a_text) (A : fx_A g f_kept f_busyCount f_fartherCount a_been a_ends a_far a_begun a_todo a_busy a_farther) (hr : r < 6) (hpl : pl ≤ fd_m g) (hn : node < 60) (hF : fo_X g OA OI OC d a_openAlternative a_openItem a_openCame) (h0 : a_nodeAlternative node = -1)
    (K : ∀ (x3 bs : Int32) (ke bc fc : Int32) (be en fa bg td bu ft : Nat → Int32) na, fx_A g ke bc fc be en fa bg td bu ft → (∀ i, i ≠ node → na i = a_nodeAlternative i) → ((x3 = -1 ∧ fd_c g r (fd_n g) = 0 ∧ na node = -1) ∨ ∃ c, fp_am g r (fp_len g OA OI OC d pl) (fd_c g r (fd_n g)) c ∧ x3 = nI c ∧ na node = nI (fd_c g r c)) → post x3 (nI (fd_n g), nI (fd_m g), f_studied, f_empties, f_bad, ke, bc, fc, bs, f_counted, nI d, nI pl, f_nodes, f_errors, f_much, a_what, a_sign, a_length, a_ruleOf, a_text, a_begins, a_firsts, be, en, fa, bg, td, bu, ft, a_number, a_now, a_then, a_order, a_openAlternative, a_openItem, a_openCame, a_openNode, a_nodeRule, na, a_nodeFrom, a_nodeTo, a_nodeParent, a_nodeParts, a_errorKind, a_errorPlace, a_errorItem)) :
    wpX_choose post (nI (fd_n g), nI (fd_m g), f_studied, f_empties, f_bad, f_kept, f_busyCount, f_fartherCount, f_best, f_counted, nI d, nI pl, f_nodes, f_errors, f_much, a_what, a_sign, a_length, a_ruleOf, a_text, a_begins, a_firsts, a_been, a_ends, a_far, a_begun, a_todo, a_busy, a_farther, a_number, a_now, a_then, a_order, a_openAlternative, a_openItem, a_openCame, a_openNode, a_nodeRule, a_nodeAlternative, a_nodeFrom, a_nodeTo, a_nodeParent, a_nodeParts, a_errorKind, a_errorPlace, a_errorItem) (nI r) (nI node) :=
  ⟨fd_n g + 1, fx_cho11 (na0 := a_nodeAlternative) G hr hpl hn hF K (fd_n g) 0 (fd_n g + 1) (-1) (-1) _ _ _ _ _ _ _ _ _ _ _ _ (by omega) (by omega) A (fun _ _ => rfl) (Or.inl ⟨rfl, rfl, rfl, h0⟩)⟩
/-- frames once an item is entered -/
def fp_aI (g : fd_Gr) (OA OI : Nat → Nat) (f k : Nat) : Nat → Nat := fp_u OI f (if fd_S g (OA f) k < 2 then k + 1 else k)
def fp_aC (g : fd_Gr) (OA : Nat → Nat) (OC : Nat → Bool) (f k : Nat) : Nat → Bool := fp_u OC f (decide (fd_S g (OA f) k = 3))
theorem fp_aP {OA OI : Nat → Nat} {OC : Nat → Bool} {f k : Nat} (hk : k < fd_L g (OA f)) (h4 : fd_S g (OA f) k < 4) : fp_P g (OA f) (fp_aI g OA OI f k f) (fp_aC g OA OC f k f) k := by
  refine ⟨hk, ?_⟩
  unfold fp_aI fp_aC
  rw [fp_us, fp_us]
  rcases (by omega : fd_S g (OA f) k < 2 ∨ fd_S g (OA f) k = 2 ∨ fd_S g (OA f) k = 3) with s | s | s
  · exact Or.inl ⟨s, if_pos s, decide_eq_false (by omega)⟩
  · exact Or.inr (Or.inl ⟨s, if_neg (by omega), decide_eq_false (by omega)⟩)
  · exact Or.inr (Or.inr ⟨s, if_neg (by omega), decide_eq_true s⟩)
theorem fx_isB62 {post : Int32 → SX → Prop} {OA OI : Nat → Nat} {OC : Nat → Bool} {f k pl b0 w : Nat} {y : Int32} {oi0 : Nat → Int32} (G : fd_G g a_what a_sign a_length a_ruleOf a_text) (A : fx_A g f_kept f_busyCount f_fartherCount a_been a_ends a_far a_begun a_todo a_busy a_farther) (hf : f < 60) (hpl : pl ≤ fd_m g) (hk : k < fd_L g (OA f)) (hkI : OI f = k)
    (hb : b0 ≤ fd_m g) (hpb : pl ≤ b0) (hy : fb_rep y (fs_On g (fs_lE g) w (fs_one pl))) (hP : fb_ub b0 (fun u => pl ≤ u ∧ ∀ p, fs_one pl p → fs_Ct g (fs_lF g) w p u))
    (hF0 : fo_X g OA OI OC (f + 1) a_openAlternative oi0 a_openCame) (hF1 : fo_X g OA (fp_aI g OA OI f k) (fp_aC g OA OC f k) (f + 1) a_openAlternative a_openItem a_openCame) (hs : ∀ i, i ≠ f → a_openItem i = oi0 i)
    (K : ∀ (r bs : Int32) (ke bc fc : Int32) (be en fa bg td bu ft : Nat → Int32), fx_A g ke bc fc be en fa bg td bu ft → ((r = 1 ∧ fp_bt g pl (fp_wi g OA (fp_aI g OA OI f k) (fp_aC g OA OC f k) (f + 1) pl w) (fp_wo g OA (fp_u OI f (k + 1)) (fp_u OC f false) (f + 1) pl)) ∨ (r = 0 ∧ ¬ fp_bt g pl (fp_wi g OA (fp_aI g OA OI f k) (fp_aC g OA OC f k) (f + 1) pl w) (fp_wo g OA (fp_u OI f (k + 1)) (fp_u OC f false) (f + 1) pl))) → post r (nI (fd_n g), nI (fd_m g), f_studied, f_empties, f_bad, ke, bc, fc, bs, f_counted, nI (f + 1), nI pl, f_nodes, f_errors, f_much, a_what, a_sign, a_length, a_ruleOf, a_text, a_begins, a_firsts, be, en, fa, bg, td, bu, ft, a_number, a_now, a_then, a_order, a_openAlternative, oi0, a_openCame, a_openNode, a_nodeRule, a_nodeAlternative, a_nodeFrom, a_nodeTo, a_nodeParent, a_nodeParts, a_errorKind, a_errorPlace, a_errorItem)) :
    wX_isBetter_62 post (nI f) (nI k) (fb_i (OC f)) y (nI (fd_n g)) (nI (fd_m g)) f_studied f_empties f_bad f_kept f_busyCount f_fartherCount (nI b0) f_counted (nI (f + 1)) (nI pl) f_nodes f_errors f_much a_what a_sign a_length a_ruleOf a_text a_begins a_firsts a_been a_ends a_far a_begun a_todo a_busy a_farther a_number a_now a_then a_order a_openAlternative a_openItem a_openCame a_openNode a_nodeRule a_nodeAlternative a_nodeFrom a_nodeTo a_nodeParent a_nodeParts a_errorKind a_errorPlace a_errorItem := by
  have n12 := fd_n12 G
  have m24 := fd_m24 G
  obtain ⟨hd, hF'⟩ := hF0
  obtain ⟨f1, f2, f3, f4, f5⟩ := hF' f (by omega)
  have l5 := fd_L5 G f2
  have vf : vp_in (nI f) 61 := vp_in_nI (by omega) (by omega)
  have cf : (nI f).toNatClampNeg = f := nI_clamp (by omega)
  have bi : ∀ c : Bool, vp_nar .byte (fb_i c).toInt8.toInt32 = fb_i c := by
    intro c
    cases c
    · exact fb_vb2 (n := 0) (by omega)
    · exact fb_vb2 (n := 1) (by omega)
  refine fx_onward (OA := OA) G A hpl hF1 hb hpb hy (fo_in_On (fo_in_one hpl)) hP (fun b1 ke1 bc1 fc1 be1 en1 fa1 bg1 td1 bu1 ft1 A1 hb1 => ?_)
  refine ⟨vf, nm_r (e' := upd a_openItem f (nI (k + 1))) (by rw [cf, nI_1, fb_vb2 (by omega)]) ⟨vf, nm_r (e' := upd a_openCame f 0) (by rw [cf, fb_v0]) ?_⟩⟩
  have hF2 : fo_X g OA (fp_u OI f (k + 1)) (fp_u OC f false) (f + 1) a_openAlternative (upd a_openItem f (nI (k + 1))) (upd a_openCame f 0) := by
    refine ⟨hd, fun i hi => ?_⟩
    obtain ⟨g1, g2, g3, g4, g5⟩ := hF' i hi
    by_cases e : i = f
    · subst e
      rw [pk_us, pk_us, fp_us, fp_us]
      exact ⟨g1, g2, rfl, by omega, rfl⟩
    · rw [pk_un e, pk_un e, fp_un e, fp_un e, hs i e]
      exact ⟨g1, g2, g3, g4, g5⟩
  refine fx_onward (OA := OA) (b0 := pl) (S := fs_one pl) (P := fun u => pl ≤ u) G A1 hpl hF2 hpl (Nat.le_refl _) (fb_rep_one (by omega)) (fo_in_one hpl) (fb_ub_0 pl) (fun b2 ke2 bc2 fc2 be2 en2 fa2 bg2 td2 bu2 ft2 A2 hb2 => ?_)
  refine ⟨vf, nm_r (e' := oi0) ?_ ⟨vf, nm_r (e' := a_openCame) ?_ ?_⟩⟩
  · rw [cf, fb_vb2 (by omega)]
    funext i
    by_cases e : i = f
    · subst e; rw [pk_us, f3, hkI]
    · rw [pk_un e, pk_un e, hs i e]
  · rw [cf, bi]
    funext i
    by_cases e : i = f
    · subst e; rw [pk_us, f5]
    · rw [pk_un e, pk_un e]
  · exact fp_dec hpl m24 (fp_wi_le hpl) (fp_wo_le hpl) (fun z => K 1 _ _ _ _ _ _ _ _ _ _ _ A2 (Or.inl ⟨rfl, z⟩)) (fun z => K 0 _ _ _ _ _ _ _ _ _ _ _ A2 (Or.inr ⟨rfl, z⟩))
theorem fx_isBetter {post : Int32 → SX → Prop} {OA OI : Nat → Nat} {OC : Nat → Bool} {f k pl : Nat} (G : fd_G g a_what a_sign a_length a_ruleOf a_text) (A : fx_A g f_kept f_busyCount f_fartherCount a_been a_ends a_far a_begun a_todo a_busy a_farther) (hf : f < 60) (hpl : pl ≤ fd_m g) (hk : k < fd_L g (OA f)) (hkI : OI f = k) (hS : (fd_S g (OA f) k = 1 ∨ fd_S g (OA f) k = 2) ∧ OC f = false ∨ fd_S g (OA f) k = 3 ∧ OC f = true)
    (hF0 : fo_X g OA OI OC (f + 1) a_openAlternative a_openItem a_openCame)
    (K : ∀ (r bs : Int32) (ke bc fc : Int32) (be en fa bg td bu ft : Nat → Int32), fx_A g ke bc fc be en fa bg td bu ft → ((r = 1 ∧ fp_bt g pl (fp_wi g OA (fp_aI g OA OI f k) (fp_aC g OA OC f k) (f + 1) pl (fd_W g (OA f) k)) (fp_wo g OA (fp_u OI f (k + 1)) (fp_u OC f false) (f + 1) pl)) ∨ (r = 0 ∧ ¬ fp_bt g pl (fp_wi g OA (fp_aI g OA OI f k) (fp_aC g OA OC f k) (f + 1) pl (fd_W g (OA f) k)) (fp_wo g OA (fp_u OI f (k + 1)) (fp_u OC f false) (f + 1) pl))) → post r (nI (fd_n g), nI (fd_m g), f_studied, f_empties, f_bad, ke, bc, fc, bs, f_counted, nI (f + 1), nI pl, f_nodes, f_errors, f_much, a_what, a_sign, a_length, a_ruleOf, a_text, a_begins, a_firsts, be, en, fa, bg, td, bu, ft, a_number, a_now, a_then, a_order, a_openAlternative, a_openItem, a_openCame, a_openNode, a_nodeRule, a_nodeAlternative, a_nodeFrom, a_nodeTo, a_nodeParent, a_nodeParts, a_errorKind, a_errorPlace, a_errorItem)) :
    wpX_isBetter post (nI (fd_n g), nI (fd_m g), f_studied, f_empties, f_bad, f_kept, f_busyCount, f_fartherCount, f_best, f_counted, nI (f + 1), nI pl, f_nodes, f_errors, f_much, a_what, a_sign, a_length, a_ruleOf, a_text, a_begins, a_firsts, a_been, a_ends, a_far, a_begun, a_todo, a_busy, a_farther, a_number, a_now, a_then, a_order, a_openAlternative, a_openItem, a_openCame, a_openNode, a_nodeRule, a_nodeAlternative, a_nodeFrom, a_nodeTo, a_nodeParent, a_nodeParts, a_errorKind, a_errorPlace, a_errorItem) (nI f) (nI (5 * OA f + k)) := by
  have n12 := fd_n12 G
  have m24 := fd_m24 G
  have hF := hF0
  obtain ⟨hd, hF'⟩ := hF
  obtain ⟨f1, f2, f3, f4, f5⟩ := hF' f (by omega)
  have l5 := fd_L5 G f2
  have vf : vp_in (nI f) 61 := vp_in_nI (by omega) (by omega)
  have cf : (nI f).toNatClampNeg = f := nI_clamp (by omega)
  have vc := fx_in G f2 hk
  have w14 := fd_W14 G f2 hk
  have s4 := fd_S4 G f2 hk
  refine ⟨vf, nm_r (e' := nI k) (by rw [cf, f3, hkI]) ⟨vf, nm_r (e' := fb_i (OC f)) (by rw [cf, f5]) ⟨vc, ?_⟩⟩⟩
  rw [fx_wh G f2 hk]
  refine fx_through (S := fs_one pl) (f_place := nI pl) G A w14 hpl (fb_rep_one (by omega)) (fo_in_one hpl) (fun x b ke bc fc be en fa bg td bu ft A' hb r1 r2 => ⟨vc, ?_⟩)
  have hpb := ((r2 b).mp (Nat.le_refl _)).1
  refine pk_eq (fd_S g (OA f) k) 1 (fun s1 => ⟨vf, vf, nm_r (e' := upd a_openItem f (nI (k + 1))) (by rw [cf, f3, hkI, nI_1, fb_nI8 _ (by omega), fb_vb (by omega)]) ?_⟩) (fun s1 => ?_) (hx := fx_sg G f2 hk)
  · refine fx_isB62 (oi0 := a_openItem) (a_openItem := upd a_openItem f (nI (k + 1))) G A' hf hpl hk hkI hb hpb r1 r2 hF0 ⟨hd, fun i hi => ?_⟩ (fun i hi => pk_un hi) K
    obtain ⟨g1, g2, g3, g4, g5⟩ := hF' i hi
    unfold fp_aI fp_aC
    by_cases e : i = f
    · subst e
      rw [pk_us, fp_us, fp_us, if_pos (by omega), decide_eq_false (by omega)]
      refine ⟨g1, g2, rfl, by omega, ?_⟩
      rcases hS with z | z
      · rw [g5, z.2]
      · omega
    · rw [pk_un e, fp_un e, fp_un e]
      exact ⟨g1, g2, g3, g4, g5⟩
  · refine fx_isB62 (oi0 := a_openItem) G A' hf hpl hk hkI hb hpb r1 r2 hF0 ⟨hd, fun i hi => ?_⟩ (fun i hi => rfl) K
    obtain ⟨g1, g2, g3, g4, g5⟩ := hF' i hi
    unfold fp_aI fp_aC
    by_cases e : i = f
    · subst e
      rw [fp_us, fp_us, if_neg (by omega)]
      refine ⟨g1, g2, by rw [g3, hkI], by omega, ?_⟩
      rcases hS with z | z
      · rw [g5, z.2, decide_eq_false (by omega)]
      · rw [g5, z.2, decide_eq_true z.1]
    · rw [fp_un e, fp_un e]
      exact ⟨g1, g2, g3, g4, g5⟩
end
end
section
/-- the parent of a new node; the parts of nodes with it -/
def fp_up (ON : Nat → Nat) (d : Nat) : Int32 := if d = 0 then -1 else nI (ON (d - 1))
def fp_nq (ON : Nat → Nat) (nd d : Nat) (nq : Nat → Int32) : Nat → Int32 := if d = 0 then upd nq nd 0 else upd (upd nq nd 0) (ON (d - 1)) (nq (ON (d - 1)) + 1)
def fp_NP (nd : Nat) (nq : Nat → Int32) : Prop := ∀ i, i < nd → ∃ c, c ≤ nd ∧ nq i = nI c
/-- Y's open rules: all entered / the last one at rest -/
def fp_YP (g : fd_Gr) (OA OI ON : Nat → Nat) (OC : Nat → Bool) (d : Nat) (ya yi yn : Nat → Int32) : Prop := (∀ i, i < d → yn i = nI (ON i)) ∧ fp_Y0 g OA OI OC d ya yi
def fp_YR (g : fd_Gr) (OA OI ON : Nat → Nat) (OC : Nat → Bool) (d : Nat) (ya yi yc yn : Nat → Int32) : Prop := d ≤ 60 ∧ (∀ i, i < d → yn i = nI (ON i)) ∧ fp_Y0 g OA OI OC (d - 1) ya yi ∧
  (0 < d → OA (d - 1) < fd_n g ∧ ya (d - 1) = nI (OA (d - 1)) ∧ yi (d - 1) = nI (OI (d - 1)) ∧ ∃ c, yc (d - 1) = fb_i c ∧ (OI (d - 1) < fd_L g (OA (d - 1)) → fd_S g (OA (d - 1)) (OI (d - 1)) = 3 → c = OC (d - 1)))
section
variable {g : fd_Gr}
variable {f_studied f_empties f_bad f_kept f_busyCount f_fartherCount f_best f_counted f_depth f_place f_nodes f_errors f_much : Int32} {a_what a_sign a_length a_ruleOf a_text a_begins a_firsts a_been a_ends a_far a_begun a_todo a_busy a_farther a_number a_now a_then a_order a_openAlternative a_openItem a_openCame a_openNode a_nodeRule a_nodeAlternative a_nodeFrom a_nodeTo a_nodeParent a_nodeParts a_errorKind a_errorPlace a_errorItem : Nat → Int32}
theorem fx_open110 {post : SX → Prop} {OA OI ON : Nat → Nat} {OC : Nat → Bool} {d nd er pl r : Nat} (G : fd_G g a_what a_sign a_length a_ruleOf a_text) (A : fx_A g f_kept f_busyCount f_fartherCount a_been a_ends a_far a_begun a_todo a_busy a_farther) (hr : r < 6) (hpl : pl ≤ fd_m g) (hnd : nd < 60) (hd : d ≤ nd) (he : er ≤ 8) (hF : fo_X g OA OI OC d a_openAlternative a_openItem a_openCame)
    (K1 : ∀ (bs : Int32) c (ke bc fc : Int32) (be en fa bg td bu ft : Nat → Int32) na, fx_A g ke bc fc be en fa bg td bu ft → (∀ i, i ≠ nd → na i = a_nodeAlternative i) → fp_am g r (fp_len g OA OI OC d pl) (fd_c g r (fd_n g)) c → na nd = nI (fd_c g r c) →
      post (nI (fd_n g), nI (fd_m g), f_studied, f_empties, f_bad, ke, bc, fc, bs, f_counted, nI (d + 1), nI pl, f_nodes, nI er, f_much, a_what, a_sign, a_length, a_ruleOf, a_text, a_begins, a_firsts, be, en, fa, bg, td, bu, ft, a_number, a_now, a_then, a_order, upd a_openAlternative d (nI c), upd a_openItem d 0, upd a_openCame d 0, upd a_openNode d (nI nd), a_nodeRule, na, a_nodeFrom, a_nodeTo, a_nodeParent, a_nodeParts, a_errorKind, a_errorPlace, a_errorItem))
    (K8 : fd_c g r (fd_n g) = 0 → er = 8 → ∀ (bs : Int32) (ke bc fc : Int32) (be en fa bg td bu ft : Nat → Int32) na, fx_A g ke bc fc be en fa bg td bu ft → post (nI (fd_n g), nI (fd_m g), f_studied, f_empties, f_bad, ke, bc, fc, bs, f_counted, nI d, nI pl, f_nodes, nI 8, 1, a_what, a_sign, a_length, a_ruleOf, a_text, a_begins, a_firsts, be, en, fa, bg, td, bu, ft, a_number, a_now, a_then, a_order, a_openAlternative, a_openItem, a_openCame, a_openNode, a_nodeRule, na, a_nodeFrom, a_nodeTo, a_nodeParent, a_nodeParts, a_errorKind, a_errorPlace, a_errorItem))
    (K0 : fd_c g r (fd_n g) = 0 → er < 8 → ∀ (bs : Int32) (ke bc fc : Int32) (be en fa bg td bu ft : Nat → Int32) na, fx_A g ke bc fc be en fa bg td bu ft → (∀ i, i ≠ nd → na i = a_nodeAlternative i) → na nd = -1 → post (nI (fd_n g), nI (fd_m g), f_studied, f_empties, f_bad, ke, bc, fc, bs, f_counted, nI d, nI pl, f_nodes, nI (er + 1), f_much, a_what, a_sign, a_length, a_ruleOf, a_text, a_begins, a_firsts, be, en, fa, bg, td, bu, ft, a_number, a_now, a_then, a_order, a_openAlternative, a_openItem, a_openCame, a_openNode, a_nodeRule, na, a_nodeFrom, a_nodeTo, a_nodeParent, a_nodeParts, upd a_errorKind er 2, upd a_errorPlace er (nI pl), upd a_errorItem er (nI (r + 8)))) :
    wX_open_110 post (nI r) (nI nd) (nI (fd_n g)) (nI (fd_m g)) f_studied f_empties f_bad f_kept f_busyCount f_fartherCount f_best f_counted (nI d) (nI pl) f_nodes (nI er) f_much a_what a_sign a_length a_ruleOf a_text a_begins a_firsts a_been a_ends a_far a_begun a_todo a_busy a_farther a_number a_now a_then a_order a_openAlternative a_openItem a_openCame a_openNode a_nodeRule a_nodeAlternative a_nodeFrom a_nodeTo a_nodeParent a_nodeParts a_errorKind a_errorPlace a_errorItem := by
  have n12 := fd_n12 G
  have m24 := fd_m24 G
  have vn : vp_in (nI nd) 60 := vp_in_nI hnd (by omega)
  have cn : (nI nd).toNatClampNeg = nd := nI_clamp (by omega)
  refine ⟨vn, nm_r (e' := upd a_nodeAlternative nd (-1)) (by rw [cn, fb_vm]) ?_⟩
  refine fx_choose (OA := OA) (OI := OI) (OC := OC) (a_nodeAlternative := upd a_nodeAlternative nd (-1)) (f_errors := nI er) G A hr hpl hnd hF pk_us (fun x3 bs ke bc fc be en fa bg td bu ft na A' h1 h2 => ?_)
  have h1' : ∀ i, i ≠ nd → na i = a_nodeAlternative i := fun i hi => by rw [h1 i hi, pk_un hi]
  rcases h2 with ⟨rfl, h2, h3⟩ | ⟨c, h2, rfl, h3⟩
  · refine br_f (by decide) ?_
    have e8 : nI r + 8 = nI (r + 8) := by rw [show (8 : Int32) = nI 8 from rfl, nI_add]
    rw [e8]
    exact fx_wrong he (by omega) (fb_vb2 (n := 2) (by omega)) (fb_vb2 (by omega)) (fun h => K8 h2 h _ _ _ _ _ _ _ _ _ _ _ _ A') (fun h => K0 h2 h _ _ _ _ _ _ _ _ _ _ _ _ A' h1' h3)
  · have cn' : c < fd_n g := h2.1
    have vd : vp_in (nI d) 61 := vp_in_nI (by omega) (by omega)
    have cd : (nI d).toNatClampNeg = d := nI_clamp (by omega)
    refine br_t (nI_pos' (by omega)) ⟨vd, nm_r (e' := upd a_openAlternative d (nI c)) (by rw [cd, fb_vb2 (by omega)]) ⟨vd, nm_r (e' := upd a_openItem d 0) (by rw [cd, fb_v0]) ⟨vd, nm_r (e' := upd a_openCame d 0) (by rw [cd, fb_v0]) (nm_r (nI_1 _) ⟨vd, nm_r (e' := upd a_openNode d (nI nd)) (by rw [cd, fb_vb2 (by omega)]) (K1 _ c _ _ _ _ _ _ _ _ _ _ _ A' h1' h2 h3)⟩)⟩⟩⟩
theorem fx_open {post : SX → Prop} {OA OI ON : Nat → Nat} {OC : Nat → Bool} {d nd er pl r : Nat} (G : fd_G g a_what a_sign a_length a_ruleOf a_text) (A : fx_A g f_kept f_busyCount f_fartherCount a_been a_ends a_far a_begun a_todo a_busy a_farther) (hr : r < 6) (hpl : pl ≤ fd_m g) (hnd : nd ≤ 60) (hd : d ≤ nd) (he : er ≤ 8) (hF : fo_X g OA OI OC d a_openAlternative a_openItem a_openCame) (hON : ∀ i, i < d → a_openNode i = nI (ON i) ∧ ON i < nd) (hNP : fp_NP nd a_nodeParts)
    (K60 : nd = 60 → post (nI (fd_n g), nI (fd_m g), f_studied, f_empties, f_bad, f_kept, f_busyCount, f_fartherCount, f_best, f_counted, nI d, nI pl, nI 60, nI er, 1, a_what, a_sign, a_length, a_ruleOf, a_text, a_begins, a_firsts, a_been, a_ends, a_far, a_begun, a_todo, a_busy, a_farther, a_number, a_now, a_then, a_order, a_openAlternative, a_openItem, a_openCame, a_openNode, a_nodeRule, a_nodeAlternative, a_nodeFrom, a_nodeTo, a_nodeParent, a_nodeParts, a_errorKind, a_errorPlace, a_errorItem))
    (K1 : nd < 60 → ∀ (bs : Int32) c (ke bc fc : Int32) (be en fa bg td bu ft : Nat → Int32) na, fx_A g ke bc fc be en fa bg td bu ft → (∀ i, i ≠ nd → na i = a_nodeAlternative i) → fp_am g r (fp_len g OA OI OC d pl) (fd_c g r (fd_n g)) c → na nd = nI (fd_c g r c) →
      post (nI (fd_n g), nI (fd_m g), f_studied, f_empties, f_bad, ke, bc, fc, bs, f_counted, nI (d + 1), nI pl, nI (nd + 1), nI er, f_much, a_what, a_sign, a_length, a_ruleOf, a_text, a_begins, a_firsts, be, en, fa, bg, td, bu, ft, a_number, a_now, a_then, a_order, upd a_openAlternative d (nI c), upd a_openItem d 0, upd a_openCame d 0, upd a_openNode d (nI nd), upd a_nodeRule nd (nI r), na, upd a_nodeFrom nd (nI pl), upd a_nodeTo nd (nI pl), upd a_nodeParent nd (fp_up ON d), fp_nq ON nd d a_nodeParts, a_errorKind, a_errorPlace, a_errorItem))
    (K8 : nd < 60 → fd_c g r (fd_n g) = 0 → er = 8 → ∀ (bs : Int32) (ke bc fc : Int32) (be en fa bg td bu ft : Nat → Int32) na, fx_A g ke bc fc be en fa bg td bu ft → post (nI (fd_n g), nI (fd_m g), f_studied, f_empties, f_bad, ke, bc, fc, bs, f_counted, nI d, nI pl, nI (nd + 1), nI 8, 1, a_what, a_sign, a_length, a_ruleOf, a_text, a_begins, a_firsts, be, en, fa, bg, td, bu, ft, a_number, a_now, a_then, a_order, a_openAlternative, a_openItem, a_openCame, a_openNode, upd a_nodeRule nd (nI r), na, upd a_nodeFrom nd (nI pl), upd a_nodeTo nd (nI pl), upd a_nodeParent nd (fp_up ON d), fp_nq ON nd d a_nodeParts, a_errorKind, a_errorPlace, a_errorItem))
    (K0 : nd < 60 → fd_c g r (fd_n g) = 0 → er < 8 → ∀ (bs : Int32) (ke bc fc : Int32) (be en fa bg td bu ft : Nat → Int32) na, fx_A g ke bc fc be en fa bg td bu ft → (∀ i, i ≠ nd → na i = a_nodeAlternative i) → na nd = -1 → post (nI (fd_n g), nI (fd_m g), f_studied, f_empties, f_bad, ke, bc, fc, bs, f_counted, nI d, nI pl, nI (nd + 1), nI (er + 1), f_much, a_what, a_sign, a_length, a_ruleOf, a_text, a_begins, a_firsts, be, en, fa, bg, td, bu, ft, a_number, a_now, a_then, a_order, a_openAlternative, a_openItem, a_openCame, a_openNode, upd a_nodeRule nd (nI r), na, upd a_nodeFrom nd (nI pl), upd a_nodeTo nd (nI pl), upd a_nodeParent nd (fp_up ON d), fp_nq ON nd d a_nodeParts, upd a_errorKind er 2, upd a_errorPlace er (nI pl), upd a_errorItem er (nI (r + 8)))) :
    wpX_open post (nI (fd_n g), nI (fd_m g), f_studied, f_empties, f_bad, f_kept, f_busyCount, f_fartherCount, f_best, f_counted, nI d, nI pl, nI nd, nI er, f_much, a_what, a_sign, a_length, a_ruleOf, a_text, a_begins, a_firsts, a_been, a_ends, a_far, a_begun, a_todo, a_busy, a_farther, a_number, a_now, a_then, a_order, a_openAlternative, a_openItem, a_openCame, a_openNode, a_nodeRule, a_nodeAlternative, a_nodeFrom, a_nodeTo, a_nodeParent, a_nodeParts, a_errorKind, a_errorPlace, a_errorItem) (nI r) := by
  have m24 := fd_m24 G
  refine pk_eq nd 60 (fun h => by subst h; exact K60 rfl) (fun h => ?_)
  have hnd' : nd < 60 := by omega
  have vn : vp_in (nI nd) 60 := vp_in_nI hnd' (by omega)
  have cn : (nI nd).toNatClampNeg = nd := nI_clamp (by omega)
  have go : ∀ z0, z0 = fp_up ON d → wX_open_37 post (nI r) z0 (nI (fd_n g)) (nI (fd_m g)) f_studied f_empties f_bad f_kept f_busyCount f_fartherCount f_best f_counted (nI d) (nI pl) (nI nd) (nI er) f_much a_what a_sign a_length a_ruleOf a_text a_begins a_firsts a_been a_ends a_far a_begun a_todo a_busy a_farther a_number a_now a_then a_order a_openAlternative a_openItem a_openCame a_openNode a_nodeRule a_nodeAlternative a_nodeFrom a_nodeTo a_nodeParent a_nodeParts a_errorKind a_errorPlace a_errorItem := by
    intro z0 hz
    have nz : vp_nar .byte z0.toInt8.toInt32 = fp_up ON d := by
      rw [hz]
      unfold fp_up
      split
      · exact fb_vm2
      · exact fb_vb2 (by have := (hON (d - 1) (by omega)).2; omega)
    refine nm_r (nI_1 _) ⟨vn, nm_r (e' := upd a_nodeRule nd (nI r)) (by rw [cn, fb_vb2 (by omega)]) ⟨vn, nm_r (e' := upd a_nodeFrom nd (nI pl)) (by rw [cn, fb_vb2 (by omega)]) ⟨vn, nm_r (e' := upd a_nodeTo nd (nI pl)) (by rw [cn, fb_vb2 (by omega)]) ⟨vn, nm_r (e' := upd a_nodeParent nd (fp_up ON d)) (by rw [cn, nz]) ⟨vn, nm_r (e' := upd a_nodeParts nd 0) (by rw [cn, fb_v0]) ?_⟩⟩⟩⟩⟩
    by_cases h0 : d = 0
    · have eu : fp_up ON d = -1 := if_pos h0
      have eq : fp_nq ON nd d a_nodeParts = upd a_nodeParts nd 0 := if_pos h0
      rw [eq] at K1 K8 K0
      refine br_t (by rw [hz, eu]; decide) ?_
      exact fx_open110 (ON := ON) G A hr hpl hnd' hd he hF (K1 hnd') (K8 hnd') (K0 hnd')
    · have hj := (hON (d - 1) (by omega)).2
      have eu : fp_up ON d = nI (ON (d - 1)) := if_neg h0
      have eq : fp_nq ON nd d a_nodeParts = upd (upd a_nodeParts nd 0) (ON (d - 1)) (a_nodeParts (ON (d - 1)) + 1) := if_neg h0
      rw [eq, eu] at K1 K8 K0
      rw [hz, eu]
      have vj : vp_in (nI (ON (d - 1))) 60 := vp_in_nI (by omega) (by omega)
      obtain ⟨c, hc, ec⟩ := hNP (ON (d - 1)) hj
      refine br_f (nI_pos (by omega)) ⟨vj, vj, nm_r (e' := upd (upd a_nodeParts nd 0) (ON (d - 1)) (a_nodeParts (ON (d - 1)) + 1)) ?_ ?_⟩
      · rw [nI_clamp (by omega), pk_un (by omega), ec, nI_1, fb_nI8 _ (by omega), fb_vb (by omega)]
      · exact fx_open110 (ON := ON) G A hr hpl hnd' hd he hF (K1 hnd') (K8 hnd') (K0 hnd')
  refine pk_eq d 0 (fun h0 => go (-1) ?_) (fun h0 => ?_)
  · unfold fp_up; rw [if_pos h0]
  · have es : nI d - 1 = nI (d - 1) := by rw [show (1 : Int32) = nI 1 from rfl, pk_sub (by omega)]
    rw [es]
    refine ⟨vp_in_nI (by omega) (by omega), go _ ?_⟩
    rw [nI_clamp (by omega), (hON (d - 1) (by omega)).1]
    unfold fp_up; rw [if_neg h0]
theorem fx_pass {post : SX → Prop} {er pl w : Nat} (G : fd_G g a_what a_sign a_length a_ruleOf a_text) (hw : w < 8) (hpl : pl ≤ fd_m g) (he : er ≤ 8)
    (KA : pl < fd_m g → fd_T g pl = w → post (nI (fd_n g), nI (fd_m g), f_studied, f_empties, f_bad, f_kept, f_busyCount, f_fartherCount, f_best, f_counted, f_depth, nI (pl + 1), f_nodes, nI er, f_much, a_what, a_sign, a_length, a_ruleOf, a_text, a_begins, a_firsts, a_been, a_ends, a_far, a_begun, a_todo, a_busy, a_farther, a_number, a_now, a_then, a_order, a_openAlternative, a_openItem, a_openCame, a_openNode, a_nodeRule, a_nodeAlternative, a_nodeFrom, a_nodeTo, a_nodeParent, a_nodeParts, a_errorKind, a_errorPlace, a_errorItem))
    (KB8 : ¬ (pl < fd_m g ∧ fd_T g pl = w) → pl + 1 < fd_m g → fd_T g (pl + 1) = w → er = 8 → post (nI (fd_n g), nI (fd_m g), f_studied, f_empties, f_bad, f_kept, f_busyCount, f_fartherCount, f_best, f_counted, f_depth, nI (pl + 2), f_nodes, nI 8, 1, a_what, a_sign, a_length, a_ruleOf, a_text, a_begins, a_firsts, a_been, a_ends, a_far, a_begun, a_todo, a_busy, a_farther, a_number, a_now, a_then, a_order, a_openAlternative, a_openItem, a_openCame, a_openNode, a_nodeRule, a_nodeAlternative, a_nodeFrom, a_nodeTo, a_nodeParent, a_nodeParts, a_errorKind, a_errorPlace, a_errorItem))
    (KB : ¬ (pl < fd_m g ∧ fd_T g pl = w) → pl + 1 < fd_m g → fd_T g (pl + 1) = w → er < 8 → post (nI (fd_n g), nI (fd_m g), f_studied, f_empties, f_bad, f_kept, f_busyCount, f_fartherCount, f_best, f_counted, f_depth, nI (pl + 2), f_nodes, nI (er + 1), f_much, a_what, a_sign, a_length, a_ruleOf, a_text, a_begins, a_firsts, a_been, a_ends, a_far, a_begun, a_todo, a_busy, a_farther, a_number, a_now, a_then, a_order, a_openAlternative, a_openItem, a_openCame, a_openNode, a_nodeRule, a_nodeAlternative, a_nodeFrom, a_nodeTo, a_nodeParent, a_nodeParts, upd a_errorKind er 0, upd a_errorPlace er (nI pl), upd a_errorItem er (nI w)))
    (KC8 : ¬ (pl < fd_m g ∧ fd_T g pl = w) → ¬ (pl + 1 < fd_m g ∧ fd_T g (pl + 1) = w) → er = 8 → post (nI (fd_n g), nI (fd_m g), f_studied, f_empties, f_bad, f_kept, f_busyCount, f_fartherCount, f_best, f_counted, f_depth, nI pl, f_nodes, nI 8, 1, a_what, a_sign, a_length, a_ruleOf, a_text, a_begins, a_firsts, a_been, a_ends, a_far, a_begun, a_todo, a_busy, a_farther, a_number, a_now, a_then, a_order, a_openAlternative, a_openItem, a_openCame, a_openNode, a_nodeRule, a_nodeAlternative, a_nodeFrom, a_nodeTo, a_nodeParent, a_nodeParts, a_errorKind, a_errorPlace, a_errorItem))
    (KC : ¬ (pl < fd_m g ∧ fd_T g pl = w) → ¬ (pl + 1 < fd_m g ∧ fd_T g (pl + 1) = w) → er < 8 → post (nI (fd_n g), nI (fd_m g), f_studied, f_empties, f_bad, f_kept, f_busyCount, f_fartherCount, f_best, f_counted, f_depth, nI pl, f_nodes, nI (er + 1), f_much, a_what, a_sign, a_length, a_ruleOf, a_text, a_begins, a_firsts, a_been, a_ends, a_far, a_begun, a_todo, a_busy, a_farther, a_number, a_now, a_then, a_order, a_openAlternative, a_openItem, a_openCame, a_openNode, a_nodeRule, a_nodeAlternative, a_nodeFrom, a_nodeTo, a_nodeParent, a_nodeParts, upd a_errorKind er 1, upd a_errorPlace er (nI pl), upd a_errorItem er (nI w))) :
    wpX_pass post (nI (fd_n g), nI (fd_m g), f_studied, f_empties, f_bad, f_kept, f_busyCount, f_fartherCount, f_best, f_counted, f_depth, nI pl, f_nodes, nI er, f_much, a_what, a_sign, a_length, a_ruleOf, a_text, a_begins, a_firsts, a_been, a_ends, a_far, a_begun, a_todo, a_busy, a_farther, a_number, a_now, a_then, a_order, a_openAlternative, a_openItem, a_openCame, a_openNode, a_nodeRule, a_nodeAlternative, a_nodeFrom, a_nodeTo, a_nodeParent, a_nodeParts, a_errorKind, a_errorPlace, a_errorItem) (nI w) := by
  have m24 := fd_m24 G
  have e2 : nI pl + 2 = nI (pl + 2) := by rw [show (2 : Int32) = nI 2 from rfl, nI_add]
  have c63 : ¬ (pl < fd_m g ∧ fd_T g pl = w) → ∀ z0, (z0 = 0 ∧ ¬ (pl + 1 < fd_m g ∧ fd_T g (pl + 1) = w)) ∨ (z0 = 1 ∧ pl + 1 < fd_m g ∧ fd_T g (pl + 1) = w) → wX_pass_63 post (nI w) 0 z0 (nI (fd_n g)) (nI (fd_m g)) f_studied f_empties f_bad f_kept f_busyCount f_fartherCount f_best f_counted f_depth (nI pl) f_nodes (nI er) f_much a_what a_sign a_length a_ruleOf a_text a_begins a_firsts a_been a_ends a_far a_begun a_todo a_busy a_farther a_number a_now a_then a_order a_openAlternative a_openItem a_openCame a_openNode a_nodeRule a_nodeAlternative a_nodeFrom a_nodeTo a_nodeParent a_nodeParts a_errorKind a_errorPlace a_errorItem := by
    intro hA z0 hz
    refine br_t rfl ?_
    rcases hz with ⟨rfl, hz⟩ | ⟨rfl, h1, h2⟩
    · exact br_t rfl (fx_wrong he (by omega) (fb_vb2 (n := 1) (by omega)) (fb_vb2 (by omega)) (fun h => KC8 hA hz h) (fun h => KC hA hz h))
    · exact br_f (by decide) (fx_wrong he (by omega) (fb_vb2 (n := 0) (by omega)) (fb_vb2 (by omega)) (fun h => nm_r e2 (KB8 hA h1 h2 h)) (fun h => nm_r e2 (KB hA h1 h2 h)))
  have c29 : ¬ (pl < fd_m g ∧ fd_T g pl = w) → wX_pass_29 post (nI w) 0 (nI (fd_n g)) (nI (fd_m g)) f_studied f_empties f_bad f_kept f_busyCount f_fartherCount f_best f_counted f_depth (nI pl) f_nodes (nI er) f_much a_what a_sign a_length a_ruleOf a_text a_begins a_firsts a_been a_ends a_far a_begun a_todo a_busy a_farther a_number a_now a_then a_order a_openAlternative a_openItem a_openCame a_openNode a_nodeRule a_nodeAlternative a_nodeFrom a_nodeTo a_nodeParent a_nodeParts a_errorKind a_errorPlace a_errorItem := by
    intro hA
    unfold wX_pass_29
    rw [nI_1]
    refine pk_le (fd_m g) (pl + 1) (fun h => c63 hA 0 (Or.inl ⟨rfl, fun z => by omega⟩)) (fun h => ⟨vp_in_nI (by omega) (by omega), ?_⟩)
    have t8 := fd_T8 G h
    exact pk_eq (fd_T g (pl + 1)) w (fun ht => c63 hA 1 (Or.inr ⟨rfl, h, ht⟩)) (fun ht => c63 hA 0 (Or.inl ⟨rfl, fun z => ht z.2⟩)) (hx := fx_tx G h)
  refine pk_le (fd_m g) pl (fun h => c29 (fun z => by omega)) (fun h => ⟨vp_in_nI (by omega) (by omega), ?_⟩)
  have t8 := fd_T8 G h
  refine pk_eq (fd_T g pl) w (fun ht => ?_) (fun ht => c29 (fun z => ht z.2)) (hx := fx_tx G h)
  have a63 : ∀ z0, wX_pass_63 post (nI w) 1 z0 (nI (fd_n g)) (nI (fd_m g)) f_studied f_empties f_bad f_kept f_busyCount f_fartherCount f_best f_counted f_depth (nI pl) f_nodes (nI er) f_much a_what a_sign a_length a_ruleOf a_text a_begins a_firsts a_been a_ends a_far a_begun a_todo a_busy a_farther a_number a_now a_then a_order a_openAlternative a_openItem a_openCame a_openNode a_nodeRule a_nodeAlternative a_nodeFrom a_nodeTo a_nodeParent a_nodeParts a_errorKind a_errorPlace a_errorItem := fun z0 => br_f (by decide) (nm_r (nI_1 _) (KA h ht))
  unfold wX_pass_29
  rw [nI_1]
  refine pk_le (fd_m g) (pl + 1) (fun _ => a63 0) (fun h' => ⟨vp_in_nI (by omega) (by omega), ?_⟩)
  exact br_c (fun _ => a63 1) (fun _ => a63 0)
variable {g_known g_counted g_places g_best g_made g_faults g_place g_depth g_much : Int32} {b_ruleOf b_sizes b_items b_signs b_text b_ends b_far b_empty b_begins b_starts b_follow b_nodes b_errors b_openNode b_openAlt b_openItem b_came : Nat → Int32} {b_derivations b_row b_layer b_next b_sum : Nat → Int64}
theorem fy_psd {post : SY → Prop} {OA OI ON : Nat → Nat} {OC : Nat → Bool} {d : Nat} (G : fd_G g b_items b_signs b_sizes b_ruleOf b_text) (hP : fp_YP g OA OI ON OC d b_openAlt b_openItem b_openNode)
    (K : ∀ yi yc, fp_YR g OA OI ON OC d b_openAlt yi yc b_openNode → post (nI (fd_n g), nI (fd_m g), g_known, g_counted, g_places, g_best, g_made, g_faults, g_place, nI d, g_much, b_ruleOf, b_sizes, b_items, b_signs, b_text, b_ends, b_far, b_empty, b_begins, b_starts, b_follow, b_derivations, b_row, b_layer, b_next, b_nodes, b_errors, b_openNode, b_openAlt, yi, yc, b_sum)) : wpY_passed post (nI (fd_n g), nI (fd_m g), g_known, g_counted, g_places, g_best, g_made, g_faults, g_place, nI d, g_much, b_ruleOf, b_sizes, b_items, b_signs, b_text, b_ends, b_far, b_empty, b_begins, b_starts, b_follow, b_derivations, b_row, b_layer, b_next, b_nodes, b_errors, b_openNode, b_openAlt, b_openItem, b_came, b_sum) := by
  obtain ⟨p1, p2, p3⟩ := hP
  cases d with
  | zero => exact fy_passed0 (K _ _ ⟨by omega, p1, ⟨by omega, fun i hi => by omega⟩, fun h => by omega⟩)
  | succ f =>
    obtain ⟨q1, q2, k, q3, q4⟩ := p3 f (by omega)
    refine fy_passed G (by omega) q1 q2 q3 q4 (fun yi yc h1 h2 h3 => K yi yc ⟨p2, p1, ⟨by omega, fun i hi => ?_⟩, fun _ => ⟨q1, q2, h2, h3⟩⟩)
    obtain ⟨r1, r2, j, r3, r4⟩ := p3 i (by omega)
    exact ⟨r1, r2, j, by rw [(h1 i (by omega)).1]; exact r3, r4⟩
theorem fy_expect {post : SY → Prop} {OA OI ON : Nat → Nat} {OC : Nat → Bool} {d er pl w : Nat} (G : fd_G g b_items b_signs b_sizes b_ruleOf b_text) (hP : fp_YP g OA OI ON OC d b_openAlt b_openItem b_openNode) (hw : w < 8) (hpl : pl ≤ fd_m g) (he : er ≤ 8)
    (KA : pl < fd_m g → fd_T g pl = w → ∀ yi yc, fp_YR g OA OI ON OC d b_openAlt yi yc b_openNode → post (nI (fd_n g), nI (fd_m g), g_known, g_counted, g_places, g_best, g_made, nI er, nI (pl + 1), nI d, g_much, b_ruleOf, b_sizes, b_items, b_signs, b_text, b_ends, b_far, b_empty, b_begins, b_starts, b_follow, b_derivations, b_row, b_layer, b_next, b_nodes, b_errors, b_openNode, b_openAlt, yi, yc, b_sum))
    (KB8 : ¬ (pl < fd_m g ∧ fd_T g pl = w) → pl + 1 < fd_m g → fd_T g (pl + 1) = w → er = 8 → ∀ yi yc, post (nI (fd_n g), nI (fd_m g), g_known, g_counted, g_places, g_best, g_made, nI 8, nI (pl + 2), nI d, 1, b_ruleOf, b_sizes, b_items, b_signs, b_text, b_ends, b_far, b_empty, b_begins, b_starts, b_follow, b_derivations, b_row, b_layer, b_next, b_nodes, b_errors, b_openNode, b_openAlt, yi, yc, b_sum))
    (KB : ¬ (pl < fd_m g ∧ fd_T g pl = w) → pl + 1 < fd_m g → fd_T g (pl + 1) = w → er < 8 → ∀ e, (∀ i, i < 3 * er → e i = b_errors i) → e (3 * er) = 0 → e (3 * er + 1) = nI pl → e (3 * er + 2) = nI w → ∀ yi yc, fp_YR g OA OI ON OC d b_openAlt yi yc b_openNode → post (nI (fd_n g), nI (fd_m g), g_known, g_counted, g_places, g_best, g_made, nI (er + 1), nI (pl + 2), nI d, g_much, b_ruleOf, b_sizes, b_items, b_signs, b_text, b_ends, b_far, b_empty, b_begins, b_starts, b_follow, b_derivations, b_row, b_layer, b_next, b_nodes, e, b_openNode, b_openAlt, yi, yc, b_sum))
    (KC8 : ¬ (pl < fd_m g ∧ fd_T g pl = w) → ¬ (pl + 1 < fd_m g ∧ fd_T g (pl + 1) = w) → er = 8 → ∀ yi yc, post (nI (fd_n g), nI (fd_m g), g_known, g_counted, g_places, g_best, g_made, nI 8, nI pl, nI d, 1, b_ruleOf, b_sizes, b_items, b_signs, b_text, b_ends, b_far, b_empty, b_begins, b_starts, b_follow, b_derivations, b_row, b_layer, b_next, b_nodes, b_errors, b_openNode, b_openAlt, yi, yc, b_sum))
    (KC : ¬ (pl < fd_m g ∧ fd_T g pl = w) → ¬ (pl + 1 < fd_m g ∧ fd_T g (pl + 1) = w) → er < 8 → ∀ e, (∀ i, i < 3 * er → e i = b_errors i) → e (3 * er) = 1 → e (3 * er + 1) = nI pl → e (3 * er + 2) = nI w → ∀ yi yc, fp_YR g OA OI ON OC d b_openAlt yi yc b_openNode → post (nI (fd_n g), nI (fd_m g), g_known, g_counted, g_places, g_best, g_made, nI (er + 1), nI pl, nI d, g_much, b_ruleOf, b_sizes, b_items, b_signs, b_text, b_ends, b_far, b_empty, b_begins, b_starts, b_follow, b_derivations, b_row, b_layer, b_next, b_nodes, e, b_openNode, b_openAlt, yi, yc, b_sum)) :
    wpY_expect post (nI (fd_n g), nI (fd_m g), g_known, g_counted, g_places, g_best, g_made, nI er, nI pl, nI d, g_much, b_ruleOf, b_sizes, b_items, b_signs, b_text, b_ends, b_far, b_empty, b_begins, b_starts, b_follow, b_derivations, b_row, b_layer, b_next, b_nodes, b_errors, b_openNode, b_openAlt, b_openItem, b_came, b_sum) (nI w) := by
  have m24 := fd_m24 G
  have e2 : nI pl + 2 = nI (pl + 2) := by rw [show (2 : Int32) = nI 2 from rfl, nI_add]
  have c84 : ¬ (pl < fd_m g ∧ fd_T g pl = w) → ¬ (pl + 1 < fd_m g ∧ fd_T g (pl + 1) = w) → wY_expect_84 post (nI w) (nI (fd_n g)) (nI (fd_m g)) g_known g_counted g_places g_best g_made (nI er) (nI pl) (nI d) g_much b_ruleOf b_sizes b_items b_signs b_text b_ends b_far b_empty b_begins b_starts b_follow b_derivations b_row b_layer b_next b_nodes b_errors b_openNode b_openAlt b_openItem b_came b_sum := by
    intro hA hB
    exact fy_fault he (fun h => fy_psd G hP (fun yi yc _ => KC8 hA hB h yi yc)) (fun h e h1 h2 h3 h4 => fy_psd G hP (fun yi yc hY => KC hA hB h e h1 h2 h3 h4 yi yc hY))
  have c37 : ¬ (pl < fd_m g ∧ fd_T g pl = w) → wY_expect_37 post (nI w) (nI (fd_n g)) (nI (fd_m g)) g_known g_counted g_places g_best g_made (nI er) (nI pl) (nI d) g_much b_ruleOf b_sizes b_items b_signs b_text b_ends b_far b_empty b_begins b_starts b_follow b_derivations b_row b_layer b_next b_nodes b_errors b_openNode b_openAlt b_openItem b_came b_sum := by
    intro hA
    unfold wY_expect_37
    rw [nI_1]
    refine pk_le (fd_m g) (pl + 1) (fun h => c84 hA (fun z => by omega)) (fun h => ⟨vp_in_nI (by omega) (by omega), ?_⟩)
    have t8 := fd_T8 G h
    refine pk_eq (fd_T g (pl + 1)) w (fun ht => ?_) (fun ht => c84 hA (fun z => ht z.2)) (hx := fx_tx G h)
    exact fy_fault he (fun h8 => nm_r e2 (fy_psd G hP (fun yi yc _ => KB8 hA h ht h8 yi yc))) (fun h8 e h1 h2 h3 h4 => nm_r e2 (fy_psd G hP (fun yi yc hY => KB hA h ht h8 e h1 h2 h3 h4 yi yc hY)))
  refine pk_le (fd_m g) pl (fun h => c37 (fun z => by omega)) (fun h => ⟨vp_in_nI (by omega) (by omega), ?_⟩)
  have t8 := fd_T8 G h
  exact pk_eq (fd_T g pl) w (fun ht => nm_r (nI_1 _) (fy_psd G hP (fun yi yc hY => KA h ht yi yc hY))) (fun ht => c37 (fun z => ht z.2)) (hx := fx_tx G h)
end
end
section
/-- Y's nodes with a new one -/
def fp_n5 (ON : Nat → Nat) (nd d r pl : Nat) (no : Nat → Int32) : Nat → Int32 := upd (upd (upd (upd (upd no (6 * nd) (nI r)) (6 * nd + 2) (nI pl)) (6 * nd + 3) (nI pl)) (6 * nd + 4) (fp_up ON d)) (6 * nd + 5) 0
def fp_n6 (ON : Nat → Nat) (nd d r pl : Nat) (no : Nat → Int32) : Nat → Int32 := if d = 0 then fp_n5 ON nd d r pl no else upd (fp_n5 ON nd d r pl no) (6 * ON (d - 1) + 5) (fp_n5 ON nd d r pl no (6 * ON (d - 1) + 5) + 1)
theorem fp_n5_lo {ON : Nat → Nat} {nd d r pl i : Nat} {no : Nat → Int32} (h : i < 6 * nd) : fp_n5 ON nd d r pl no i = no i := by
  unfold fp_n5
  rw [pk_un (by omega), pk_un (by omega), pk_un (by omega), pk_un (by omega), pk_un (by omega)]
theorem fp_N_new {ON : Nat → Nat} {nd d r pl : Nat} {nr na nf nt np nq no na' : Nat → Int32} {av : Int32} (h : fp_N nd nr na nf nt np nq no) (hn : nd < 60) (hj : d ≠ 0 → ON (d - 1) < nd) (h1 : ∀ i, i ≠ nd → na' i = na i) (h2 : na' nd = av) :
    fp_N (nd + 1) (upd nr nd (nI r)) na' (upd nf nd (nI pl)) (upd nt nd (nI pl)) (upd np nd (fp_up ON d)) (fp_nq ON nd d nq) (upd (fp_n6 ON nd d r pl no) (6 * nd + 1) av) := by
  refine ⟨by omega, fun i hi => ?_⟩
  have lo6 : ∀ i t, i < nd → t < 5 → fp_n6 ON nd d r pl no (6 * i + t) = no (6 * i + t) := by
    intro i t hi ht
    unfold fp_n6
    split
    · exact fp_n5_lo (by omega)
    · next h0 => rw [pk_un (by have := hj h0; omega), fp_n5_lo (by omega)]
  have hi6 : ∀ t, t < 6 → fp_n6 ON nd d r pl no (6 * nd + t) = fp_n5 ON nd d r pl no (6 * nd + t) := by
    intro t ht
    unfold fp_n6
    split
    · rfl
    · next h0 => rw [pk_un (by have := hj h0; omega)]
  by_cases e : i = nd
  · subst e
    rw [pk_us, pk_us, pk_us, pk_us, pk_us, h2]
    have e0 := hi6 0 (by omega)
    rw [Nat.add_zero] at e0
    refine ⟨?_, rfl, ?_, ?_, ?_, ?_⟩
    · rw [pk_un (by omega), e0]
      unfold fp_n5
      rw [pk_un (by omega), pk_un (by omega), pk_un (by omega), pk_un (by omega), pk_us]
    · rw [pk_un (by omega), hi6 2 (by omega)]
      unfold fp_n5
      rw [pk_un (by omega), pk_un (by omega), pk_un (by omega), pk_us]
    · rw [pk_un (by omega), hi6 3 (by omega)]
      unfold fp_n5
      rw [pk_un (by omega), pk_un (by omega), pk_us]
    · rw [pk_un (by omega), hi6 4 (by omega)]
      unfold fp_n5
      rw [pk_un (by omega), pk_us]
    · rw [pk_un (by omega), hi6 5 (by omega)]
      unfold fp_n5 fp_nq
      rw [pk_us]
      split
      · rw [pk_us]
      · next h0 => rw [pk_un (by have := hj h0; omega), pk_us]
  · have hi' : i < nd := by omega
    obtain ⟨g0, g1, g2, g3, g4, g5⟩ := h.2 i hi'
    rw [pk_un e, pk_un e, pk_un e, pk_un e, h1 i e]
    have e0 := lo6 i 0 hi' (by omega)
    rw [Nat.add_zero] at e0
    refine ⟨?_, ?_, ?_, ?_, ?_, ?_⟩
    · rw [pk_un (by omega), e0]; exact g0
    · rw [pk_un (by omega), lo6 i 1 hi' (by omega)]; exact g1
    · rw [pk_un (by omega), lo6 i 2 hi' (by omega)]; exact g2
    · rw [pk_un (by omega), lo6 i 3 hi' (by omega)]; exact g3
    · rw [pk_un (by omega), lo6 i 4 hi' (by omega)]; exact g4
    · rw [pk_un (by omega)]
      unfold fp_n6 fp_nq
      split
      · rw [fp_n5_lo (by omega), pk_un e]; exact g5
      · next h0 =>
        have hj' := hj h0
        by_cases c : i = ON (d - 1)
        · rw [c, pk_us, pk_us, fp_n5_lo (by omega), ← c, g5]
        · rw [pk_un (by omega), pk_un c, fp_n5_lo (by omega), pk_un e]; exact g5
section
variable {g : fd_Gr}
variable {g_known g_counted g_places g_best g_made g_faults g_place g_depth g_much : Int32} {b_ruleOf b_sizes b_items b_signs b_text b_ends b_far b_empty b_begins b_starts b_follow b_nodes b_errors b_openNode b_openAlt b_openItem b_came : Nat → Int32} {b_derivations b_row b_layer b_next b_sum : Nat → Int64}
theorem fy_op125 {post : SY → Prop} {OA OI ON : Nat → Nat} {OC : Nat → Bool} {d nd er pl r : Nat} (G : fd_G g b_items b_signs b_sizes b_ruleOf b_text) (H : fy_EF g (fs_lE g) (fs_lF g) b_ends b_far) (hr : r < 6) (hpl : pl ≤ fd_m g) (hnd : nd < 60) (hd : d ≤ nd) (he : er ≤ 8) (hP : fp_YP g OA OI ON OC d b_openAlt b_openItem b_openNode)
    (K1 : ∀ (x bs : Int32) c, fp_am g r (fp_len g OA OI OC d pl) (fd_c g r (fd_n g)) c → post (nI (fd_n g), nI (fd_m g), g_known, g_counted, x, bs, nI (nd + 1), nI er, nI pl, nI (d + 1), g_much, b_ruleOf, b_sizes, b_items, b_signs, b_text, b_ends, b_far, b_empty, b_begins, b_starts, b_follow, b_derivations, b_row, b_layer, b_next, upd b_nodes (6 * nd + 1) (nI (fd_c g r c)), b_errors, upd b_openNode d (nI nd), upd b_openAlt d (nI c), upd b_openItem d 0, upd b_came d 0, b_sum))
    (K8 : fd_c g r (fd_n g) = 0 → er = 8 → ∀ yi yc, post (nI (fd_n g), nI (fd_m g), g_known, g_counted, g_places, g_best, nI (nd + 1), nI 8, nI pl, nI d, 1, b_ruleOf, b_sizes, b_items, b_signs, b_text, b_ends, b_far, b_empty, b_begins, b_starts, b_follow, b_derivations, b_row, b_layer, b_next, upd b_nodes (6 * nd + 1) (-1), b_errors, b_openNode, b_openAlt, yi, yc, b_sum))
    (K0 : fd_c g r (fd_n g) = 0 → er < 8 → ∀ e, (∀ i, i < 3 * er → e i = b_errors i) → e (3 * er) = 2 → e (3 * er + 1) = nI pl → e (3 * er + 2) = nI (r + 8) → ∀ yi yc, fp_YR g OA OI ON OC d b_openAlt yi yc b_openNode → post (nI (fd_n g), nI (fd_m g), g_known, g_counted, g_places, g_best, nI (nd + 1), nI (er + 1), nI pl, nI d, g_much, b_ruleOf, b_sizes, b_items, b_signs, b_text, b_ends, b_far, b_empty, b_begins, b_starts, b_follow, b_derivations, b_row, b_layer, b_next, upd b_nodes (6 * nd + 1) (-1), e, b_openNode, b_openAlt, yi, yc, b_sum)) :
    wY_open_125 post (nI r) (nI (6 * nd)) (nI (fd_n g)) (nI (fd_m g)) g_known g_counted g_places g_best (nI nd) (nI er) (nI pl) (nI d) g_much b_ruleOf b_sizes b_items b_signs b_text b_ends b_far b_empty b_begins b_starts b_follow b_derivations b_row b_layer b_next b_nodes b_errors b_openNode b_openAlt b_openItem b_came b_sum := by
  have n12 := fd_n12 G
  have cl := fd_c_le g r (fd_n g)
  have v1 : vp_in (nI (6 * nd + 1)) 360 := vp_in_nI (by omega) (by omega)
  have c1 : (nI (6 * nd + 1)).toNatClampNeg = 6 * nd + 1 := nI_clamp (by omega)
  have hd60 : d ≤ 59 := by omega
  refine fy_count (g_place := nI pl) (g_faults := nI er) (g_made := nI nd) (g_depth := nI d) G hr (pk_eq (fd_c g r (fd_n g)) 0 (fun h0 => ?_) (fun h0 => ?_))
  · unfold wY_open_151
    rw [nI_1]
    refine ⟨v1, nm_r (e' := upd b_nodes (6 * nd + 1) (-1)) (by rw [c1]) (nm_r (nI_1 _) (pk_eq (fd_c g r (fd_n g)) 0 (fun _ => ?_) (fun c => absurd h0 c)))⟩
    have e8 : (8 : Int32) + nI r = nI (r + 8) := by rw [show (8 : Int32) = nI 8 from rfl, nI_add, Nat.add_comm]
    rw [e8]
    exact fy_fault (g_made := nI (nd + 1)) (g_depth := nI d) he (fun h8 => fy_psd (b_nodes := upd b_nodes (6 * nd + 1) (-1)) G hP (fun yi yc _ => K8 h0 h8 yi yc)) (fun h8 e h1 h2 h3 h4 => fy_psd G hP (fun yi yc hY => K0 h0 h8 e h1 h2 h3 h4 yi yc hY))
  · refine fy_choose (g_faults := nI er) (g_made := nI nd) G H hr hpl hP.2 (by omega) (fun x bs c hc => ?_)
    have vd : vp_in (nI d) 60 := vp_in_nI (by omega) (by omega)
    have cd : (nI d).toNatClampNeg = d := nI_clamp (by omega)
    have cc := fd_c_le g r c
    have cn := hc.1
    unfold wY_open_151
    rw [nI_1]
    refine ⟨v1, nm_r (e' := upd b_nodes (6 * nd + 1) (nI (fd_c g r c))) (by rw [c1]) (nm_r (nI_1 _) (pk_eq (fd_c g r (fd_n g)) 0 (fun c => absurd c h0) (fun _ => ⟨vd, nm_r (e' := upd b_openNode d (nI nd)) (by rw [cd, nI_pred]) ⟨v1, ?_⟩⟩)))⟩
    rw [c1, pk_us]
    refine fy_find G hr (fun a ha => ?_) (fun hno => absurd ⟨fd_c g r c, c, by omega, rfl, hc.1, hc.2.1, rfl⟩ hno)
    have ea : a = c := by
      obtain ⟨j, j1, j2, j3⟩ := ha
      have : fd_c g r c = j := (nI_eq (by omega) (by omega)).mp j2
      subst this
      exact fd_at_u j3 ⟨hc.1, hc.2.1, rfl⟩
    subst ea
    exact ⟨vd, nm_r (e' := upd b_openAlt d (nI a)) (by rw [cd]) ⟨vd, nm_r (e' := upd b_openItem d 0) (by rw [cd]) ⟨vd, nm_r (e' := upd b_came d 0) (by rw [cd, fb_b0]) (nm_r (nI_1 _) (K1 x bs a hc))⟩⟩⟩
theorem fy_open {post : SY → Prop} {OA OI ON : Nat → Nat} {OC : Nat → Bool} {d nd er pl r : Nat} (G : fd_G g b_items b_signs b_sizes b_ruleOf b_text) (H : fy_EF g (fs_lE g) (fs_lF g) b_ends b_far) (hr : r < 6) (hpl : pl ≤ fd_m g) (hnd : nd ≤ 60) (hd : d ≤ nd) (he : er ≤ 8) (hP : fp_YP g OA OI ON OC d b_openAlt b_openItem b_openNode) (hON : ∀ i, i < d → ON i < nd)
    (K60 : nd = 60 → post (nI (fd_n g), nI (fd_m g), g_known, g_counted, g_places, g_best, nI 60, nI er, nI pl, nI d, 1, b_ruleOf, b_sizes, b_items, b_signs, b_text, b_ends, b_far, b_empty, b_begins, b_starts, b_follow, b_derivations, b_row, b_layer, b_next, b_nodes, b_errors, b_openNode, b_openAlt, b_openItem, b_came, b_sum))
    (K1 : nd < 60 → ∀ (x bs : Int32) c, fp_am g r (fp_len g OA OI OC d pl) (fd_c g r (fd_n g)) c → post (nI (fd_n g), nI (fd_m g), g_known, g_counted, x, bs, nI (nd + 1), nI er, nI pl, nI (d + 1), g_much, b_ruleOf, b_sizes, b_items, b_signs, b_text, b_ends, b_far, b_empty, b_begins, b_starts, b_follow, b_derivations, b_row, b_layer, b_next, upd (fp_n6 ON nd d r pl b_nodes) (6 * nd + 1) (nI (fd_c g r c)), b_errors, upd b_openNode d (nI nd), upd b_openAlt d (nI c), upd b_openItem d 0, upd b_came d 0, b_sum))
    (K8 : nd < 60 → fd_c g r (fd_n g) = 0 → er = 8 → ∀ yi yc, post (nI (fd_n g), nI (fd_m g), g_known, g_counted, g_places, g_best, nI (nd + 1), nI 8, nI pl, nI d, 1, b_ruleOf, b_sizes, b_items, b_signs, b_text, b_ends, b_far, b_empty, b_begins, b_starts, b_follow, b_derivations, b_row, b_layer, b_next, upd (fp_n6 ON nd d r pl b_nodes) (6 * nd + 1) (-1), b_errors, b_openNode, b_openAlt, yi, yc, b_sum))
    (K0 : nd < 60 → fd_c g r (fd_n g) = 0 → er < 8 → ∀ e, (∀ i, i < 3 * er → e i = b_errors i) → e (3 * er) = 2 → e (3 * er + 1) = nI pl → e (3 * er + 2) = nI (r + 8) → ∀ yi yc, fp_YR g OA OI ON OC d b_openAlt yi yc b_openNode → post (nI (fd_n g), nI (fd_m g), g_known, g_counted, g_places, g_best, nI (nd + 1), nI (er + 1), nI pl, nI d, g_much, b_ruleOf, b_sizes, b_items, b_signs, b_text, b_ends, b_far, b_empty, b_begins, b_starts, b_follow, b_derivations, b_row, b_layer, b_next, upd (fp_n6 ON nd d r pl b_nodes) (6 * nd + 1) (-1), e, b_openNode, b_openAlt, yi, yc, b_sum)) :
    wpY_open post (nI (fd_n g), nI (fd_m g), g_known, g_counted, g_places, g_best, nI nd, nI er, nI pl, nI d, g_much, b_ruleOf, b_sizes, b_items, b_signs, b_text, b_ends, b_far, b_empty, b_begins, b_starts, b_follow, b_derivations, b_row, b_layer, b_next, b_nodes, b_errors, b_openNode, b_openAlt, b_openItem, b_came, b_sum) (nI r) := by
  have m24 := fd_m24 G
  refine pk_eq nd 60 (fun h => by subst h; exact K60 rfl) (fun h => ?_)
  have hnd' : nd < 60 := by omega
  have e6 : (6 : Int32) * nI nd = nI (6 * nd) := by rw [show (6 : Int32) = nI 6 from rfl, pk_mul]
  have ad : ∀ t : Nat, nI (6 * nd) + nI t = nI (6 * nd + t) := fun t => nI_add _ _
  have vt : ∀ t, t < 6 → vp_in (nI (6 * nd + t)) 360 := fun t ht => vp_in_nI (by omega) (by omega)
  have ct : ∀ t, t < 6 → (nI (6 * nd + t)).toNatClampNeg = 6 * nd + t := fun t ht => nI_clamp (by omega)
  have go : ∀ z0, z0 = fp_up ON d → wY_open_83 post (nI r) (nI (6 * nd)) z0 (nI (6 * nd + 4)) (nI (fd_n g)) (nI (fd_m g)) g_known g_counted g_places g_best (nI nd) (nI er) (nI pl) (nI d) g_much b_ruleOf b_sizes b_items b_signs b_text b_ends b_far b_empty b_begins b_starts b_follow b_derivations b_row b_layer b_next (upd (upd (upd b_nodes (6 * nd) (nI r)) (6 * nd + 2) (nI pl)) (6 * nd + 3) (nI pl)) b_errors b_openNode b_openAlt b_openItem b_came b_sum := by
    intro z0 hz
    unfold wY_open_83
    rw [show nI (6 * nd) + 5 = nI (6 * nd + 5) from ad 5]
    refine ⟨vt 4 (by omega), nm_r (e' := upd (upd (upd (upd b_nodes (6 * nd) (nI r)) (6 * nd + 2) (nI pl)) (6 * nd + 3) (nI pl)) (6 * nd + 4) (fp_up ON d)) (by rw [ct 4 (by omega), hz]) ⟨vt 5 (by omega), nm_r (e' := fp_n5 ON nd d r pl b_nodes) (by rw [ct 5 (by omega)]; rfl) ?_⟩⟩
    by_cases h0 : d = 0
    · have e : fp_n6 ON nd d r pl b_nodes = fp_n5 ON nd d r pl b_nodes := if_pos h0
      rw [e] at K1 K8 K0
      exact pk_le d 0 (fun _ => fy_op125 G H hr hpl hnd' hd he hP (K1 hnd') (K8 hnd') (K0 hnd')) (fun c => by omega)
    · have e : fp_n6 ON nd d r pl b_nodes = upd (fp_n5 ON nd d r pl b_nodes) (6 * ON (d - 1) + 5) (fp_n5 ON nd d r pl b_nodes (6 * ON (d - 1) + 5) + 1) := if_neg h0
      have hj := hON (d - 1) (by omega)
      have es : nI d - 1 = nI (d - 1) := by rw [show (1 : Int32) = nI 1 from rfl, pk_sub (by omega)]
      have ej : (6 : Int32) * b_openNode (nI (d - 1)).toNatClampNeg + 5 = nI (6 * ON (d - 1) + 5) := by
        rw [nI_clamp (by omega), hP.1 (d - 1) (by omega), show (6 : Int32) = nI 6 from rfl, pk_mul, show (5 : Int32) = nI 5 from rfl, nI_add]
      refine pk_le d 0 (fun c => by omega) (fun _ => ?_)
      rw [es, ej]
      have vj : vp_in (nI (6 * ON (d - 1) + 5)) 360 := vp_in_nI (by omega) (by omega)
      refine ⟨vp_in_nI (by omega) (by omega), vj, vj, nm_r (e' := fp_n6 ON nd d r pl b_nodes) (by rw [nI_clamp (by omega), e]) ?_⟩
      exact fy_op125 G H hr hpl hnd' hd he hP (K1 hnd') (K8 hnd') (K0 hnd')
  refine nm_r e6 ?_
  have v0 : vp_in (nI (6 * nd)) 360 := vp_in_nI (by omega) (by omega)
  rw [show nI (6 * nd) + 2 = nI (6 * nd + 2) from ad 2, show nI (6 * nd) + 3 = nI (6 * nd + 3) from ad 3, show nI (6 * nd) + 4 = nI (6 * nd + 4) from ad 4]
  refine ⟨v0, nm_r (e' := upd b_nodes (6 * nd) (nI r)) (by rw [nI_clamp (by omega)]) ⟨vt 2 (by omega), nm_r (e' := upd (upd b_nodes (6 * nd) (nI r)) (6 * nd + 2) (nI pl)) (by rw [ct 2 (by omega)]) ⟨vt 3 (by omega), nm_r (e' := upd (upd (upd b_nodes (6 * nd) (nI r)) (6 * nd + 2) (nI pl)) (6 * nd + 3) (nI pl)) (by rw [ct 3 (by omega)]) ?_⟩⟩⟩
  refine pk_eq d 0 (fun h0 => go (-1) ?_) (fun h0 => ?_)
  · unfold fp_up; rw [if_pos h0]
  · have es : nI d - 1 = nI (d - 1) := by rw [show (1 : Int32) = nI 1 from rfl, pk_sub (by omega)]
    rw [es]
    refine ⟨vp_in_nI (by omega) (by omega), go _ ?_⟩
    rw [nI_clamp (by omega), hP.1 (d - 1) (by omega)]
    unfold fp_up; rw [if_neg h0]
end
end
section
/-- whether the item at hand is entered -/
def fp_en (g : fd_Gr) (OA OI : Nat → Nat) (OC : Nat → Bool) (f k pl : Nat) : Prop :=
  (fd_S g (OA f) k = 0 ∨ (fd_S g (OA f) k = 3 ∧ OC f = false)) ∨ fp_bt g pl (fp_wi g OA (fp_aI g OA OI f k) (fp_aC g OA OC f k) (f + 1) pl (fd_W g (OA f) k)) (fp_wo g OA (fp_u OI f (k + 1)) (fp_u OC f false) (f + 1) pl)
section
variable {g : fd_Gr}
variable {f_studied f_empties f_bad f_kept f_busyCount f_fartherCount f_best f_counted f_depth f_place f_nodes f_errors f_much : Int32} {a_what a_sign a_length a_ruleOf a_text a_begins a_firsts a_been a_ends a_far a_begun a_todo a_busy a_farther a_number a_now a_then a_order a_openAlternative a_openItem a_openCame a_openNode a_nodeRule a_nodeAlternative a_nodeFrom a_nodeTo a_nodeParent a_nodeParts a_errorKind a_errorPlace a_errorItem : Nat → Int32}
theorem fx_step {post : SX → Prop} {OA OI ON : Nat → Nat} {OC : Nat → Bool} {f pl : Nat} (G : fd_G g a_what a_sign a_length a_ruleOf a_text) (A : fx_A g f_kept f_busyCount f_fartherCount a_been a_ends a_far a_begun a_todo a_busy a_farther) (hf : f < 60) (hpl : pl ≤ fd_m g) (hF : fo_X g OA OI OC (f + 1) a_openAlternative a_openItem a_openCame) (hC : OC f = true → OI f < fd_L g (OA f) ∧ fd_S g (OA f) (OI f) = 3) (hN : a_openNode f = nI (ON f)) (hN6 : ON f < 60)
    (KC : OI f = fd_L g (OA f) → post (nI (fd_n g), nI (fd_m g), f_studied, f_empties, f_bad, f_kept, f_busyCount, f_fartherCount, f_best, f_counted, nI f, nI pl, f_nodes, f_errors, f_much, a_what, a_sign, a_length, a_ruleOf, a_text, a_begins, a_firsts, a_been, a_ends, a_far, a_begun, a_todo, a_busy, a_farther, a_number, a_now, a_then, a_order, a_openAlternative, a_openItem, a_openCame, a_openNode, a_nodeRule, a_nodeAlternative, a_nodeFrom, upd a_nodeTo (ON f) (nI pl), a_nodeParent, a_nodeParts, a_errorKind, a_errorPlace, a_errorItem))
    (KS : OI f < fd_L g (OA f) → ¬ fp_en g OA OI OC f (OI f) pl → ∀ (bs : Int32) (ke bc fc : Int32) (be en fa bg td bu ft : Nat → Int32), fx_A g ke bc fc be en fa bg td bu ft → post (nI (fd_n g), nI (fd_m g), f_studied, f_empties, f_bad, ke, bc, fc, bs, f_counted, nI (f + 1), nI pl, f_nodes, f_errors, f_much, a_what, a_sign, a_length, a_ruleOf, a_text, a_begins, a_firsts, be, en, fa, bg, td, bu, ft, a_number, a_now, a_then, a_order, a_openAlternative, upd a_openItem f (nI (OI f + 1)), upd a_openCame f 0, a_openNode, a_nodeRule, a_nodeAlternative, a_nodeFrom, a_nodeTo, a_nodeParent, a_nodeParts, a_errorKind, a_errorPlace, a_errorItem))
    (KE : OI f < fd_L g (OA f) → fp_en g OA OI OC f (OI f) pl → ∀ (bs : Int32) (ke bc fc : Int32) (be en fa bg td bu ft : Nat → Int32) oi oc, fx_A g ke bc fc be en fa bg td bu ft → fo_X g OA (fp_aI g OA OI f (OI f)) (fp_aC g OA OC f (OI f)) (f + 1) a_openAlternative oi oc →
      (fd_W g (OA f) (OI f) < 8 → wpX_pass post (nI (fd_n g), nI (fd_m g), f_studied, f_empties, f_bad, ke, bc, fc, bs, f_counted, nI (f + 1), nI pl, f_nodes, f_errors, f_much, a_what, a_sign, a_length, a_ruleOf, a_text, a_begins, a_firsts, be, en, fa, bg, td, bu, ft, a_number, a_now, a_then, a_order, a_openAlternative, oi, oc, a_openNode, a_nodeRule, a_nodeAlternative, a_nodeFrom, a_nodeTo, a_nodeParent, a_nodeParts, a_errorKind, a_errorPlace, a_errorItem) (nI (fd_W g (OA f) (OI f)))) ∧ (7 < fd_W g (OA f) (OI f) → wpX_open post (nI (fd_n g), nI (fd_m g), f_studied, f_empties, f_bad, ke, bc, fc, bs, f_counted, nI (f + 1), nI pl, f_nodes, f_errors, f_much, a_what, a_sign, a_length, a_ruleOf, a_text, a_begins, a_firsts, be, en, fa, bg, td, bu, ft, a_number, a_now, a_then, a_order, a_openAlternative, oi, oc, a_openNode, a_nodeRule, a_nodeAlternative, a_nodeFrom, a_nodeTo, a_nodeParent, a_nodeParts, a_errorKind, a_errorPlace, a_errorItem) (nI (fd_W g (OA f) (OI f) - 8)))) :
    wpX_step post (nI (fd_n g), nI (fd_m g), f_studied, f_empties, f_bad, f_kept, f_busyCount, f_fartherCount, f_best, f_counted, nI (f + 1), nI pl, f_nodes, f_errors, f_much, a_what, a_sign, a_length, a_ruleOf, a_text, a_begins, a_firsts, a_been, a_ends, a_far, a_begun, a_todo, a_busy, a_farther, a_number, a_now, a_then, a_order, a_openAlternative, a_openItem, a_openCame, a_openNode, a_nodeRule, a_nodeAlternative, a_nodeFrom, a_nodeTo, a_nodeParent, a_nodeParts, a_errorKind, a_errorPlace, a_errorItem) := by
  have n12 := fd_n12 G
  have m24 := fd_m24 G
  have hF0 := hF
  obtain ⟨hd, hF'⟩ := hF
  obtain ⟨f1, f2, f3, f4, f5⟩ := hF' f (by omega)
  have l5 := fd_L5 G f2
  have vf : vp_in (nI f) 61 := vp_in_nI (by omega) (by omega)
  have cf : (nI f).toNatClampNeg = f := nI_clamp (by omega)
  have ecl : a_length (nI (OA f)).toNatClampNeg = nI (fd_L g (OA f)) := fx_le G f2
  refine nm_r (nI_pred f) ⟨vf, nm_r (e' := nI (OA f)) (by rw [cf, f1]) ⟨vf, nm_r (e' := nI (OI f)) (by rw [cf, f3]) ⟨vp_in_nI (by omega) (by omega), ?_⟩⟩⟩
  refine pk_eq (OI f) (fd_L g (OA f)) (fun hL => ⟨vf, ?_⟩) (fun hL => ?_) (hy := ecl)
  · rw [cf, hN]
    refine ⟨vp_in_nI hN6 (by omega), nm_r (e' := upd a_nodeTo (ON f) (nI pl)) (by rw [nI_clamp (by omega), fb_vb2 (by omega)]) (nm_r (nI_pred f) (KC hL))⟩
  · have hk : OI f < fd_L g (OA f) := by omega
    have s4 := fd_S4 G f2 hk
    have w14 := fd_W14 G f2 hk
    have vc := fx_in G f2 hk
    have c170 : fp_en g OA OI OC f (OI f) pl → ∀ (bs : Int32) (ke bc fc : Int32) (be en fa bg td bu ft : Nat → Int32) oi oc, fx_A g ke bc fc be en fa bg td bu ft → fo_X g OA (fp_aI g OA OI f (OI f)) (fp_aC g OA OC f (OI f)) (f + 1) a_openAlternative oi oc → wX_step_170 post (nI (5 * OA f + OI f)) 1 (nI (fd_n g)) (nI (fd_m g)) f_studied f_empties f_bad ke bc fc bs f_counted (nI (f + 1)) (nI pl) f_nodes f_errors f_much a_what a_sign a_length a_ruleOf a_text a_begins a_firsts be en fa bg td bu ft a_number a_now a_then a_order a_openAlternative oi oc a_openNode a_nodeRule a_nodeAlternative a_nodeFrom a_nodeTo a_nodeParent a_nodeParts a_errorKind a_errorPlace a_errorItem := by
      intro hE bs ke bc fc be en fa bg td bu ft oi oc A' hF2
      obtain ⟨k1, k2⟩ := KE hk hE bs ke bc fc be en fa bg td bu ft oi oc A' hF2
      refine br_f (by decide) ⟨vc, pk_le (fd_W g (OA f) (OI f)) 7 (fun w7 => ⟨vc, ?_⟩) (fun w7 => ⟨vc, ?_⟩) (hx := fx_wh G f2 hk)⟩
      · rw [fx_wh G f2 hk]; exact k1 (by omega)
      · rw [fx_wh G f2 hk, fx_m8 (by omega)]; exact k2 w7
    have e1 : vp_nar .byte (a_openItem (nI f).toNatClampNeg + 1).toInt8.toInt32 = nI (OI f + 1) := by rw [cf, f3, nI_1, fb_nI8 _ (by omega), fb_vb (by omega)]
    have c118 : fp_en g OA OI OC f (OI f) pl → ∀ (bs : Int32) (ke bc fc : Int32) (be en fa bg td bu ft : Nat → Int32), fx_A g ke bc fc be en fa bg td bu ft → wX_step_118 post (nI f) (nI (5 * OA f + OI f)) (nI (fd_S g (OA f) (OI f))) (nI (fd_n g)) (nI (fd_m g)) f_studied f_empties f_bad ke bc fc bs f_counted (nI (f + 1)) (nI pl) f_nodes f_errors f_much a_what a_sign a_length a_ruleOf a_text a_begins a_firsts be en fa bg td bu ft a_number a_now a_then a_order a_openAlternative a_openItem a_openCame a_openNode a_nodeRule a_nodeAlternative a_nodeFrom a_nodeTo a_nodeParent a_nodeParts a_errorKind a_errorPlace a_errorItem := by
      intro hE bs ke bc fc be en fa bg td bu ft A'
      refine br_f (by decide) (pk_le 2 (fd_S g (OA f) (OI f)) (fun s2 => pk_eq (fd_S g (OA f) (OI f)) 3 (fun s3 => ⟨vf, nm_r (e' := upd a_openCame f 1) (by rw [cf, fb_v1]) (c170 hE _ _ _ _ _ _ _ _ _ _ _ _ _ A' ⟨hd, fun i hi => ?_⟩)⟩) (fun s3 => c170 hE _ _ _ _ _ _ _ _ _ _ _ _ _ A' ⟨hd, fun i hi => ?_⟩)) (fun s2 => ⟨vf, vf, nm_r (e' := upd a_openItem f (nI (OI f + 1))) (by rw [e1, cf]) ⟨vf, nm_r (e' := upd a_openCame f 0) (by rw [cf, fb_v0]) (c170 hE _ _ _ _ _ _ _ _ _ _ _ _ _ A' ⟨hd, fun i hi => ?_⟩)⟩⟩))
      · obtain ⟨g1, g2, g3, g4, g5⟩ := hF' i hi
        unfold fp_aI fp_aC
        by_cases e : i = f
        · subst e
          rw [pk_us, fp_us, fp_us, if_neg (by omega), decide_eq_true s3]
          exact ⟨g1, g2, g3, by omega, rfl⟩
        · rw [pk_un e, fp_un e, fp_un e]; exact ⟨g1, g2, g3, g4, g5⟩
      · obtain ⟨g1, g2, g3, g4, g5⟩ := hF' i hi
        unfold fp_aI fp_aC
        by_cases e : i = f
        · subst e
          rw [fp_us, fp_us, if_neg (by omega), decide_eq_false s3]
          refine ⟨g1, g2, g3, by omega, ?_⟩
          rw [g5]
          cases hc : OC i
          · rfl
          · exact absurd (hC hc).2 s3
        · rw [fp_un e, fp_un e]; exact ⟨g1, g2, g3, g4, g5⟩
      · obtain ⟨g1, g2, g3, g4, g5⟩ := hF' i hi
        unfold fp_aI fp_aC
        by_cases e : i = f
        · subst e
          rw [pk_us, pk_us, fp_us, fp_us, if_pos (by omega), decide_eq_false (by omega)]
          exact ⟨g1, g2, rfl, by omega, rfl⟩
        · rw [pk_un e, pk_un e, fp_un e, fp_un e]; exact ⟨g1, g2, g3, g4, g5⟩
    have asks : ((fd_S g (OA f) (OI f) = 1 ∨ fd_S g (OA f) (OI f) = 2) ∧ OC f = false ∨ fd_S g (OA f) (OI f) = 3 ∧ OC f = true) → wX_step_96 post (nI f) (nI (5 * OA f + OI f)) (nI (fd_S g (OA f) (OI f))) (nI (fd_n g)) (nI (fd_m g)) f_studied f_empties f_bad f_kept f_busyCount f_fartherCount f_best f_counted (nI (f + 1)) (nI pl) f_nodes f_errors f_much a_what a_sign a_length a_ruleOf a_text a_begins a_firsts a_been a_ends a_far a_begun a_todo a_busy a_farther a_number a_now a_then a_order a_openAlternative a_openItem a_openCame a_openNode a_nodeRule a_nodeAlternative a_nodeFrom a_nodeTo a_nodeParent a_nodeParts a_errorKind a_errorPlace a_errorItem := by
      intro hS
      refine br_f (by decide) (fx_isBetter G A hf hpl hk rfl hS hF0 (fun r bs ke bc fc be en fa bg td bu ft A' hr => ?_))
      rcases hr with ⟨rfl, hb⟩ | ⟨rfl, hb⟩
      · exact br_f (by decide) (c118 (Or.inr hb) _ _ _ _ _ _ _ _ _ _ _ A')
      · refine br_t rfl (br_t rfl ⟨vf, vf, nm_r (e' := upd a_openItem f (nI (OI f + 1))) (by rw [e1, cf]) ⟨vf, nm_r (e' := upd a_openCame f 0) (by rw [cf, fb_v0]) (br_t rfl (KS hk (fun z => ?_) _ _ _ _ _ _ _ _ _ _ _ A'))⟩⟩)
        rcases z with z | z
        · rcases hS with y | y
          · rcases z with z | z <;> omega
          · rcases z with z | z
            · omega
            · rw [y.2] at z; exact absurd z.2 (by decide)
        · exact hb z
    refine nm_r (fx_5 _ _) ⟨vc, nm_r (fx_sg G f2 hk) ?_⟩
    have cF : fd_S g (OA f) (OI f) ≠ 3 → OC f = false := fun h => by
      cases hc : OC f
      · rfl
      · exact absurd (hC hc).2 h
    refine pk_eq (fd_S g (OA f) (OI f)) 1 (fun s1 => asks (Or.inl ⟨Or.inl s1, cF (by omega)⟩)) (fun s1 => ?_)
    refine pk_eq (fd_S g (OA f) (OI f)) 2 (fun s2 => asks (Or.inl ⟨Or.inr s2, cF (by omega)⟩)) (fun s2 => ⟨vf, ?_⟩)
    rw [cf, f5]
    cases hc : OC f
    · refine br_f (by decide) (br_t rfl (c118 (Or.inl ?_) _ _ _ _ _ _ _ _ _ _ _ A))
      rcases (by omega : fd_S g (OA f) (OI f) = 0 ∨ fd_S g (OA f) (OI f) = 3) with s | s
      · exact Or.inl s
      · exact Or.inr ⟨s, hc⟩
    · exact br_t rfl (asks (Or.inr ⟨(hC hc).2, hc⟩))
variable {g_known g_counted g_places g_best g_made g_faults g_place g_depth g_much : Int32} {b_ruleOf b_sizes b_items b_signs b_text b_ends b_far b_empty b_begins b_starts b_follow b_nodes b_errors b_openNode b_openAlt b_openItem b_came : Nat → Int32} {b_derivations b_row b_layer b_next b_sum : Nat → Int64}
theorem fy_step {post : SY → Prop} {OA OI ON : Nat → Nat} {OC : Nat → Bool} {f pl : Nat} (G : fd_G g b_items b_signs b_sizes b_ruleOf b_text) (H : fy_EF g (fs_lE g) (fs_lF g) b_ends b_far) (hpl : pl ≤ fd_m g) (hLe : OI f ≤ fd_L g (OA f)) (hC : OC f = true → OI f < fd_L g (OA f) ∧ fd_S g (OA f) (OI f) = 3) (hN6 : ON f < 60) (hY : fp_YR g OA OI ON OC (f + 1) b_openAlt b_openItem b_came b_openNode)
    (KC : OI f = fd_L g (OA f) → ∀ yi yc, fp_YR g OA OI ON OC f b_openAlt yi yc b_openNode → post (nI (fd_n g), nI (fd_m g), g_known, g_counted, g_places, g_best, g_made, g_faults, nI pl, nI f, g_much, b_ruleOf, b_sizes, b_items, b_signs, b_text, b_ends, b_far, b_empty, b_begins, b_starts, b_follow, b_derivations, b_row, b_layer, b_next, upd b_nodes (6 * ON f + 3) (nI pl), b_errors, b_openNode, b_openAlt, yi, yc, b_sum))
    (KS : OI f < fd_L g (OA f) → ¬ fp_en g OA OI OC f (OI f) pl → ∀ (x bs : Int32), post (nI (fd_n g), nI (fd_m g), g_known, g_counted, x, bs, g_made, g_faults, nI pl, nI (f + 1), g_much, b_ruleOf, b_sizes, b_items, b_signs, b_text, b_ends, b_far, b_empty, b_begins, b_starts, b_follow, b_derivations, b_row, b_layer, b_next, b_nodes, b_errors, b_openNode, b_openAlt, upd b_openItem f (nI (OI f + 1)), upd b_came f 0, b_sum))
    (KE : OI f < fd_L g (OA f) → fp_en g OA OI OC f (OI f) pl → fp_YP g OA (fp_aI g OA OI f (OI f)) ON (fp_aC g OA OC f (OI f)) (f + 1) b_openAlt b_openItem b_openNode → ∀ (x bs : Int32),
      (fd_W g (OA f) (OI f) < 8 → wpY_expect post (nI (fd_n g), nI (fd_m g), g_known, g_counted, x, bs, g_made, g_faults, nI pl, nI (f + 1), g_much, b_ruleOf, b_sizes, b_items, b_signs, b_text, b_ends, b_far, b_empty, b_begins, b_starts, b_follow, b_derivations, b_row, b_layer, b_next, b_nodes, b_errors, b_openNode, b_openAlt, b_openItem, b_came, b_sum) (nI (fd_W g (OA f) (OI f)))) ∧ (7 < fd_W g (OA f) (OI f) → wpY_open post (nI (fd_n g), nI (fd_m g), g_known, g_counted, x, bs, g_made, g_faults, nI pl, nI (f + 1), g_much, b_ruleOf, b_sizes, b_items, b_signs, b_text, b_ends, b_far, b_empty, b_begins, b_starts, b_follow, b_derivations, b_row, b_layer, b_next, b_nodes, b_errors, b_openNode, b_openAlt, b_openItem, b_came, b_sum) (nI (fd_W g (OA f) (OI f) - 8)))) :
    wpY_step post (nI (fd_n g), nI (fd_m g), g_known, g_counted, g_places, g_best, g_made, g_faults, nI pl, nI (f + 1), g_much, b_ruleOf, b_sizes, b_items, b_signs, b_text, b_ends, b_far, b_empty, b_begins, b_starts, b_follow, b_derivations, b_row, b_layer, b_next, b_nodes, b_errors, b_openNode, b_openAlt, b_openItem, b_came, b_sum) := by
  have n12 := fd_n12 G
  have m24 := fd_m24 G
  obtain ⟨hd, y1, y2, y3⟩ := hY
  obtain ⟨q1, q2, q3, c, q4, q5⟩ := y3 (by omega)
  rw [show f + 1 - 1 = f from by omega] at q1 q2 q3 q4 q5 y2
  have l5 := fd_L5 G q1
  have vf : vp_in (nI f) 60 := vp_in_nI (by omega) (by omega)
  have cf : (nI f).toNatClampNeg = f := nI_clamp (by omega)
  have ecl : b_sizes (nI (OA f)).toNatClampNeg = nI (fd_L g (OA f)) := fx_le G q1
  refine nm_r (nI_pred f) ⟨vf, nm_r (e' := nI (OA f)) (by rw [cf, q2]) ⟨vf, vp_in_nI (by omega) (by omega), ?_⟩⟩
  refine pk_eq (OI f) (fd_L g (OA f)) (fun hL => ⟨vf, ?_⟩) (fun hL => ⟨vf, ?_⟩) (hx := by rw [cf]; exact q3) (hy := ecl)
  · have e6 : (6 : Int32) * b_openNode (nI f).toNatClampNeg + 3 = nI (6 * ON f + 3) := by rw [cf, y1 f (by omega), show (6 : Int32) = nI 6 from rfl, pk_mul, show (3 : Int32) = nI 3 from rfl, nI_add]
    rw [e6]
    refine ⟨vp_in_nI (by omega) (by omega), nm_r (e' := upd b_nodes (6 * ON f + 3) (nI pl)) (by rw [nI_clamp (by omega)]) (nm_r (nI_pred f) ?_)⟩
    exact fy_psd G ⟨fun i hi => y1 i (by omega), y2⟩ (fun yi yc hY => KC hL yi yc hY)
  · have hk : OI f < fd_L g (OA f) := by omega
    have s4 := fd_S4 G q1 hk
    have w14 := fd_W14 G q1 hk
    have vc := fx_in G q1 hk
    have ec : (5 : Int32) * nI (OA f) + b_openItem (nI f).toNatClampNeg = nI (5 * OA f + OI f) := by rw [cf, q3, fx_5]
    have P : fp_YP g OA (fp_aI g OA OI f (OI f)) ON (fp_aC g OA OC f (OI f)) (f + 1) b_openAlt b_openItem b_openNode := by
      refine ⟨y1, hd, fun i hi => ?_⟩
      by_cases e : i = f
      · subst e
        exact ⟨q1, q2, OI i, q3, fp_aP hk s4⟩
      · obtain ⟨r1, r2, j, r3, r4⟩ := y2.2 i (by omega)
        refine ⟨r1, r2, j, r3, ?_⟩
        unfold fp_aI fp_aC
        rw [fp_un e, fp_un e]; exact r4
    have c154 : fp_en g OA OI OC f (OI f) pl → ∀ (x bs : Int32), wY_step_154 post (nI (5 * OA f + OI f)) (nI (fd_n g)) (nI (fd_m g)) g_known g_counted x bs g_made g_faults (nI pl) (nI (f + 1)) g_much b_ruleOf b_sizes b_items b_signs b_text b_ends b_far b_empty b_begins b_starts b_follow b_derivations b_row b_layer b_next b_nodes b_errors b_openNode b_openAlt b_openItem b_came b_sum := by
      intro hE x bs
      obtain ⟨k1, k2⟩ := KE hk hE P x bs
      refine ⟨vc, pk_le 8 (fd_W g (OA f) (OI f)) (fun w8 => ⟨vc, ?_⟩) (fun w8 => ⟨vc, ?_⟩) (hy := fx_wh G q1 hk)⟩
      · rw [fx_wh G q1 hk, fx_m8 w8]; exact k2 (by omega)
      · rw [fx_wh G q1 hk]; exact k1 w8
    have asks : ¬ (fd_S g (OA f) (OI f) = 0 ∨ (fd_S g (OA f) (OI f) = 3 ∧ OC f = false)) → wY_step_114 post (nI f) (nI (5 * OA f + OI f)) (nI (fd_n g)) (nI (fd_m g)) g_known g_counted g_places g_best g_made g_faults (nI pl) (nI (f + 1)) g_much b_ruleOf b_sizes b_items b_signs b_text b_ends b_far b_empty b_begins b_starts b_follow b_derivations b_row b_layer b_next b_nodes b_errors b_openNode b_openAlt b_openItem b_came b_sum := by
      intro hS
      refine br_f (by decide) (fy_comes (OA := OA) (OI := fp_aI g OA OI f (OI f)) (OC := fp_aC g OA OC f (OI f)) (OI2 := fp_u OI f (OI f + 1)) (OC2 := fp_u OC f false) G H hpl P.2 q3 hk (fun i hi => ?_) fp_us fp_us (fun r x bs hr => ?_))
      · unfold fp_aI fp_aC
        rw [fp_un (by omega), fp_un (by omega), fp_un (by omega), fp_un (by omega)]; exact ⟨rfl, rfl⟩
      · rcases hr with ⟨rfl, hb⟩ | ⟨rfl, hb⟩
        · exact br_f (by decide) (c154 (Or.inr hb) x bs)
        · exact br_t rfl ⟨vf, vf, nm_r (e' := upd b_openItem f (nI (OI f + 1))) (by rw [cf, q3, nI_1]) ⟨vf, nm_r (e' := upd b_came f 0) (by rw [cf, fb_b0]) (KS hk (fun z => z.elim hS hb) x bs)⟩⟩
    have free : (fd_S g (OA f) (OI f) = 0 ∨ (fd_S g (OA f) (OI f) = 3 ∧ OC f = false)) → wY_step_118 post (nI f) (nI (5 * OA f + OI f)) (nI (fd_n g)) (nI (fd_m g)) g_known g_counted g_places g_best g_made g_faults (nI pl) (nI (f + 1)) g_much b_ruleOf b_sizes b_items b_signs b_text b_ends b_far b_empty b_begins b_starts b_follow b_derivations b_row b_layer b_next b_nodes b_errors b_openNode b_openAlt b_openItem b_came b_sum := fun hS => br_t rfl (c154 (Or.inl hS) _ _)
    refine nm_r ec ⟨vc, pk_eq (fd_S g (OA f) (OI f)) 1 (fun s1 => asks (fun z => by rcases z with z | z <;> omega)) (fun s1 => ⟨vc, ?_⟩) (hx := fx_sg G q1 hk)⟩
    refine pk_eq (fd_S g (OA f) (OI f)) 2 (fun s2 => asks (fun z => by rcases z with z | z <;> omega)) (fun s2 => ⟨vc, ?_⟩) (hx := fx_sg G q1 hk)
    refine pk_eq (fd_S g (OA f) (OI f)) 3 (fun s3 => ⟨vf, ?_⟩) (fun s3 => free (Or.inl (by omega))) (hx := fx_sg G q1 hk)
    rw [cf, q4]
    have ecc := q5 hk s3
    cases hc : c
    · exact br_t rfl (free (Or.inr ⟨s3, by rw [← ecc, hc]⟩))
    · refine br_f (by decide) (asks (fun z => ?_))
      rcases z with z | z
      · omega
      · rw [← ecc, hc] at z; exact absurd z.2 (by decide)
end
end
section
/-- what holds at the head of X's loop -/
def fp_V (g : fd_Gr) (nd er pl dp : Nat) (OA OI ON : Nat → Nat) (OC : Nat → Bool) (oa oi oc on nq : Nat → Int32) : Prop :=
  nd ≤ 60 ∧ er ≤ 8 ∧ pl ≤ fd_m g ∧ dp ≤ nd ∧ fo_X g OA OI OC dp oa oi oc ∧ (∀ i, i < dp → on i = nI (ON i) ∧ ON i < nd) ∧ (∀ i, i < dp → OC i = true → OI i < fd_L g (OA i) ∧ fd_S g (OA i) (OI i) = 3) ∧ fp_NP nd nq
/-- and of Y's side -/
def fp_H (g : fd_Gr) (nd er dp : Nat) (OA OI ON : Nat → Nat) (OC : Nat → Bool) (nr na nf nt np nq ek ep ei em yb st yen yfa ya yi yc yn no e : Nat → Int32) : Prop :=
  fy_LO g em yb st yen yfa ∧ fp_YR g OA OI ON OC dp ya yi yc yn ∧ fp_N nd nr na nf nt np nq no ∧ fp_E er ek ep ei e
def fp_μ (nd er pl dp : Nat) (OI : Nat → Nat) : Nat := 1 + 8 * (60 - nd) + (8 - er) + (24 - pl) + fc_sum (fun i => 7 - OI i) dp
theorem fp_N_to {nd j : Nat} {nr na nf nt np nq no : Nat → Int32} {v : Int32} (h : fp_N nd nr na nf nt np nq no) (hj : j < nd) : fp_N nd nr na nf (upd nt j v) np nq (upd no (6 * j + 3) v) := by
  refine ⟨h.1, fun i hi => ?_⟩
  obtain ⟨g0, g1, g2, g3, g4, g5⟩ := h.2 i hi
  refine ⟨?_, ?_, ?_, ?_, ?_, ?_⟩
  · rw [pk_un (by omega)]; exact g0
  · rw [pk_un (by omega)]; exact g1
  · rw [pk_un (by omega)]; exact g2
  · by_cases e : i = j
    · rw [e, pk_us, pk_us]
    · rw [pk_un (by omega), pk_un e]; exact g3
  · rw [pk_un (by omega)]; exact g4
  · rw [pk_un (by omega)]; exact g5
theorem fp_E_new {er : Nat} {ek ep ei e e' : Nat → Int32} {k p i : Int32} (h : fp_E er ek ep ei e) (h8 : er < 8) (h1 : ∀ i, i < 3 * er → e' i = e i) (h2 : e' (3 * er) = k) (h3 : e' (3 * er + 1) = p) (h4 : e' (3 * er + 2) = i) : fp_E (er + 1) (upd ek er k) (upd ep er p) (upd ei er i) e' := by
  refine ⟨by omega, fun j hj => ?_⟩
  by_cases c : j = er
  · rw [c, pk_us, pk_us, pk_us]; exact ⟨h2, h3, h4⟩
  · rw [pk_un c, pk_un c, pk_un c, h1 _ (by omega), h1 _ (by omega), h1 _ (by omega)]
    exact h.2 j (by omega)
theorem fp_NP_new {nd d : Nat} {ON : Nat → Nat} {nq : Nat → Int32} (h : fp_NP nd nq) (hj : d ≠ 0 → ON (d - 1) < nd) : fp_NP (nd + 1) (fp_nq ON nd d nq) := by
  intro i hi
  unfold fp_nq
  have base : ∃ c, c ≤ nd + 1 ∧ upd nq nd 0 i = nI c := by
    by_cases e : i = nd
    · exact ⟨0, by omega, by rw [e, pk_us]; rfl⟩
    · obtain ⟨c, c1, c2⟩ := h i (by omega)
      exact ⟨c, by omega, by rw [pk_un e]; exact c2⟩
  split
  · exact base
  · next h0 =>
    by_cases e : i = ON (d - 1)
    · obtain ⟨c, c1, c2⟩ := h (ON (d - 1)) (hj h0)
      exact ⟨c + 1, by omega, by rw [e, pk_us, c2, nI_1]⟩
    · rw [pk_un e]; exact base
theorem fp_NP_up {nd : Nat} {nq : Nat → Int32} (h : fp_NP nd nq) : fp_NP nd nq := h
section
variable {g : fd_Gr}
theorem fp_sum_u {OI : Nat → Nat} {f v : Nat} : ∀ d, d ≤ f → fc_sum (fun i => 7 - fp_u OI f v i) d = fc_sum (fun i => 7 - OI i) d := fun d hd => fc_sum_e d (fun i hi => by rw [fp_un (by omega)])
theorem fp_sum_f {OI : Nat → Nat} {f v : Nat} : fc_sum (fun i => 7 - fp_u OI f v i) (f + 1) = fc_sum (fun i => 7 - OI i) f + (7 - v) := by rw [fc_sum_s, fp_sum_u f (Nat.le_refl _), fp_us]
theorem fp_aI_ge {OA OI : Nat → Nat} {f : Nat} : fc_sum (fun i => 7 - fp_aI g OA OI f (OI f) i) (f + 1) ≤ fc_sum (fun i => 7 - OI i) (f + 1) := by
  unfold fp_aI
  rw [fp_sum_f, fc_sum_s]
  split <;> omega
theorem fp_aC_ok {OA OI : Nat → Nat} {OC : Nat → Bool} {f : Nat} (hk : OI f < fd_L g (OA f)) (h : ∀ i, i < f + 1 → OC i = true → OI i < fd_L g (OA i) ∧ fd_S g (OA i) (OI i) = 3) : ∀ i, i < f + 1 → fp_aC g OA OC f (OI f) i = true → fp_aI g OA OI f (OI f) i < fd_L g (OA i) ∧ fd_S g (OA i) (fp_aI g OA OI f (OI f) i) = 3 := by
  intro i hi hc
  unfold fp_aC at hc
  unfold fp_aI
  by_cases e : i = f
  · subst e
    rw [fp_us, decide_eq_true_eq] at hc
    rw [fp_us, if_neg (by omega)]
    exact ⟨hk, hc⟩
  · rw [fp_un e] at hc
    rw [fp_un e]
    exact h i hi hc
variable {f_studied f_empties f_bad f_kept f_busyCount f_fartherCount f_best f_counted f_depth f_place f_nodes f_errors f_much : Int32} {a_what a_sign a_length a_ruleOf a_text a_begins a_firsts a_been a_ends a_far a_begun a_todo a_busy a_farther a_number a_now a_then a_order a_openAlternative a_openItem a_openCame a_openNode a_nodeRule a_nodeAlternative a_nodeFrom a_nodeTo a_nodeParent a_nodeParts a_errorKind a_errorPlace a_errorItem : Nat → Int32}
variable {g_known g_counted g_places g_best g_made g_faults g_place g_depth g_much : Int32} {b_ruleOf b_sizes b_items b_signs b_text b_ends b_far b_empty b_begins b_starts b_follow b_nodes b_errors b_openNode b_openAlt b_openItem b_came : Nat → Int32} {b_derivations b_row b_layer b_next b_sum : Nat → Int64}
theorem fx_mu {post : Int32 → SX → Prop} (K : post (-3) (nI (fd_n g), nI (fd_m g), f_studied, f_empties, f_bad, f_kept, f_busyCount, f_fartherCount, f_best, f_counted, f_depth, f_place, 0, 0, 1, a_what, a_sign, a_length, a_ruleOf, a_text, a_begins, a_firsts, a_been, a_ends, a_far, a_begun, a_todo, a_busy, a_farther, a_number, a_now, a_then, a_order, a_openAlternative, a_openItem, a_openCame, a_openNode, a_nodeRule, a_nodeAlternative, a_nodeFrom, a_nodeTo, a_nodeParent, a_nodeParts, a_errorKind, a_errorPlace, a_errorItem)) (n : Nat) : wX_parse_55 post (n + 1) (nI (fd_n g)) (nI (fd_m g)) f_studied f_empties f_bad f_kept f_busyCount f_fartherCount f_best f_counted f_depth f_place f_nodes f_errors 1 a_what a_sign a_length a_ruleOf a_text a_begins a_firsts a_been a_ends a_far a_begun a_todo a_busy a_farther a_number a_now a_then a_order a_openAlternative a_openItem a_openCame a_openNode a_nodeRule a_nodeAlternative a_nodeFrom a_nodeTo a_nodeParent a_nodeParts a_errorKind a_errorPlace a_errorItem :=
  br_c (fun _ => br_f (by decide) (br_f (by decide) K)) (fun _ => br_f (by decide) (br_f (by decide) (br_f (by decide) K)))
theorem fy_mu {post : Int32 → SY → Prop} (K : post (-3) (nI (fd_n g), nI (fd_m g), g_known, g_counted, g_places, g_best, 0, 0, g_place, g_depth, 1, b_ruleOf, b_sizes, b_items, b_signs, b_text, b_ends, b_far, b_empty, b_begins, b_starts, b_follow, b_derivations, b_row, b_layer, b_next, b_nodes, b_errors, b_openNode, b_openAlt, b_openItem, b_came, b_sum)) (n : Nat) : wY_parse_51 post (n + 1) (nI (fd_n g)) (nI (fd_m g)) g_known g_counted g_places g_best g_made g_faults g_place g_depth 1 b_ruleOf b_sizes b_items b_signs b_text b_ends b_far b_empty b_begins b_starts b_follow b_derivations b_row b_layer b_next b_nodes b_errors b_openNode b_openAlt b_openItem b_came b_sum :=
  br_c (fun _ => br_f (by decide) (br_f (by decide) K)) (fun _ => br_f (by decide) (br_f (by decide) (br_f (by decide) K)))
end
end
section
section
variable {g : fd_Gr} {Z : (Int32 → SY → Prop) → Prop} {nd er pl f : Nat} {OA OI ON : Nat → Nat} {OC : Nat → Bool} {oa oi oc on nr na nf nt np nq ek ep ei : Nat → Int32}
variable {g_known g_counted g_places g_best g_made g_faults g_place g_depth g_much : Int32} {b_ruleOf b_sizes b_items b_signs b_text b_ends b_far b_empty b_begins b_starts b_follow b_nodes b_errors b_openNode b_openAlt b_openItem b_came : Nat → Int32} {b_derivations b_row b_layer b_next b_sum : Nat → Int64}
theorem fp_Yc (GY : fd_G g b_items b_signs b_sizes b_ruleOf b_text) (hV : fp_V g nd er pl (f + 1) OA OI ON OC oa oi oc on nq) (hY : ∀ post' : Int32 → SY → Prop, (∀ (px bx : Int32) (em yb st yen yfa ya yi yc yn no e : Nat → Int32), fp_H g nd er (f + 1) OA OI ON OC nr na nf nt np nq ek ep ei em yb st yen yfa ya yi yc yn no e → ∀ n, fp_μ nd er pl (f + 1) OI < n → wY_parse_51 post' n (nI (fd_n g)) (nI (fd_m g)) 1 g_counted px bx (nI nd) (nI er) (nI pl) (nI (f + 1)) 0 b_ruleOf b_sizes b_items b_signs b_text yen yfa em yb st b_follow b_derivations b_row b_layer b_next no e yn ya yi yc b_sum) → Z post') (hL : OI f = fd_L g (OA f)) {post' : Int32 → SY → Prop}
    (KC : ∀ (px bx : Int32) (em yb st yen yfa ya yi yc yn no e : Nat → Int32) n, fp_H g nd er f OA OI ON OC nr na nf (upd nt (ON f) (nI pl)) np nq ek ep ei em yb st yen yfa ya yi yc yn no e → fp_μ nd er pl (f + 1) OI ≤ n → wY_parse_51 post' n (nI (fd_n g)) (nI (fd_m g)) 1 g_counted px bx (nI nd) (nI er) (nI pl) (nI f) 0 b_ruleOf b_sizes b_items b_signs b_text yen yfa em yb st b_follow b_derivations b_row b_layer b_next no e yn ya yi yc b_sum) : Z post' := by
  obtain ⟨v1, v2, v3, v4, v5, v6, v7, v8⟩ := hV
  have f4 := (v5.2 f (by omega)).2.2.2.1
  refine hY post' (fun px bx em yb st yen yfa ya yi yc yn no e hH n hn => ?_)
  obtain ⟨lo, yr, yN, yE⟩ := hH
  obtain ⟨n, rfl⟩ : ∃ k, n = k + 1 := ⟨n - 1, by omega⟩
  refine br_f (nI_nle (by omega) (by omega)) (br_t rfl (fy_step GY (fy_LO_EF lo) v3 f4 (v7 f (by omega)) (by have := (v6 f (by omega)).2; omega) yr (fun _ yi' yc' hR => KC _ _ _ _ _ _ _ _ _ _ _ _ _ n ⟨lo, hR, fp_N_to yN (v6 f (by omega)).2, yE⟩ (by omega)) (fun h => absurd h (by omega)) (fun h => absurd h (by omega))))
theorem fp_Ys (GY : fd_G g b_items b_signs b_sizes b_ruleOf b_text) (hV : fp_V g nd er pl (f + 1) OA OI ON OC oa oi oc on nq) (hY : ∀ post' : Int32 → SY → Prop, (∀ (px bx : Int32) (em yb st yen yfa ya yi yc yn no e : Nat → Int32), fp_H g nd er (f + 1) OA OI ON OC nr na nf nt np nq ek ep ei em yb st yen yfa ya yi yc yn no e → ∀ n, fp_μ nd er pl (f + 1) OI < n → wY_parse_51 post' n (nI (fd_n g)) (nI (fd_m g)) 1 g_counted px bx (nI nd) (nI er) (nI pl) (nI (f + 1)) 0 b_ruleOf b_sizes b_items b_signs b_text yen yfa em yb st b_follow b_derivations b_row b_layer b_next no e yn ya yi yc b_sum) → Z post') (hk : OI f < fd_L g (OA f)) (hen : ¬ fp_en g OA OI OC f (OI f) pl) {post' : Int32 → SY → Prop}
    (KS : ∀ (px bx : Int32) (em yb st yen yfa ya yi yc yn no e : Nat → Int32) n, fp_H g nd er (f + 1) OA (fp_u OI f (OI f + 1)) ON (fp_u OC f false) nr na nf nt np nq ek ep ei em yb st yen yfa ya yi yc yn no e → fp_μ nd er pl (f + 1) OI ≤ n → wY_parse_51 post' n (nI (fd_n g)) (nI (fd_m g)) 1 g_counted px bx (nI nd) (nI er) (nI pl) (nI (f + 1)) 0 b_ruleOf b_sizes b_items b_signs b_text yen yfa em yb st b_follow b_derivations b_row b_layer b_next no e yn ya yi yc b_sum) : Z post' := by
  obtain ⟨v1, v2, v3, v4, v5, v6, v7, v8⟩ := hV
  have f4 := (v5.2 f (by omega)).2.2.2.1
  refine hY post' (fun px bx em yb st yen yfa ya yi yc yn no e hH n hn => ?_)
  obtain ⟨lo, yr, yN, yE⟩ := hH
  obtain ⟨n, rfl⟩ : ∃ k, n = k + 1 := ⟨n - 1, by omega⟩
  refine br_f (nI_nle (by omega) (by omega)) (br_t rfl (fy_step GY (fy_LO_EF lo) v3 f4 (v7 f (by omega)) (by have := (v6 f (by omega)).2; omega) yr (fun h => absurd h (by omega)) (fun _ _ x bs => KS _ _ _ _ _ _ _ _ _ _ _ _ _ n ⟨lo, ?_, yN, yE⟩ (by omega)) (fun _ h => absurd h hen)))
  obtain ⟨y0, y1, y2, y3⟩ := yr
  obtain ⟨q1, q2, q3, c, q4, q5⟩ := y3 (by omega)
  rw [show f + 1 - 1 = f from by omega] at q1 q2 q3 q4 q5 y2
  refine ⟨y0, y1, ⟨by omega, fun i hi => ?_⟩, fun _ => ?_⟩
  · obtain ⟨r1, r2, j, r3, r4⟩ := y2.2 i (by omega)
    refine ⟨r1, r2, j, by rw [pk_un (by omega)]; exact r3, ?_⟩
    rw [fp_un (by omega), fp_un (by omega)]; exact r4
  · rw [show f + 1 - 1 = f from by omega]
    rw [fp_us, fp_us, pk_us, pk_us]
    exact ⟨q1, q2, rfl, false, rfl, fun _ _ => rfl⟩
theorem fp_Yp (GY : fd_G g b_items b_signs b_sizes b_ruleOf b_text) (hV : fp_V g nd er pl (f + 1) OA OI ON OC oa oi oc on nq) (hY : ∀ post' : Int32 → SY → Prop, (∀ (px bx : Int32) (em yb st yen yfa ya yi yc yn no e : Nat → Int32), fp_H g nd er (f + 1) OA OI ON OC nr na nf nt np nq ek ep ei em yb st yen yfa ya yi yc yn no e → ∀ n, fp_μ nd er pl (f + 1) OI < n → wY_parse_51 post' n (nI (fd_n g)) (nI (fd_m g)) 1 g_counted px bx (nI nd) (nI er) (nI pl) (nI (f + 1)) 0 b_ruleOf b_sizes b_items b_signs b_text yen yfa em yb st b_follow b_derivations b_row b_layer b_next no e yn ya yi yc b_sum) → Z post') (hk : OI f < fd_L g (OA f)) (hen : fp_en g OA OI OC f (OI f) pl) (hw : fd_W g (OA f) (OI f) < 8) {post' : Int32 → SY → Prop}
    (KA : pl < fd_m g → fd_T g pl = fd_W g (OA f) (OI f) → ∀ (px bx : Int32) (em yb st yen yfa ya yi yc yn no e : Nat → Int32) n, fp_H g nd er (f + 1) OA (fp_aI g OA OI f (OI f)) ON (fp_aC g OA OC f (OI f)) nr na nf nt np nq ek ep ei em yb st yen yfa ya yi yc yn no e → fp_μ nd er pl (f + 1) OI ≤ n → wY_parse_51 post' n (nI (fd_n g)) (nI (fd_m g)) 1 g_counted px bx (nI nd) (nI er) (nI (pl + 1)) (nI (f + 1)) 0 b_ruleOf b_sizes b_items b_signs b_text yen yfa em yb st b_follow b_derivations b_row b_layer b_next no e yn ya yi yc b_sum)
    (KB8 : ¬ (pl < fd_m g ∧ fd_T g pl = fd_W g (OA f) (OI f)) → pl + 1 < fd_m g → fd_T g (pl + 1) = fd_W g (OA f) (OI f) → er = 8 → ∀ (px bx : Int32) (em yb st yen yfa ya yi yc yn no e : Nat → Int32) n, fy_LO g em yb st yen yfa → fp_μ nd er pl (f + 1) OI ≤ n → wY_parse_51 post' n (nI (fd_n g)) (nI (fd_m g)) 1 g_counted px bx (nI nd) (nI 8) (nI (pl + 2)) (nI (f + 1)) 1 b_ruleOf b_sizes b_items b_signs b_text yen yfa em yb st b_follow b_derivations b_row b_layer b_next no e yn ya yi yc b_sum)
    (KB : ¬ (pl < fd_m g ∧ fd_T g pl = fd_W g (OA f) (OI f)) → pl + 1 < fd_m g → fd_T g (pl + 1) = fd_W g (OA f) (OI f) → er < 8 → ∀ (px bx : Int32) (em yb st yen yfa ya yi yc yn no e : Nat → Int32) n, fp_H g nd (er + 1) (f + 1) OA (fp_aI g OA OI f (OI f)) ON (fp_aC g OA OC f (OI f)) nr na nf nt np nq (upd ek er 0) (upd ep er (nI pl)) (upd ei er (nI (fd_W g (OA f) (OI f)))) em yb st yen yfa ya yi yc yn no e → fp_μ nd er pl (f + 1) OI ≤ n → wY_parse_51 post' n (nI (fd_n g)) (nI (fd_m g)) 1 g_counted px bx (nI nd) (nI (er + 1)) (nI (pl + 2)) (nI (f + 1)) 0 b_ruleOf b_sizes b_items b_signs b_text yen yfa em yb st b_follow b_derivations b_row b_layer b_next no e yn ya yi yc b_sum)
    (KC8 : ¬ (pl < fd_m g ∧ fd_T g pl = fd_W g (OA f) (OI f)) → ¬ (pl + 1 < fd_m g ∧ fd_T g (pl + 1) = fd_W g (OA f) (OI f)) → er = 8 → ∀ (px bx : Int32) (em yb st yen yfa ya yi yc yn no e : Nat → Int32) n, fy_LO g em yb st yen yfa → fp_μ nd er pl (f + 1) OI ≤ n → wY_parse_51 post' n (nI (fd_n g)) (nI (fd_m g)) 1 g_counted px bx (nI nd) (nI 8) (nI pl) (nI (f + 1)) 1 b_ruleOf b_sizes b_items b_signs b_text yen yfa em yb st b_follow b_derivations b_row b_layer b_next no e yn ya yi yc b_sum)
    (KC : ¬ (pl < fd_m g ∧ fd_T g pl = fd_W g (OA f) (OI f)) → ¬ (pl + 1 < fd_m g ∧ fd_T g (pl + 1) = fd_W g (OA f) (OI f)) → er < 8 → ∀ (px bx : Int32) (em yb st yen yfa ya yi yc yn no e : Nat → Int32) n, fp_H g nd (er + 1) (f + 1) OA (fp_aI g OA OI f (OI f)) ON (fp_aC g OA OC f (OI f)) nr na nf nt np nq (upd ek er 1) (upd ep er (nI pl)) (upd ei er (nI (fd_W g (OA f) (OI f)))) em yb st yen yfa ya yi yc yn no e → fp_μ nd er pl (f + 1) OI ≤ n → wY_parse_51 post' n (nI (fd_n g)) (nI (fd_m g)) 1 g_counted px bx (nI nd) (nI (er + 1)) (nI pl) (nI (f + 1)) 0 b_ruleOf b_sizes b_items b_signs b_text yen yfa em yb st b_follow b_derivations b_row b_layer b_next no e yn ya yi yc b_sum) : Z post' := by
  obtain ⟨v1, v2, v3, v4, v5, v6, v7, v8⟩ := hV
  have f4 := (v5.2 f (by omega)).2.2.2.1
  refine hY post' (fun px bx em yb st yen yfa ya yi yc yn no e hH n hn => ?_)
  obtain ⟨lo, yr, yN, yE⟩ := hH
  obtain ⟨n, rfl⟩ : ∃ k, n = k + 1 := ⟨n - 1, by omega⟩
  refine br_f (nI_nle (by omega) (by omega)) (br_t rfl (fy_step GY (fy_LO_EF lo) v3 f4 (v7 f (by omega)) (by have := (v6 f (by omega)).2; omega) yr (fun h => absurd h (by omega)) (fun _ h => absurd hen h) (fun _ _ P x bs => ⟨fun _ => ?_, fun h => absurd h (by omega)⟩)))
  exact fy_expect GY P hw v3 v2
    (fun h1 h2 yi' yc' hR => KA h1 h2 _ _ _ _ _ _ _ _ _ _ _ _ _ n ⟨lo, hR, yN, yE⟩ (by omega))
    (fun h1 h2 h3 h4 yi' yc' => KB8 h1 h2 h3 h4 _ _ _ _ _ _ _ _ _ _ _ _ _ n lo (by omega))
    (fun h1 h2 h3 h4 e' i1 i2 i3 i4 yi' yc' hR => KB h1 h2 h3 h4 _ _ _ _ _ _ _ _ _ _ _ _ _ n ⟨lo, hR, yN, fp_E_new yE h4 i1 i2 i3 i4⟩ (by omega))
    (fun h1 h2 h4 yi' yc' => KC8 h1 h2 h4 _ _ _ _ _ _ _ _ _ _ _ _ _ n lo (by omega))
    (fun h1 h2 h4 e' i1 i2 i3 i4 yi' yc' hR => KC h1 h2 h4 _ _ _ _ _ _ _ _ _ _ _ _ _ n ⟨lo, hR, yN, fp_E_new yE h4 i1 i2 i3 i4⟩ (by omega))
/-- a new open rule at rest -/
theorem fp_YR_new {ya yi yc yn : Nat → Int32} {d c : Nat} (P : fp_YP g OA OI ON OC d ya yi yn) (hd : d < 60) (hc : c < fd_n g) : fp_YR g (fp_u OA d c) (fp_u OI d 0) (fp_u ON d nd) (fp_u OC d false) (d + 1) (upd ya d (nI c)) (upd yi d 0) (upd yc d 0) (upd yn d (nI nd)) := by
  obtain ⟨p1, p2, p3⟩ := P
  refine ⟨by omega, fun i hi => ?_, ⟨by omega, fun i hi => ?_⟩, fun _ => ?_⟩
  · by_cases e : i = d
    · rw [e, pk_us, fp_us]
    · rw [pk_un e, fp_un e]; exact p1 i (by omega)
  · obtain ⟨r1, r2, j, r3, r4⟩ := p3 i (by omega)
    rw [fp_un (by omega), fp_un (by omega), fp_un (by omega), pk_un (by omega), pk_un (by omega)]
    exact ⟨r1, r2, j, r3, r4⟩
  · rw [show d + 1 - 1 = d from by omega, fp_us, fp_us, fp_us, pk_us, pk_us, pk_us]
    exact ⟨hc, rfl, rfl, false, rfl, fun _ _ => rfl⟩
theorem fp_Yo (GY : fd_G g b_items b_signs b_sizes b_ruleOf b_text) (hV : fp_V g nd er pl (f + 1) OA OI ON OC oa oi oc on nq) (hY : ∀ post' : Int32 → SY → Prop, (∀ (px bx : Int32) (em yb st yen yfa ya yi yc yn no e : Nat → Int32), fp_H g nd er (f + 1) OA OI ON OC nr na nf nt np nq ek ep ei em yb st yen yfa ya yi yc yn no e → ∀ n, fp_μ nd er pl (f + 1) OI < n → wY_parse_51 post' n (nI (fd_n g)) (nI (fd_m g)) 1 g_counted px bx (nI nd) (nI er) (nI pl) (nI (f + 1)) 0 b_ruleOf b_sizes b_items b_signs b_text yen yfa em yb st b_follow b_derivations b_row b_layer b_next no e yn ya yi yc b_sum) → Z post') (hk : OI f < fd_L g (OA f)) (hen : fp_en g OA OI OC f (OI f) pl) (hw : 7 < fd_W g (OA f) (OI f)) {post' : Int32 → SY → Prop} {na' : Nat → Int32} (hs : nd < 60 → ∀ i, i ≠ nd → na' i = na i)
    (K60 : nd = 60 → ∀ (px bx : Int32) (em yb st yen yfa ya yi yc yn no e : Nat → Int32) n, fy_LO g em yb st yen yfa → fp_μ nd er pl (f + 1) OI ≤ n → wY_parse_51 post' n (nI (fd_n g)) (nI (fd_m g)) 1 g_counted px bx (nI 60) (nI er) (nI pl) (nI (f + 1)) 1 b_ruleOf b_sizes b_items b_signs b_text yen yfa em yb st b_follow b_derivations b_row b_layer b_next no e yn ya yi yc b_sum)
    (K1 : nd < 60 → ∀ c, fp_am g (fd_W g (OA f) (OI f) - 8) (fp_len g OA (fp_aI g OA OI f (OI f)) (fp_aC g OA OC f (OI f)) (f + 1) pl) (fd_c g (fd_W g (OA f) (OI f) - 8) (fd_n g)) c → ∀ (px bx : Int32) (em yb st yen yfa ya yi yc yn no e : Nat → Int32) n, fp_H g (nd + 1) er (f + 2) (fp_u OA (f + 1) c) (fp_u (fp_aI g OA OI f (OI f)) (f + 1) 0) (fp_u ON (f + 1) nd) (fp_u (fp_aC g OA OC f (OI f)) (f + 1) false) (upd nr nd (nI (fd_W g (OA f) (OI f) - 8))) na' (upd nf nd (nI pl)) (upd nt nd (nI pl)) (upd np nd (fp_up ON (f + 1))) (fp_nq ON nd (f + 1) nq) ek ep ei em yb st yen yfa ya yi yc yn no e → fp_μ nd er pl (f + 1) OI ≤ n → wY_parse_51 post' n (nI (fd_n g)) (nI (fd_m g)) 1 g_counted px bx (nI (nd + 1)) (nI er) (nI pl) (nI (f + 2)) 0 b_ruleOf b_sizes b_items b_signs b_text yen yfa em yb st b_follow b_derivations b_row b_layer b_next no e yn ya yi yc b_sum)
    (hna : nd < 60 → (fd_c g (fd_W g (OA f) (OI f) - 8) (fd_n g) = 0 ∧ na' nd = -1) ∨ ∃ c, fp_am g (fd_W g (OA f) (OI f) - 8) (fp_len g OA (fp_aI g OA OI f (OI f)) (fp_aC g OA OC f (OI f)) (f + 1) pl) (fd_c g (fd_W g (OA f) (OI f) - 8) (fd_n g)) c ∧ na' nd = nI (fd_c g (fd_W g (OA f) (OI f) - 8) c))
    (K8 : nd < 60 → fd_c g (fd_W g (OA f) (OI f) - 8) (fd_n g) = 0 → er = 8 → ∀ (px bx : Int32) (em yb st yen yfa ya yi yc yn no e : Nat → Int32) n, fy_LO g em yb st yen yfa → fp_μ nd er pl (f + 1) OI ≤ n → wY_parse_51 post' n (nI (fd_n g)) (nI (fd_m g)) 1 g_counted px bx (nI (nd + 1)) (nI 8) (nI pl) (nI (f + 1)) 1 b_ruleOf b_sizes b_items b_signs b_text yen yfa em yb st b_follow b_derivations b_row b_layer b_next no e yn ya yi yc b_sum)
    (K0 : nd < 60 → fd_c g (fd_W g (OA f) (OI f) - 8) (fd_n g) = 0 → er < 8 → ∀ (px bx : Int32) (em yb st yen yfa ya yi yc yn no e : Nat → Int32) n, fp_H g (nd + 1) (er + 1) (f + 1) OA (fp_aI g OA OI f (OI f)) ON (fp_aC g OA OC f (OI f)) (upd nr nd (nI (fd_W g (OA f) (OI f) - 8))) na' (upd nf nd (nI pl)) (upd nt nd (nI pl)) (upd np nd (fp_up ON (f + 1))) (fp_nq ON nd (f + 1) nq) (upd ek er 2) (upd ep er (nI pl)) (upd ei er (nI (fd_W g (OA f) (OI f) - 8 + 8))) em yb st yen yfa ya yi yc yn no e → fp_μ nd er pl (f + 1) OI ≤ n → wY_parse_51 post' n (nI (fd_n g)) (nI (fd_m g)) 1 g_counted px bx (nI (nd + 1)) (nI (er + 1)) (nI pl) (nI (f + 1)) 0 b_ruleOf b_sizes b_items b_signs b_text yen yfa em yb st b_follow b_derivations b_row b_layer b_next no e yn ya yi yc b_sum) : Z post' := by
  obtain ⟨v1, v2, v3, v4, v5, v6, v7, v8⟩ := hV
  have f4 := (v5.2 f (by omega)).2.2.2.1
  have w14 := fd_W14 GY (v5.2 f (by omega)).2.1 hk
  refine hY post' (fun px bx em yb st yen yfa ya yi yc yn no e hH n hn => ?_)
  obtain ⟨lo, yr, yN, yE⟩ := hH
  obtain ⟨n, rfl⟩ : ∃ k, n = k + 1 := ⟨n - 1, by omega⟩
  refine br_f (nI_nle (by omega) (by omega)) (br_t rfl (fy_step GY (fy_LO_EF lo) v3 f4 (v7 f (by omega)) (by have := (v6 f (by omega)).2; omega) yr (fun h => absurd h (by omega)) (fun _ h => absurd hen h) (fun _ _ P x bs => ⟨fun h => absurd h (by omega), fun _ => ?_⟩)))
  have hj : f + 1 ≠ 0 → ON (f + 1 - 1) < nd := fun _ => (v6 f (by omega)).2
  refine fy_open GY (fy_LO_EF lo) (by omega) v3 v1 v4 v2 P (fun i hi => (v6 i hi).2)
    (fun h => K60 h _ _ _ _ _ _ _ _ _ _ _ _ _ n lo (by omega))
    (fun h60 x bs c hc => ?_)
    (fun h60 h0 h8 yi' yc' => K8 h60 h0 h8 _ _ _ _ _ _ _ _ _ _ _ _ _ n lo (by omega))
    (fun h60 h0 h8 e' i1 i2 i3 i4 yi' yc' hR => ?_)
  · rcases hna h60 with ⟨z, _⟩ | ⟨c', z1, z3⟩
    · have := hc.2.2.1; omega
    · have ec := fp_am_u hc z1
      subst ec
      exact K1 h60 c hc _ _ _ _ _ _ _ _ _ _ _ _ _ n ⟨lo, fp_YR_new P (by omega) hc.1, fp_N_new yN h60 hj (hs h60) z3, yE⟩ (by omega)
  · rcases hna h60 with ⟨z, z3⟩ | ⟨c', z1, z3⟩
    · exact K0 h60 h0 h8 _ _ _ _ _ _ _ _ _ _ _ _ _ n ⟨lo, hR, fp_N_new yN h60 hj (hs h60) z3, fp_E_new yE h8 i1 i2 i3 i4⟩ (by omega)
    · have := z1.2.2.1; omega
end
end
section
section
variable {g : fd_Gr} {Z : (Int32 → SY → Prop) → Prop}
variable {f_studied f_empties f_bad f_kept f_busyCount f_fartherCount f_best f_counted f_depth f_place f_nodes f_errors f_much : Int32} {a_what a_sign a_length a_ruleOf a_text a_begins a_firsts a_been a_ends a_far a_begun a_todo a_busy a_farther a_number a_now a_then a_order a_openAlternative a_openItem a_openCame a_openNode a_nodeRule a_nodeAlternative a_nodeFrom a_nodeTo a_nodeParent a_nodeParts a_errorKind a_errorPlace a_errorItem : Nat → Int32}
variable {g_known g_counted g_places g_best g_made g_faults g_place g_depth g_much : Int32} {b_ruleOf b_sizes b_items b_signs b_text b_ends b_far b_empty b_begins b_starts b_follow b_nodes b_errors b_openNode b_openAlt b_openItem b_came : Nat → Int32} {b_derivations b_row b_layer b_next b_sum : Nat → Int64}
theorem fp_loop {kk : Nat} (GX : fd_G g a_what a_sign a_length a_ruleOf a_text) (GY : fd_G g b_items b_signs b_sizes b_ruleOf b_text) (DR : fp_D a_what a_sign a_length b_items b_signs b_sizes) (S : fx_S g f_studied f_empties f_bad a_begins a_firsts) (CX : fx_C g f_counted a_number) (CY : fy_C g g_counted b_derivations) :
    ∀ n nd er pl dp (OA OI ON : Nat → Nat) (OC : Nat → Bool) (ke bc fc bs : Int32) (be en fa bg td bu ft oa oi oc on nr na nf nt np nq ek ep ei : Nat → Int32), fx_A g ke bc fc be en fa bg td bu ft → fp_V g nd er pl dp OA OI ON OC oa oi oc on nq → fp_μ nd er pl dp OI < n →
      (∀ post' : Int32 → SY → Prop, (∀ (px bx : Int32) (em yb st yen yfa ya yi yc yn no e : Nat → Int32), fp_H g nd er dp OA OI ON OC nr na nf nt np nq ek ep ei em yb st yen yfa ya yi yc yn no e → ∀ n, fp_μ nd er pl dp OI < n → wY_parse_51 post' n (nI (fd_n g)) (nI (fd_m g)) 1 g_counted px bx (nI nd) (nI er) (nI pl) (nI dp) 0 b_ruleOf b_sizes b_items b_signs b_text yen yfa em yb st b_follow b_derivations b_row b_layer b_next no e yn ya yi yc b_sum) → Z post') →
      wX_parse_55 (fun r u' => Z (fun r' v' => r' = r ∧ i_Rel kk u' v')) n (nI (fd_n g)) (nI (fd_m g)) f_studied f_empties f_bad ke bc fc bs f_counted (nI dp) (nI pl) (nI nd) (nI er) 0 a_what a_sign a_length a_ruleOf a_text a_begins a_firsts be en fa bg td bu ft a_number a_now a_then a_order oa oi oc on nr na nf nt np nq ek ep ei := by
  have m24 := fd_m24 GX
  have relN : ∀ (nd er : Nat) (ke bc fc bs f1 f2 f3 px bx g1 g2 g3 : Int32) (be en fa bg td bu ft oa oi oc on nr na nf nt np nq ek ep ei em yb st yen yfa ya yi yc yn no e : Nat → Int32), fx_A g ke bc fc be en fa bg td bu ft → fy_LO g em yb st yen yfa → fp_N nd nr na nf nt np nq no → fp_E er ek ep ei e →
      i_Rel kk (nI (fd_n g), nI (fd_m g), f_studied, f_empties, f_bad, ke, bc, fc, bs, f_counted, f1, f2, nI nd, nI er, f3, a_what, a_sign, a_length, a_ruleOf, a_text, a_begins, a_firsts, be, en, fa, bg, td, bu, ft, a_number, a_now, a_then, a_order, oa, oi, oc, on, nr, na, nf, nt, np, nq, ek, ep, ei) (nI (fd_n g), nI (fd_m g), 1, g_counted, px, bx, nI nd, nI er, g1, g2, g3, b_ruleOf, b_sizes, b_items, b_signs, b_text, yen, yfa, em, yb, st, b_follow, b_derivations, b_row, b_layer, b_next, no, e, yn, ya, yi, yc, b_sum) :=
    fun nd er ke bc fc bs f1 f2 f3 px bx g1 g2 g3 be en fa bg td bu ft oa oi oc on nr na nf nt np nq ek ep ei em yb st yen yfa ya yi yc yn no e A lo hN hE => fp_in ⟨GX, GY, DR, S, Or.inr ⟨rfl, lo⟩, A, CX, CY, hN, hE⟩
  have relM : ∀ (ke bc fc bs f1 f2 f3 px bx g1 g2 g3 : Int32) (be en fa bg td bu ft oa oi oc on nr na nf nt np nq ek ep ei em yb st yen yfa ya yi yc yn no e : Nat → Int32), fx_A g ke bc fc be en fa bg td bu ft → fy_LO g em yb st yen yfa →
      i_Rel kk (nI (fd_n g), nI (fd_m g), f_studied, f_empties, f_bad, ke, bc, fc, bs, f_counted, f1, f2, 0, 0, f3, a_what, a_sign, a_length, a_ruleOf, a_text, a_begins, a_firsts, be, en, fa, bg, td, bu, ft, a_number, a_now, a_then, a_order, oa, oi, oc, on, nr, na, nf, nt, np, nq, ek, ep, ei) (nI (fd_n g), nI (fd_m g), 1, g_counted, px, bx, 0, 0, g1, g2, g3, b_ruleOf, b_sizes, b_items, b_signs, b_text, yen, yfa, em, yb, st, b_follow, b_derivations, b_row, b_layer, b_next, no, e, yn, ya, yi, yc, b_sum) :=
    fun ke bc fc bs f1 f2 f3 px bx g1 g2 g3 be en fa bg td bu ft oa oi oc on nr na nf nt np nq ek ep ei em yb st yen yfa ya yi yc yn no e A lo => relN 0 0 ke bc fc bs f1 f2 f3 px bx g1 g2 g3 be en fa bg td bu ft oa oi oc on nr na nf nt np nq ek ep ei em yb st yen yfa ya yi yc yn no e A lo ⟨by omega, fun i hi => by omega⟩ ⟨by omega, fun i hi => by omega⟩
  have ymu : ∀ (z : Int32) (ke bc fc bs f1 f2 px bx ma fl g1 g2 : Int32) (be en fa bg td bu ft oa oi oc on nr na nf nt np nq ek ep ei em yb st yen yfa ya yi yc yn no e : Nat → Int32) (n : Nat), fx_A g ke bc fc be en fa bg td bu ft → fy_LO g em yb st yen yfa → 1 ≤ n → z = -3 →
      wY_parse_51 (fun r' v' => r' = z ∧ i_Rel kk (nI (fd_n g), nI (fd_m g), f_studied, f_empties, f_bad, ke, bc, fc, bs, f_counted, f1, f2, 0, 0, 1, a_what, a_sign, a_length, a_ruleOf, a_text, a_begins, a_firsts, be, en, fa, bg, td, bu, ft, a_number, a_now, a_then, a_order, oa, oi, oc, on, nr, na, nf, nt, np, nq, ek, ep, ei) v') n (nI (fd_n g)) (nI (fd_m g)) 1 g_counted px bx ma fl g1 g2 1 b_ruleOf b_sizes b_items b_signs b_text yen yfa em yb st b_follow b_derivations b_row b_layer b_next no e yn ya yi yc b_sum := by
    intro z ke bc fc bs f1 f2 px bx ma fl g1 g2 be en fa bg td bu ft oa oi oc on nr na nf nt np nq ek ep ei em yb st yen yfa ya yi yc yn no e n A lo hn hz
    subst hz
    obtain ⟨n, rfl⟩ : ∃ k, n = k + 1 := ⟨n - 1, by omega⟩
    exact fy_mu ⟨rfl, relM _ _ _ _ _ _ _ _ _ _ _ _ _ _ _ _ _ _ _ _ _ _ _ _ _ _ _ _ _ _ _ _ _ _ _ _ _ _ _ _ _ _ _ A lo⟩ n
  intro n
  induction n with
  | zero => intro nd er pl dp OA OI ON OC ke bc fc bs be en fa bg td bu ft oa oi oc on nr na nf nt np nq ek ep ei A hV hn hY; omega
  | succ n ih =>
    intro nd er pl dp OA OI ON OC ke bc fc bs be en fa bg td bu ft oa oi oc on nr na nf nt np nq ek ep ei A hV hn hY
    have hV0 := hV
    obtain ⟨v1, v2, v3, v4, v5, v6, v7, v8⟩ := hV
    have μ1 : 1 ≤ fp_μ nd er pl dp OI := by unfold fp_μ; omega
    cases dp with
    | zero =>
      refine br_t (by decide) (br_t rfl (pk_le (fd_m g) pl (fun hp => br_t rfl ?_) (fun hp => ?_)))
      · refine hY _ (fun px bx em yb st yen yfa ya yi yc yn no e hH n2 hn2 => ?_)
        obtain ⟨n2, rfl⟩ : ∃ k, n2 = k + 1 := ⟨n2 - 1, by omega⟩
        exact br_t (by decide) (br_t rfl (pk_le (fd_m g) pl (fun _ => br_t rfl ⟨rfl, relN _ _ _ _ _ _ _ _ _ _ _ _ _ _ _ _ _ _ _ _ _ _ _ _ _ _ _ _ _ _ _ _ _ _ _ _ _ _ _ _ _ _ _ _ _ A hH.1 hH.2.2.1 hH.2.2.2⟩) (fun c => by omega)))
      · refine fx_wrong v2 (by omega) (fb_vb2 (n := 3) (by omega)) fb_vm2 (fun h8 => br_f (by decide) ?_) (fun h8 => br_t rfl ?_)
        · refine hY _ (fun px bx em yb st yen yfa ya yi yc yn no e hH n2 hn2 => ?_)
          obtain ⟨n2, rfl⟩ : ∃ k, n2 = k + 1 := ⟨n2 - 1, by omega⟩
          refine br_t (by decide) (br_t rfl (pk_le (fd_m g) pl (fun c => by omega) (fun _ => fy_fault v2 (fun _ => br_f (by decide) ⟨rfl, relM _ _ _ _ _ _ _ _ _ _ _ _ _ _ _ _ _ _ _ _ _ _ _ _ _ _ _ _ _ _ _ _ _ _ _ _ _ _ _ _ _ _ _ A hH.1⟩) (fun c => by omega))))
        · refine hY _ (fun px bx em yb st yen yfa ya yi yc yn no e hH n2 hn2 => ?_)
          obtain ⟨n2, rfl⟩ : ∃ k, n2 = k + 1 := ⟨n2 - 1, by omega⟩
          refine br_t (by decide) (br_t rfl (pk_le (fd_m g) pl (fun c => by omega) (fun _ => fy_fault v2 (fun c => by omega) (fun _ e' i1 i2 i3 i4 => br_t rfl ⟨rfl, relN _ _ _ _ _ _ _ _ _ _ _ _ _ _ _ _ _ _ _ _ _ _ _ _ _ _ _ _ _ _ _ _ _ _ _ _ _ _ _ _ _ _ _ _ _ A hH.1 hH.2.2.1 (fp_E_new hH.2.2.2 h8 i1 i2 i3 i4)⟩))))
    | succ f =>
      have hN6 := (v6 f (by omega)).2
      have n1 : 1 ≤ n := by omega
      obtain ⟨n', rfl⟩ : ∃ k, n = k + 1 := ⟨n - 1, by omega⟩
      refine br_f (nI_nle (by omega) (by omega)) (br_t rfl ?_)
      refine fx_step GX A (by omega) v3 v5 (v7 f (by omega)) (v6 f (by omega)).1 (by omega) (fun hL => ?_) (fun hk hen bs2 ke2 bc2 fc2 be2 en2 fa2 bg2 td2 bu2 ft2 A2 => ?_) (fun hk hen bs2 ke2 bc2 fc2 be2 en2 fa2 bg2 td2 bu2 ft2 oi2 oc2 A2 hF2 => ⟨fun hw => ?_, fun hw => ?_⟩)
      · -- close
        have dec : fp_μ nd er pl f OI < fp_μ nd er pl (f + 1) OI := by
          have := fd_L5 GX (v5.2 f (by omega)).2.1
          unfold fp_μ; rw [fc_sum_s]; omega
        refine ih nd er pl f OA OI ON OC _ _ _ _ _ _ _ _ _ _ _ _ _ _ _ _ _ _ _ _ _ _ _ _ A ⟨v1, v2, v3, by omega, ⟨by omega, fun i hi => v5.2 i (by omega)⟩, fun i hi => v6 i (by omega), fun i hi => v7 i (by omega), v8⟩ (by omega) (fun post' H' => ?_)
        exact fp_Yc GY hV0 hY hL (fun px bx em yb st yen yfa ya yi yc yn no e n2 hH hn2 => H' px bx em yb st yen yfa ya yi yc yn no e hH n2 (by omega))
      · -- skip
        have dec : fp_μ nd er pl (f + 1) (fp_u OI f (OI f + 1)) < fp_μ nd er pl (f + 1) OI := by
          have := fd_L5 GX (v5.2 f (by omega)).2.1
          unfold fp_μ; rw [fp_sum_f, fc_sum_s]; omega
        refine ih nd er pl (f + 1) OA (fp_u OI f (OI f + 1)) ON (fp_u OC f false) _ _ _ _ _ _ _ _ _ _ _ _ _ _ _ _ _ _ _ _ _ _ _ _ A2 ⟨v1, v2, v3, v4, ⟨v5.1, fun i hi => ?_⟩, v6, fun i hi hc => ?_, v8⟩ (by omega) (fun post' H' => ?_)
        · obtain ⟨g1, g2, g3, g4, g5⟩ := v5.2 i hi
          by_cases c : i = f
          · subst c
            rw [pk_us, pk_us, fp_us, fp_us]
            exact ⟨g1, g2, rfl, by omega, rfl⟩
          · rw [pk_un c, pk_un c, fp_un c, fp_un c]
            exact ⟨g1, g2, g3, g4, g5⟩
        · by_cases c : i = f
          · subst c; rw [fp_us] at hc; exact absurd hc (by decide)
          · rw [fp_un c] at hc; rw [fp_un c]; exact v7 i hi hc
        · exact fp_Ys GY hV0 hY hk hen (fun px bx em yb st yen yfa ya yi yc yn no e n2 hH hn2 => H' px bx em yb st yen yfa ya yi yc yn no e hH n2 (by omega))
      · -- a token
        have sle := fp_aI_ge (g := g) (OA := OA) (OI := OI) (f := f)
        have nv7 := fp_aC_ok hk v7
        refine fx_pass GX hw v3 v2 (fun h1 h2 => ?_) (fun h1 h2 h3 h4 => ?_) (fun h1 h2 h3 h4 => ?_) (fun h1 h2 h4 => ?_) (fun h1 h2 h4 => ?_)
        · have dec : fp_μ nd er (pl + 1) (f + 1) (fp_aI g OA OI f (OI f)) < fp_μ nd er pl (f + 1) OI := by unfold fp_μ; omega
          refine ih nd er (pl + 1) (f + 1) OA (fp_aI g OA OI f (OI f)) ON (fp_aC g OA OC f (OI f)) _ _ _ _ _ _ _ _ _ _ _ _ _ _ _ _ _ _ _ _ _ _ _ _ A2 ⟨v1, v2, by omega, v4, hF2, v6, nv7, v8⟩ (by omega) (fun post' H' => ?_)
          exact fp_Yp GY hV0 hY hk hen hw (fun _ _ px bx em yb st yen yfa ya yi yc yn no e n2 hH hn2 => H' px bx em yb st yen yfa ya yi yc yn no e hH n2 (by omega)) (fun c => absurd ⟨h1, h2⟩ c) (fun c => absurd ⟨h1, h2⟩ c) (fun c => absurd ⟨h1, h2⟩ c) (fun c => absurd ⟨h1, h2⟩ c)
        · refine fx_mu ?_ n'
          exact fp_Yp GY hV0 hY hk hen hw (fun c d => absurd ⟨c, d⟩ h1) (fun _ _ _ _ px bx em yb st yen yfa ya yi yc yn no e n2 lo hn2 => ymu _ _ _ _ _ _ _ _ _ _ _ _ _ _ _ _ _ _ _ _ _ _ _ _ _ _ _ _ _ _ _ _ _ _ _ _ _ _ _ _ _ _ _ _ _ A2 lo (by omega) rfl) (fun _ _ _ c => by omega) (fun _ c => absurd ⟨h2, h3⟩ c) (fun _ c => absurd ⟨h2, h3⟩ c)
        · have dec : fp_μ nd (er + 1) (pl + 2) (f + 1) (fp_aI g OA OI f (OI f)) < fp_μ nd er pl (f + 1) OI := by unfold fp_μ; omega
          refine ih nd (er + 1) (pl + 2) (f + 1) OA (fp_aI g OA OI f (OI f)) ON (fp_aC g OA OC f (OI f)) _ _ _ _ _ _ _ _ _ _ _ _ _ _ _ _ _ _ _ _ _ _ _ _ A2 ⟨v1, by omega, by omega, v4, hF2, v6, nv7, v8⟩ (by omega) (fun post' H' => ?_)
          exact fp_Yp GY hV0 hY hk hen hw (fun c d => absurd ⟨c, d⟩ h1) (fun _ _ _ c => by omega) (fun _ _ _ _ px bx em yb st yen yfa ya yi yc yn no e n2 hH hn2 => H' px bx em yb st yen yfa ya yi yc yn no e hH n2 (by omega)) (fun _ c => absurd ⟨h2, h3⟩ c) (fun _ c => absurd ⟨h2, h3⟩ c)
        · refine fx_mu ?_ n'
          exact fp_Yp GY hV0 hY hk hen hw (fun c d => absurd ⟨c, d⟩ h1) (fun _ c d => absurd ⟨c, d⟩ h2) (fun _ c d => absurd ⟨c, d⟩ h2) (fun _ _ _ px bx em yb st yen yfa ya yi yc yn no e n2 lo hn2 => ymu _ _ _ _ _ _ _ _ _ _ _ _ _ _ _ _ _ _ _ _ _ _ _ _ _ _ _ _ _ _ _ _ _ _ _ _ _ _ _ _ _ _ _ _ _ A2 lo (by omega) rfl) (fun _ _ c => by omega)
        · have dec : fp_μ nd (er + 1) pl (f + 1) (fp_aI g OA OI f (OI f)) < fp_μ nd er pl (f + 1) OI := by unfold fp_μ; omega
          refine ih nd (er + 1) pl (f + 1) OA (fp_aI g OA OI f (OI f)) ON (fp_aC g OA OC f (OI f)) _ _ _ _ _ _ _ _ _ _ _ _ _ _ _ _ _ _ _ _ _ _ _ _ A2 ⟨v1, by omega, v3, v4, hF2, v6, nv7, v8⟩ (by omega) (fun post' H' => ?_)
          exact fp_Yp GY hV0 hY hk hen hw (fun c d => absurd ⟨c, d⟩ h1) (fun _ c d => absurd ⟨c, d⟩ h2) (fun _ c d => absurd ⟨c, d⟩ h2) (fun _ _ c => by omega) (fun _ _ _ px bx em yb st yen yfa ya yi yc yn no e n2 hH hn2 => H' px bx em yb st yen yfa ya yi yc yn no e hH n2 (by omega))
      · -- a rule
        have sle := fp_aI_ge (g := g) (OA := OA) (OI := OI) (f := f)
        have nv7 := fp_aC_ok hk v7
        have w14 := fd_W14 GX (v5.2 f (by omega)).2.1 hk
        have hj : f + 1 ≠ 0 → ON (f + 1 - 1) < nd := fun _ => hN6
        refine fx_open (ON := ON) GX A2 (by omega) v3 v1 v4 v2 hF2 v6 v8 (fun h60 => ?_) (fun h60 bs3 c ke3 bc3 fc3 be3 en3 fa3 bg3 td3 bu3 ft3 na' A3 s1 am s2 => ?_) (fun h60 h0 h8 bs3 ke3 bc3 fc3 be3 en3 fa3 bg3 td3 bu3 ft3 na' A3 => ?_) (fun h60 h0 h8 bs3 ke3 bc3 fc3 be3 en3 fa3 bg3 td3 bu3 ft3 na' A3 s1 s2 => ?_)
        · refine fx_mu ?_ n'
          exact fp_Yo GY hV0 hY hk hen hw (na' := na) (fun c => by omega) (fun _ px bx em yb st yen yfa ya yi yc yn no e n2 lo hn2 => ymu _ _ _ _ _ _ _ _ _ _ _ _ _ _ _ _ _ _ _ _ _ _ _ _ _ _ _ _ _ _ _ _ _ _ _ _ _ _ _ _ _ _ _ _ _ A2 lo (by omega) rfl) (fun c => by omega) (fun c => by omega) (fun c => by omega) (fun c => by omega)
        · have dec : fp_μ (nd + 1) er pl (f + 2) (fp_u (fp_aI g OA OI f (OI f)) (f + 1) 0) < fp_μ nd er pl (f + 1) OI := by
            unfold fp_μ; rw [fp_sum_f]; omega
          refine ih (nd + 1) er pl (f + 2) (fp_u OA (f + 1) c) (fp_u (fp_aI g OA OI f (OI f)) (f + 1) 0) (fp_u ON (f + 1) nd) (fp_u (fp_aC g OA OC f (OI f)) (f + 1) false) _ _ _ _ _ _ _ _ _ _ _ _ _ _ _ _ _ _ _ _ _ _ _ _ A3 ⟨by omega, v2, v3, by omega, ⟨by omega, fun i hi => ?_⟩, fun i hi => ?_, fun i hi hc => ?_, fp_NP_new v8 hj⟩ (by omega) (fun post' H' => ?_)
          · by_cases ci : i = f + 1
            · subst ci
              rw [pk_us, pk_us, pk_us, fp_us, fp_us, fp_us]
              exact ⟨rfl, am.1, rfl, Nat.zero_le _, rfl⟩
            · rw [pk_un ci, pk_un ci, pk_un ci, fp_un ci, fp_un ci, fp_un ci]
              exact hF2.2 i (by omega)
          · by_cases ci : i = f + 1
            · subst ci
              rw [pk_us, fp_us]; exact ⟨rfl, by omega⟩
            · rw [pk_un ci, fp_un ci]
              have := v6 i (by omega)
              exact ⟨this.1, by omega⟩
          · by_cases ci : i = f + 1
            · subst ci; rw [fp_us] at hc; exact absurd hc (by decide)
            · rw [fp_un ci] at hc
              rw [fp_un ci, fp_un ci]
              exact nv7 i (by omega) hc
          · exact fp_Yo GY hV0 hY hk hen hw (fun _ => s1) (fun c => by omega) (fun _ c' am' px bx em yb st yen yfa ya yi yc yn no e n2 hH hn2 => by
              have ec := fp_am_u am' am
              subst ec
              exact H' px bx em yb st yen yfa ya yi yc yn no e hH n2 (by omega)) (fun _ => Or.inr ⟨c, am, s2⟩) (fun _ c0 => by have := am.2.2.1; omega) (fun _ c0 => by have := am.2.2.1; omega)
        · refine fx_mu ?_ n'
          exact fp_Yo GY hV0 hY hk hen hw (na' := upd na nd (-1)) (fun _ i hi => pk_un hi) (fun c => by omega) (fun _ c' am' => by have := am'.2.2.1; omega) (fun _ => Or.inl ⟨h0, pk_us⟩) (fun _ _ _ px bx em yb st yen yfa ya yi yc yn no e n2 lo hn2 => ymu _ _ _ _ _ _ _ _ _ _ _ _ _ _ _ _ _ _ _ _ _ _ _ _ _ _ _ _ _ _ _ _ _ _ _ _ _ _ _ _ _ _ _ _ _ A3 lo (by omega) rfl) (fun _ _ c => by omega)
        · have dec : fp_μ (nd + 1) (er + 1) pl (f + 1) (fp_aI g OA OI f (OI f)) < fp_μ nd er pl (f + 1) OI := by unfold fp_μ; omega
          refine ih (nd + 1) (er + 1) pl (f + 1) OA (fp_aI g OA OI f (OI f)) ON (fp_aC g OA OC f (OI f)) _ _ _ _ _ _ _ _ _ _ _ _ _ _ _ _ _ _ _ _ _ _ _ _ A3 ⟨by omega, by omega, v3, by omega, hF2, fun i hi => ⟨(v6 i hi).1, by have := (v6 i hi).2; omega⟩, nv7, fp_NP_new v8 hj⟩ (by omega) (fun post' H' => ?_)
          exact fp_Yo GY hV0 hY hk hen hw (fun _ => s1) (fun c => by omega) (fun _ c' am' => by have := am'.2.2.1; omega) (fun _ => Or.inl ⟨h0, s2⟩) (fun _ _ c => by omega) (fun _ _ _ px bx em yb st yen yfa ya yi yc yn no e n2 hH hn2 => H' px bx em yb st yen yfa ya yi yc yn no e hH n2 (by omega))
end
end
section
section
variable {g : fd_Gr}
variable {g_known g_counted g_places g_best g_made g_faults g_place g_depth g_much : Int32} {b_ruleOf b_sizes b_items b_signs b_text b_ends b_far b_empty b_begins b_starts b_follow b_nodes b_errors b_openNode b_openAlt b_openItem b_came : Nat → Int32} {b_derivations b_row b_layer b_next b_sum : Nat → Int64}
/-- Y's way to the loop -/
theorem fp_Yi {post' : Int32 → SY → Prop} (GY : fd_G g b_items b_signs b_sizes b_ruleOf b_text) (LL : fy_L g g_known b_empty b_begins b_starts b_ends b_far) {r : Nat} (hr : r < 6) (nb : ¬ fn_bad g) {nr na nf nt np nq ek ep ei na' : Nat → Int32} (hs : ∀ i, i ≠ 0 → na' i = na i)
    (hna : (fd_c g r (fd_n g) = 0 ∧ na' 0 = -1) ∨ ∃ c, fp_am g r (fp_len g (fun _ => 0) (fun _ => 0) (fun _ => false) 0 0) (fd_c g r (fd_n g)) c ∧ na' 0 = nI (fd_c g r c))
    (K1 : ∀ c, fp_am g r (fp_len g (fun _ => 0) (fun _ => 0) (fun _ => false) 0 0) (fd_c g r (fd_n g)) c → ∀ (px bx : Int32) (em yb st yen yfa ya yi yc yn no e : Nat → Int32), fp_H g 1 0 1 (fp_u (fun _ => 0) 0 c) (fp_u (fun _ => 0) 0 0) (fp_u (fun _ => 0) 0 0) (fp_u (fun _ => false) 0 false) (upd nr 0 (nI r)) na' (upd nf 0 (nI 0)) (upd nt 0 (nI 0)) (upd np 0 (fp_up (fun _ => 0) 0)) (fp_nq (fun _ => 0) 0 0 nq) ek ep ei em yb st yen yfa ya yi yc yn no e → ∃ n, wY_parse_51 post' n (nI (fd_n g)) (nI (fd_m g)) 1 g_counted px bx (nI 1) (nI 0) (nI 0) (nI 1) 0 b_ruleOf b_sizes b_items b_signs b_text yen yfa em yb st b_follow b_derivations b_row b_layer b_next no e yn ya yi yc b_sum)
    (K0 : fd_c g r (fd_n g) = 0 → ∀ (px bx : Int32) (em yb st yen yfa ya yi yc yn no e : Nat → Int32), fp_H g 1 1 0 (fun _ => 0) (fun _ => 0) (fun _ => 0) (fun _ => false) (upd nr 0 (nI r)) na' (upd nf 0 (nI 0)) (upd nt 0 (nI 0)) (upd np 0 (fp_up (fun _ => 0) 0)) (fp_nq (fun _ => 0) 0 0 nq) (upd ek 0 2) (upd ep 0 (nI 0)) (upd ei 0 (nI (r + 8))) em yb st yen yfa ya yi yc yn no e → ∃ n, wY_parse_51 post' n (nI (fd_n g)) (nI (fd_m g)) 1 g_counted px bx (nI 1) (nI 1) (nI 0) (nI 0) 0 b_ruleOf b_sizes b_items b_signs b_text yen yfa em yb st b_follow b_derivations b_row b_layer b_next no e yn ya yi yc b_sum) :
    wpY_parse post' (nI (fd_n g), nI (fd_m g), g_known, g_counted, g_places, g_best, g_made, g_faults, g_place, g_depth, g_much, b_ruleOf, b_sizes, b_items, b_signs, b_text, b_ends, b_far, b_empty, b_begins, b_starts, b_follow, b_derivations, b_row, b_layer, b_next, b_nodes, b_errors, b_openNode, b_openAlt, b_openItem, b_came, b_sum) (nI r) := by
  have c1 : (0 : Int32) ≤ nI r ∧ nI r ≤ 5 := ⟨nI_pos' (by omega), nI_le (b := 5) (by omega) (by omega)⟩
  have yN : fp_N 0 nr na nf nt np nq b_nodes := ⟨by omega, fun i hi => by omega⟩
  have yE : fp_E 0 ek ep ei b_errors := ⟨by omega, fun i hi => by omega⟩
  have P : fp_YP g (fun _ => 0) (fun _ => 0) (fun _ => 0) (fun _ => false) 0 b_openAlt b_openItem b_openNode := ⟨fun i hi => by omega, by omega, fun i hi => by omega⟩
  refine fy_wi (fun _ _ => fy_isBad (nd := 0) (er := 0) GY LL (fun x pl bs em yb st en fa lo hx => ?_)) (fun h => absurd c1 h)
  rcases hx with ⟨rfl, _⟩ | ⟨_, z⟩
  · refine br_t rfl (fy_open (OA := fun _ => 0) (OI := fun _ => 0) (ON := fun _ => 0) (OC := fun _ => false) (d := 0) (nd := 0) (er := 0) (pl := 0) GY (fy_LO_EF lo) hr (by omega) (by omega) (by omega) (by omega) P (fun i hi => by omega)
      (fun h => by omega)
      (fun h60 x bs c hc => ?_)
      (fun h60 h0 h8 => by omega)
      (fun h60 h0 h8 e' i1 i2 i3 i4 yi' yc' hR => ?_))
    · rcases hna with ⟨z, _⟩ | ⟨c', z1, z3⟩
      · have := hc.2.2.1; omega
      · have ec := fp_am_u hc z1
        subst ec
        exact K1 c hc _ _ _ _ _ _ _ _ _ _ _ _ _ ⟨lo, fp_YR_new (nd := 0) P (by omega) hc.1, fp_N_new (nd := 0) yN (by omega) (fun h => by omega) hs z3, yE⟩
    · rcases hna with ⟨z, z3⟩ | ⟨c', z1, z3⟩
      · exact K0 h0 _ _ _ _ _ _ _ _ _ _ _ _ _ ⟨lo, hR, fp_N_new (nd := 0) yN (by omega) (fun h => by omega) hs z3, fp_E_new yE h8 i1 i2 i3 i4⟩
      · have := z1.2.2.1; omega
  · exact absurd z nb
end
theorem i_vc_parse {k : Nat} {u : SX} {v : SY} (I : i_Rel k u v) (hk : k + 4 ≤ 2048) (v1 : Int32) : wpX_parse (fun r u' => wpY_parse (fun r' v' => r' = r ∧ i_Rel (k + 4) u' v') v v1) u v1 := by
  refine fp_el (P := fun u v => wpX_parse (fun r u' => wpY_parse (fun r' v' => r' = r ∧ i_Rel (k + 4) u' v') v v1) u v1) I ?_
  intro g nd er f_alternatives f_tokens f_studied f_empties f_bad f_kept f_busyCount f_fartherCount f_best f_counted f_depth f_place f_nodes f_errors f_much a_what a_sign a_length a_ruleOf a_text a_begins a_firsts a_been a_ends a_far a_begun a_todo a_busy a_farther a_number a_now a_then a_order a_openAlternative a_openItem a_openCame a_openNode a_nodeRule a_nodeAlternative a_nodeFrom a_nodeTo a_nodeParent a_nodeParts a_errorKind a_errorPlace a_errorItem g_alternatives g_size g_known g_counted g_places g_best g_made g_faults g_place g_depth g_much b_ruleOf b_sizes b_items b_signs b_text b_ends b_far b_empty b_begins b_starts b_follow b_derivations b_row b_layer b_next b_nodes b_errors b_openNode b_openAlt b_openItem b_came b_sum q
  have q0 := q
  obtain ⟨GX, GY, DR, S, LL, A, CX, CY, ND, ER⟩ := q
  by_cases c1 : 0 ≤ v1 ∧ v1 ≤ 5
  · obtain ⟨r, hr, rfl⟩ := fx_of (n := 5) (by omega) c1.1 c1.2
    refine fx_out (fun _ _ => fx_study GX S (fun e b be fi th so => ?_)) (fun h => absurd c1 h)
    rcases so.2.2.2 with ⟨rfl, nb⟩ | ⟨rfl, nb⟩
    · have hF : fo_X g (fun _ => 0) (fun _ => 0) (fun _ => false) 0 a_openAlternative a_openItem a_openCame := ⟨by omega, fun i hi => by omega⟩
      have hNP : fp_NP 0 a_nodeParts := fun i hi => by omega
      refine br_t rfl (fx_open (OA := fun _ => 0) (OI := fun _ => 0) (ON := fun _ => 0) (OC := fun _ => false) (d := 0) (nd := 0) (er := 0) (pl := 0) GX A (by omega) (by omega) (by omega) (by omega) (by omega) hF (fun i hi => by omega) hNP (fun h => by omega) (fun h60 bs3 c ke3 bc3 fc3 be3 en3 fa3 bg3 td3 bu3 ft3 na' A3 s1 am s2 => ?_) (fun h60 h0 h8 => by omega) (fun h60 h0 h8 bs3 ke3 bc3 fc3 be3 en3 fa3 bg3 td3 bu3 ft3 na' A3 s1 s2 => ?_))
      · refine ⟨_, fp_loop (b_follow := b_follow) (b_row := b_row) (b_layer := b_layer) (b_next := b_next) (b_sum := b_sum) (Z := fun p => wpY_parse p (nI (fd_n g), nI (fd_m g), g_known, g_counted, g_places, g_best, nI nd, nI er, g_place, g_depth, g_much, b_ruleOf, b_sizes, b_items, b_signs, b_text, b_ends, b_far, b_empty, b_begins, b_starts, b_follow, b_derivations, b_row, b_layer, b_next, b_nodes, b_errors, b_openNode, b_openAlt, b_openItem, b_came, b_sum) (nI r)) GX GY DR (Or.inr ⟨rfl, so⟩) CX CY _ 1 0 0 1 (fp_u (fun _ => 0) 0 c) (fp_u (fun _ => 0) 0 0) (fp_u (fun _ => 0) 0 0) (fp_u (fun _ => false) 0 false) _ _ _ _ _ _ _ _ _ _ _ _ _ _ _ _ _ _ _ _ _ _ _ _ A3 ⟨by omega, by omega, by omega, by omega, ⟨by omega, fun i hi => ?_⟩, fun i hi => ?_, fun i hi hc => ?_, fp_NP_new hNP (fun h => by omega)⟩ (Nat.lt_succ_self _) (fun post' H' => ?_)⟩
        · obtain rfl : i = 0 := by omega
          rw [pk_us, pk_us, pk_us, fp_us, fp_us, fp_us]
          exact ⟨rfl, am.1, rfl, Nat.zero_le _, rfl⟩
        · obtain rfl : i = 0 := by omega
          rw [pk_us, fp_us]; exact ⟨rfl, by omega⟩
        · obtain rfl : i = 0 := by omega
          rw [fp_us] at hc; exact absurd hc (by decide)
        · exact fp_Yi GY LL (by omega) nb s1 (Or.inr ⟨c, am, s2⟩) (fun c' am' px bx em yb st yen yfa ya yi yc yn no e hH => by
            have ec := fp_am_u am' am
            subst ec
            exact ⟨_, H' px bx em yb st yen yfa ya yi yc yn no e hH _ (Nat.lt_succ_self _)⟩) (fun c0 => by have := am.2.2.1; omega)
      · refine ⟨_, fp_loop (b_follow := b_follow) (b_row := b_row) (b_layer := b_layer) (b_next := b_next) (b_sum := b_sum) (Z := fun p => wpY_parse p (nI (fd_n g), nI (fd_m g), g_known, g_counted, g_places, g_best, nI nd, nI er, g_place, g_depth, g_much, b_ruleOf, b_sizes, b_items, b_signs, b_text, b_ends, b_far, b_empty, b_begins, b_starts, b_follow, b_derivations, b_row, b_layer, b_next, b_nodes, b_errors, b_openNode, b_openAlt, b_openItem, b_came, b_sum) (nI r)) GX GY DR (Or.inr ⟨rfl, so⟩) CX CY _ 1 1 0 0 (fun _ => 0) (fun _ => 0) (fun _ => 0) (fun _ => false) _ _ _ _ _ _ _ _ _ _ _ _ _ _ _ _ _ _ _ _ _ _ _ _ A3 ⟨by omega, by omega, by omega, by omega, ⟨by omega, fun i hi => by omega⟩, fun i hi => by omega, fun i hi hc => by omega, fp_NP_new hNP (fun h => by omega)⟩ (Nat.lt_succ_self _) (fun post' H' => ?_)⟩
        exact fp_Yi GY LL (by omega) nb s1 (Or.inl ⟨h0, s2⟩) (fun c' am' => by have := am'.2.2.1; omega) (fun _ px bx em yb st yen yfa ya yi yc yn no e hH => ⟨_, H' px bx em yb st yen yfa ya yi yc yn no e hH _ (Nat.lt_succ_self _)⟩)
    · refine br_f (by decide) (fy_wi (fun _ _ => fy_isBad (nd := 0) (er := 0) GY LL (fun x pl bs em yb st en fa lo hx => ?_)) (fun h => absurd c1 h))
      rcases hx with ⟨rfl, z⟩ | ⟨rfl, z⟩
      · exact absurd nb z
      · exact br_f (by decide) ⟨rfl, fp_in (nd := 0) (er := 0) ⟨GX, GY, DR, Or.inr ⟨rfl, so⟩, Or.inr ⟨rfl, lo⟩, A, CX, CY, ⟨by omega, fun i hi => by omega⟩, ⟨by omega, fun i hi => by omega⟩⟩⟩
  · exact fx_out (fun h1 h2 => absurd ⟨h1, h2⟩ c1) (fun _ => fy_wi (fun h1 h2 => absurd ⟨h1, h2⟩ c1) (fun _ => ⟨rfl, fp_in q0⟩))
end
