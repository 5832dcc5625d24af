section
/-! pure rows to paste: stores, nI and lN arithmetic, masks, shifts, narrowing, branches by naturals (pk_le, pk_lt, pk_eq), loops (lp1 .. lp16: the measure of the state; rp1 ..: recursion), negatives. Take what you need -/
theorem pk_us {f : Nat → Int32} {k : Nat} {x : Int32} : upd f k x k = x := if_pos rfl
theorem pk_un {f : Nat → Int32} {k j : Nat} {x : Int32} (h : j ≠ k) : upd f k x j = f j := if_neg h
theorem pk_uLs {f : Nat → Int64} {k : Nat} {x : Int64} : vp_updL f k x k = x := if_pos rfl
theorem pk_uLn {f : Nat → Int64} {k j : Nat} {x : Int64} (h : j ≠ k) : vp_updL f k x j = f j := if_neg h
theorem pk_sub {a b : Nat} (h : b ≤ a) : nI a - nI b = nI (a - b) := by
  obtain ⟨c, rfl⟩ : ∃ c, a = c + b := ⟨a - b, by omega⟩
  rw [← nI_add, Int32.add_sub_cancel, Nat.add_sub_cancel]
theorem pk_m1 (n : Nat) : nI (n + 1) + (-1) = nI n := by
  rw [← nI_1, Int32.add_assoc, show (1 : Int32) + (-1) = 0 from rfl, Int32.add_zero]
theorem pk_mul (a b : Nat) : nI a * nI b = nI (a * b) := (Int32.ofNat_mul a b).symm
theorem pk_div {a d : Nat} (ha : a < 2 ^ 31) (h0 : 0 < d) (hd : d < 2 ^ 31) : nI a / nI d = nI (a / d) := by
  apply Int32.toInt_inj.mp
  rw [lg_idiv_nonneg (by rw [nI_toInt ha]; omega) (by rw [nI_toInt hd]; omega), nI_toInt ha, nI_toInt hd, nI_toInt (Nat.lt_of_le_of_lt (Nat.div_le_self a d) ha)]
  first | rfl | exact (Int.natCast_ediv _ _).symm
theorem pk_rem {a d : Nat} (ha : a < 2 ^ 31) (h0 : 0 < d) (hd : d < 2 ^ 31) : nI a - nI a / nI d * nI d = nI (a % d) := by
  rw [pk_div ha h0 hd, pk_mul, pk_sub (Nat.div_mul_le_self a d)]
  exact congrArg nI (by have := Nat.div_add_mod' a d; omega)
theorem pk_sub_toInt {a b : Nat} (ha : a < 2 ^ 30) (hb : b < 2 ^ 30) : (nI a - nI b).toInt = (a : Int) - b := by
  rw [Int32.toInt_sub, nI_toInt (by omega), nI_toInt (by omega)]
  exact Int.bmod_eq_of_le (by omega) (by omega)
theorem pk_sneg {a b : Nat} (hb : b < 2 ^ 30) (h : a < b) : nI a - nI b < 0 := by
  rw [Int32.lt_iff_toInt_lt, pk_sub_toInt (by omega) hb, show (0 : Int32).toInt = 0 from by decide]
  omega
theorem pk_ix (x : Int32) {n : Nat} (hn : n < 2 ^ 31) : x < 0 ∨ nI n ≤ x ∨ ∃ j : Nat, j < n ∧ x = nI j := by
  by_cases h : x < 0
  · exact Or.inl h
  · obtain ⟨j, hj, rfl⟩ := nI_of h
    by_cases h2 : j < n
    · exact Or.inr (Or.inr ⟨j, h2, rfl⟩)
    · exact Or.inr (Or.inl (nI_le (by omega) hj))
theorem pk_le {x y : Int32} {A B : Prop} (a b : Nat) (f : a ≤ b → A) (g : b < a → B) (hx : x = nI a := by rfl) (hy : y = nI b := by rfl) (ha : a < 2 ^ 31 := by omega) (hb : b < 2 ^ 31 := by omega) : (x ≤ y → A) ∧ (¬ x ≤ y → B) := by
  subst hx hy
  rw [nI_leI ha hb]
  exact ⟨f, fun z => g (by omega)⟩
theorem pk_lt {x y : Int32} {A B : Prop} (a b : Nat) (f : a < b → A) (g : b ≤ a → B) (hx : x = nI a := by rfl) (hy : y = nI b := by rfl) (ha : a < 2 ^ 31 := by omega) (hb : b < 2 ^ 31 := by omega) : (x < y → A) ∧ (¬ x < y → B) := by
  subst hx hy
  rw [nI_ltI ha hb]
  exact ⟨f, fun z => g (by omega)⟩
theorem pk_eq {x y : Int32} {A B : Prop} (a b : Nat) (f : a = b → A) (g : a ≠ b → B) (hx : x = nI a := by rfl) (hy : y = nI b := by rfl) (ha : a < 2 ^ 31 := by omega) (hb : b < 2 ^ 31 := by omega) : (x = y → A) ∧ (¬ x = y → B) := by
  subst hx hy
  rw [nI_eq ha hb]
  exact ⟨f, g⟩
theorem pk_in {x : Int32} (n N : Nat) (h : n < N) (hx : x = nI n := by rfl) (hN : N < 2 ^ 31 := by omega) : vp_in x N := by
  subst hx
  exact vp_in_nI h hN
theorem pk_cl {x : Int32} (n : Nat) (hx : x = nI n := by rfl) (h : n < 2 ^ 31 := by omega) : x.toNatClampNeg = n := by
  subst hx
  exact nI_clamp h
theorem pk_tn {n : Nat} (h : n < 2 ^ 32) : (nI n).toBitVec.toNat = n := Nat.mod_eq_of_lt h
theorem pk_and (x : Int32) {m : Int32} (k : Nat) (hm : m.toBitVec.toNat = 2 ^ k - 1) : x &&& m = nI (x.toBitVec.toNat % 2 ^ k) := by
  apply Int32.toBitVec_inj.mp
  apply BitVec.eq_of_toNat_eq
  rw [Int32.toBitVec_and, BitVec.toNat_and, hm, Nat.and_two_pow_sub_one_eq_mod]
  show _ = (BitVec.ofNat 32 _).toNat
  rw [BitVec.toNat_ofNat]
  exact (Nat.mod_eq_of_lt (Nat.lt_of_le_of_lt (Nat.mod_le _ _) x.toBitVec.isLt)).symm
theorem pk_andN {n : Nat} (h : n < 2 ^ 32) {m : Int32} (k : Nat) (hm : m.toBitVec.toNat = 2 ^ k - 1) : nI n &&& m = nI (n % 2 ^ k) := by
  rw [pk_and _ k hm, pk_tn h]
theorem pk_andE (x : Int32) {m : Int32} (k : Nat) (hm : m.toBitVec.toNat = 2 ^ k - 1) : ∃ j : Nat, j < 2 ^ k ∧ x &&& m = nI j := ⟨_, Nat.mod_lt _ (Nat.two_pow_pos k), pk_and x k hm⟩
theorem pk_andIn (x : Int32) {m : Int32} (k : Nat) (hm : m.toBitVec.toNat = 2 ^ k - 1) (hk : k ≤ 30) : vp_in (x &&& m) (2 ^ k) := by
  obtain ⟨j, hj, e⟩ := pk_andE x k hm
  rw [e]
  exact vp_in_nI hj (Nat.lt_of_le_of_lt (Nat.pow_le_pow_right (by decide) hk) (by decide))
theorem pk_shl (a s : Int32) (k : Nat) (hs : (s.toBitVec.smod 32).toNat = k) : (a <<< s).toBitVec.toNat = a.toBitVec.toNat * 2 ^ k % 2 ^ 32 := by
  show (a.toBitVec <<< (s.toBitVec.smod 32).toNat).toNat = _
  rw [hs, BitVec.toNat_shiftLeft, Nat.shiftLeft_eq]
theorem pk_shlN {n : Nat} (s : Int32) (k : Nat) (hs : (s.toBitVec.smod 32).toNat = k) (h : n * 2 ^ k < 2 ^ 32) : nI n <<< s = nI (n * 2 ^ k) := by
  apply Int32.toBitVec_inj.mp
  apply BitVec.eq_of_toNat_eq
  have hn : n < 2 ^ 32 := Nat.lt_of_le_of_lt (Nat.le_mul_of_pos_right n (Nat.two_pow_pos k)) h
  rw [pk_shl _ _ k hs, pk_tn hn, pk_tn h, Nat.mod_eq_of_lt h]
theorem pk_shr (a s : Int32) (k : Nat) (hs : (s.toBitVec.smod 32).toNat = k) : (a >>> s).toInt = a.toInt >>> k := by
  show (a.toBitVec.sshiftRight (s.toBitVec.smod 32).toNat).toInt = _
  rw [hs, BitVec.toInt_sshiftRight]
  rfl
theorem pk_shrN {n : Nat} (h : n < 2 ^ 31) (s : Int32) (k : Nat) (hs : (s.toBitVec.smod 32).toNat = k) : nI n >>> s = nI (n / 2 ^ k) := by
  apply Int32.toInt_inj.mp
  have h2 : n / 2 ^ k ≤ n := Nat.div_le_self _ _
  rw [pk_shr _ _ k hs, nI_toInt h, nI_toInt (by omega), Int.shiftRight_eq_div_pow]
  rfl
theorem pk_ushr (x s : Int32) (k : Nat) (hs : ((s.toUInt32 &&& Int32.toUInt32 31).toBitVec % 32).toNat = k) : (x.toUInt32 >>> (s.toUInt32 &&& Int32.toUInt32 31)).toInt32.toBitVec.toNat = x.toBitVec.toNat / 2 ^ k := by
  have e : (x.toUInt32 >>> (s.toUInt32 &&& Int32.toUInt32 31)).toInt32.toBitVec = x.toBitVec >>> k := by
    rw [← hs]
    exact UInt32.toBitVec_shiftRight _ _
  rw [e, BitVec.toNat_ushiftRight, Nat.shiftRight_eq_div_pow]
theorem pk_ushrN {n : Nat} (hn : n < 2 ^ 32) (s : Int32) (k : Nat) (hs : ((s.toUInt32 &&& Int32.toUInt32 31).toBitVec % 32).toNat = k) : ((nI n).toUInt32 >>> (s.toUInt32 &&& Int32.toUInt32 31)).toInt32 = nI (n / 2 ^ k) := by
  apply Int32.toBitVec_inj.mp
  apply BitVec.eq_of_toNat_eq
  rw [pk_ushr _ s k hs, pk_tn hn, pk_tn (Nat.lt_of_le_of_lt (Nat.div_le_self _ _) hn)]
theorem pk_nb (z : Int32) : narrow .byte (.int z.toInt8.toInt32) = .int z.toInt8.toInt32 := congrArg Value.int (by simp)
theorem pk_ns (z : Int32) : narrow .short (.int z.toInt16.toInt32) = .int z.toInt16.toInt32 := congrArg Value.int (by simp)
theorem pk_fb (r : Int32) : fits .byte (.int r.toInt8.toInt32) = true := by
  have ⟨a, b⟩ := lg_i2b_range r
  have h1 : (-128 : Int32).toInt = -128 := by decide
  have h2 : (127 : Int32).toInt = 127 := by decide
  simp only [fits, Bool.and_eq_true, decide_eq_true_eq, Int32.le_iff_toInt_le, h1, h2]
  omega
theorem pk_fs (r : Int32) : fits .short (.int r.toInt16.toInt32) = true := by
  have ⟨a, b⟩ := lg_i2s_range r
  have h1 : (-32768 : Int32).toInt = -32768 := by decide
  have h2 : (32767 : Int32).toInt = 32767 := by decide
  simp only [fits, Bool.and_eq_true, decide_eq_true_eq, Int32.le_iff_toInt_le, h1, h2]
  omega
theorem pk_charN {q : Nat} (hq : q < 65536) : narrow .char (.int (nI q)) = .int (nI q) ∧ fits .char (.int (nI q)) = true := by
  constructor
  · have e : (nI q).toUInt32.toUInt16.toUInt32.toInt32 = nI q := by
      apply Int32.toBitVec_inj.mp
      apply BitVec.eq_of_toNat_eq
      show (nI q).toUInt32.toUInt16.toUInt32.toNat = q % 2 ^ 32
      rw [UInt16.toNat_toUInt32, UInt32.toNat_toUInt16, show (nI q).toUInt32.toNat = q % 2 ^ 32 from rfl]
      omega
    exact congrArg Value.int e
  · have a : (0 : Int32) ≤ nI q := nI_pos' (by omega)
    have b : nI q ≤ 65535 := nI_le (b := 65535) (by omega) (by decide)
    show (decide ((0 : Int32) ≤ nI q) && decide (nI q ≤ 65535)) = true
    rw [decide_eq_true a, decide_eq_true b]
    rfl
theorem pk_char (x : Int32) : (x.toUInt32 % 65536).toInt32 = nI (x.toBitVec.toNat % 65536) := by
  apply Int32.toBitVec_inj.mp
  apply BitVec.eq_of_toNat_eq
  rw [pk_tn (by omega)]
  show (x.toUInt32 % 65536).toNat = _
  rw [UInt32.toNat_mod]
  rfl
theorem pk_nc (x : Int32) : narrow .char (.int (x.toUInt32 % 65536).toInt32) = .int (x.toUInt32 % 65536).toInt32 := by
  rw [pk_char]
  exact (pk_charN (Nat.mod_lt _ (by decide))).1
theorem pk_fc (x : Int32) : fits .char (.int (x.toUInt32 % 65536).toInt32) = true := by
  rw [pk_char]
  exact (pk_charN (Nat.mod_lt _ (by decide))).2
theorem pk_vb (z : Int32) : vp_nar .byte z.toInt8.toInt32 = z.toInt8.toInt32 := by rw [vp_nar_byte]; simp
theorem pk_vs (z : Int32) : vp_nar .short z.toInt16.toInt32 = z.toInt16.toInt32 := by rw [vp_nar_short]; simp
theorem pk_vc (z : Int32) : vp_nar .char (z.toUInt32 % 65536).toInt32 = (z.toUInt32 % 65536).toInt32 := Value.int.inj (pk_nc z)
theorem pk_lT {n : Nat} (h : n < 2 ^ 63) : (lN n).toInt = (n : Int) := lg_ofNat_toInt h
theorem pk_lLT {a b : Nat} (ha : a < 2 ^ 63) (hb : b < 2 ^ 63) : lN a < lN b ↔ a < b := by
  rw [Int64.lt_iff_toInt_lt, pk_lT ha, pk_lT hb]; omega
theorem pk_lLE {a b : Nat} (ha : a < 2 ^ 63) (hb : b < 2 ^ 63) : lN a ≤ lN b ↔ a ≤ b := by
  rw [Int64.le_iff_toInt_le, pk_lT ha, pk_lT hb]; omega
theorem pk_lEQ {a b : Nat} (ha : a < 2 ^ 63) (hb : b < 2 ^ 63) : lN a = lN b ↔ a = b := by
  rw [← Int64.toInt_inj, pk_lT ha, pk_lT hb]; omega
theorem pk_lOf {x : Int64} (h : ¬ x < 0) : ∃ k : Nat, k < 2 ^ 63 ∧ x = lN k := by
  rw [Int64.lt_iff_toInt_lt] at h
  have h0 : (0 : Int64).toInt = 0 := by decide
  have hx := Int64.toInt_lt x
  refine ⟨x.toInt.toNat, by omega, Int64.toInt_inj.mp ?_⟩
  rw [pk_lT (by omega)]
  omega
theorem pk_lDiv {a b : Nat} (ha : a < 2 ^ 63) (h0 : 0 < b) (hb : b < 2 ^ 63) : lN a / lN b = lN (a / b) := by
  apply Int64.toInt_inj.mp
  rw [lg_ldiv_nonneg (by rw [pk_lT ha]; omega) (by rw [pk_lT hb]; omega), pk_lT ha, pk_lT hb, pk_lT (Nat.lt_of_le_of_lt (Nat.div_le_self a b) ha)]
  rfl
theorem pk_lRem {a b : Nat} (ha : a < 2 ^ 63) (h0 : 0 < b) (hb : b < 2 ^ 63) : lN a - lN a / lN b * lN b = lN (a % b) := by
  rw [pk_lDiv ha h0 hb, lN_mul, lN_sub (Nat.div_mul_le_self a b)]
  exact congrArg lN (by have := Nat.div_add_mod' a b; omega)
theorem pk_loop {σ : Type} (W : Nat → Nat → σ → Prop) (I : Nat → σ → Prop) (e i0 : Nat) (s : σ) (hi : i0 ≤ e) (h0 : I i0 s) (hx : ∀ n s, I e s → W (n + 1) e s)
    (hs : ∀ n i s, i < e → I i s → (∀ s', I (i + 1) s' → W n (i + 1) s') → W (n + 1) i s) : ∃ n, W n i0 s :=
  ⟨e + 1, loop_i W I e hx hs (e + 1) i0 s hi (by omega) h0⟩
theorem pk_loopD {σ : Type} (W : Nat → Nat → σ → Prop) (I : Nat → σ → Prop) (hx : ∀ n s, I 0 s → W (n + 1) 0 s)
    (hs : ∀ n i s, I (i + 1) s → (∀ s', I i s' → W n i s') → W (n + 1) (i + 1) s) : ∀ (e : Nat) (s : σ), I e s → W (e + 1) e s := by
  intro e
  induction e with
  | zero => exact fun s h => hx 0 s h
  | succ e ih => exact fun s h => hs (e + 1) e s h (fun s' h' => ih s' h')
theorem lp1 {A1 : Type} (W : Nat → A1 → Prop) (I : A1 → Prop) (μ : A1 → Nat) (hs : ∀ (n : Nat) (a1 : A1), I a1 → (∀ (b1 : A1), I b1 → μ b1 < μ a1 → W n b1) → W (n + 1) a1) (a1 : A1) (h : I a1) : ∃ n, W n a1 :=
  loop_m (σ := A1) (fun n s => W n s) (fun s => I s) (fun s => μ s) (fun n s hI hk => hs n s hI (fun b1 h9 hm => hk b1 h9 hm)) a1 h
theorem lp2 {A1 A2 : Type} (W : Nat → A1 → A2 → Prop) (I : A1 → A2 → Prop) (μ : A1 → A2 → Nat) (hs : ∀ (n : Nat) (a1 : A1) (a2 : A2), I a1 a2 → (∀ (b1 : A1) (b2 : A2), I b1 b2 → μ b1 b2 < μ a1 a2 → W n b1 b2) → W (n + 1) a1 a2) (a1 : A1) (a2 : A2) (h : I a1 a2) : ∃ n, W n a1 a2 :=
  loop_m (σ := A1 × A2) (fun n s => W n s.1 s.2) (fun s => I s.1 s.2) (fun s => μ s.1 s.2) (fun n s hI hk => hs n s.1 s.2 hI (fun b1 b2 h9 hm => hk (b1, b2) h9 hm)) (a1, a2) h
theorem lp3 {A1 A2 A3 : Type} (W : Nat → A1 → A2 → A3 → Prop) (I : A1 → A2 → A3 → Prop) (μ : A1 → A2 → A3 → Nat) (hs : ∀ (n : Nat) (a1 : A1) (a2 : A2) (a3 : A3), I a1 a2 a3 → (∀ (b1 : A1) (b2 : A2) (b3 : A3), I b1 b2 b3 → μ b1 b2 b3 < μ a1 a2 a3 → W n b1 b2 b3) → W (n + 1) a1 a2 a3) (a1 : A1) (a2 : A2) (a3 : A3) (h : I a1 a2 a3) : ∃ n, W n a1 a2 a3 :=
  loop_m (σ := A1 × A2 × A3) (fun n s => W n s.1 s.2.1 s.2.2) (fun s => I s.1 s.2.1 s.2.2) (fun s => μ s.1 s.2.1 s.2.2) (fun n s hI hk => hs n s.1 s.2.1 s.2.2 hI (fun b1 b2 b3 h9 hm => hk (b1, b2, b3) h9 hm)) (a1, a2, a3) h
theorem lp4 {A1 A2 A3 A4 : Type} (W : Nat → A1 → A2 → A3 → A4 → Prop) (I : A1 → A2 → A3 → A4 → Prop) (μ : A1 → A2 → A3 → A4 → Nat) (hs : ∀ (n : Nat) (a1 : A1) (a2 : A2) (a3 : A3) (a4 : A4), I a1 a2 a3 a4 → (∀ (b1 : A1) (b2 : A2) (b3 : A3) (b4 : A4), I b1 b2 b3 b4 → μ b1 b2 b3 b4 < μ a1 a2 a3 a4 → W n b1 b2 b3 b4) → W (n + 1) a1 a2 a3 a4) (a1 : A1) (a2 : A2) (a3 : A3) (a4 : A4) (h : I a1 a2 a3 a4) : ∃ n, W n a1 a2 a3 a4 :=
  loop_m (σ := A1 × A2 × A3 × A4) (fun n s => W n s.1 s.2.1 s.2.2.1 s.2.2.2) (fun s => I s.1 s.2.1 s.2.2.1 s.2.2.2) (fun s => μ s.1 s.2.1 s.2.2.1 s.2.2.2) (fun n s hI hk => hs n s.1 s.2.1 s.2.2.1 s.2.2.2 hI (fun b1 b2 b3 b4 h9 hm => hk (b1, b2, b3, b4) h9 hm)) (a1, a2, a3, a4) h
theorem lp5 {A1 A2 A3 A4 A5 : Type} (W : Nat → A1 → A2 → A3 → A4 → A5 → Prop) (I : A1 → A2 → A3 → A4 → A5 → Prop) (μ : A1 → A2 → A3 → A4 → A5 → Nat) (hs : ∀ (n : Nat) (a1 : A1) (a2 : A2) (a3 : A3) (a4 : A4) (a5 : A5), I a1 a2 a3 a4 a5 → (∀ (b1 : A1) (b2 : A2) (b3 : A3) (b4 : A4) (b5 : A5), I b1 b2 b3 b4 b5 → μ b1 b2 b3 b4 b5 < μ a1 a2 a3 a4 a5 → W n b1 b2 b3 b4 b5) → W (n + 1) a1 a2 a3 a4 a5) (a1 : A1) (a2 : A2) (a3 : A3) (a4 : A4) (a5 : A5) (h : I a1 a2 a3 a4 a5) : ∃ n, W n a1 a2 a3 a4 a5 :=
  loop_m (σ := A1 × A2 × A3 × A4 × A5) (fun n s => W n s.1 s.2.1 s.2.2.1 s.2.2.2.1 s.2.2.2.2) (fun s => I s.1 s.2.1 s.2.2.1 s.2.2.2.1 s.2.2.2.2) (fun s => μ s.1 s.2.1 s.2.2.1 s.2.2.2.1 s.2.2.2.2) (fun n s hI hk => hs n s.1 s.2.1 s.2.2.1 s.2.2.2.1 s.2.2.2.2 hI (fun b1 b2 b3 b4 b5 h9 hm => hk (b1, b2, b3, b4, b5) h9 hm)) (a1, a2, a3, a4, a5) h
theorem lp6 {A1 A2 A3 A4 A5 A6 : Type} (W : Nat → A1 → A2 → A3 → A4 → A5 → A6 → Prop) (I : A1 → A2 → A3 → A4 → A5 → A6 → Prop) (μ : A1 → A2 → A3 → A4 → A5 → A6 → Nat) (hs : ∀ (n : Nat) (a1 : A1) (a2 : A2) (a3 : A3) (a4 : A4) (a5 : A5) (a6 : A6), I a1 a2 a3 a4 a5 a6 → (∀ (b1 : A1) (b2 : A2) (b3 : A3) (b4 : A4) (b5 : A5) (b6 : A6), I b1 b2 b3 b4 b5 b6 → μ b1 b2 b3 b4 b5 b6 < μ a1 a2 a3 a4 a5 a6 → W n b1 b2 b3 b4 b5 b6) → W (n + 1) a1 a2 a3 a4 a5 a6) (a1 : A1) (a2 : A2) (a3 : A3) (a4 : A4) (a5 : A5) (a6 : A6) (h : I a1 a2 a3 a4 a5 a6) : ∃ n, W n a1 a2 a3 a4 a5 a6 :=
  loop_m (σ := A1 × A2 × A3 × A4 × A5 × A6) (fun n s => W n s.1 s.2.1 s.2.2.1 s.2.2.2.1 s.2.2.2.2.1 s.2.2.2.2.2) (fun s => I s.1 s.2.1 s.2.2.1 s.2.2.2.1 s.2.2.2.2.1 s.2.2.2.2.2) (fun s => μ s.1 s.2.1 s.2.2.1 s.2.2.2.1 s.2.2.2.2.1 s.2.2.2.2.2) (fun n s hI hk => hs n s.1 s.2.1 s.2.2.1 s.2.2.2.1 s.2.2.2.2.1 s.2.2.2.2.2 hI (fun b1 b2 b3 b4 b5 b6 h9 hm => hk (b1, b2, b3, b4, b5, b6) h9 hm)) (a1, a2, a3, a4, a5, a6) h
theorem lp7 {A1 A2 A3 A4 A5 A6 A7 : Type} (W : Nat → A1 → A2 → A3 → A4 → A5 → A6 → A7 → Prop) (I : A1 → A2 → A3 → A4 → A5 → A6 → A7 → Prop) (μ : A1 → A2 → A3 → A4 → A5 → A6 → A7 → Nat) (hs : ∀ (n : Nat) (a1 : A1) (a2 : A2) (a3 : A3) (a4 : A4) (a5 : A5) (a6 : A6) (a7 : A7), I a1 a2 a3 a4 a5 a6 a7 → (∀ (b1 : A1) (b2 : A2) (b3 : A3) (b4 : A4) (b5 : A5) (b6 : A6) (b7 : A7), I b1 b2 b3 b4 b5 b6 b7 → μ b1 b2 b3 b4 b5 b6 b7 < μ a1 a2 a3 a4 a5 a6 a7 → W n b1 b2 b3 b4 b5 b6 b7) → W (n + 1) a1 a2 a3 a4 a5 a6 a7) (a1 : A1) (a2 : A2) (a3 : A3) (a4 : A4) (a5 : A5) (a6 : A6) (a7 : A7) (h : I a1 a2 a3 a4 a5 a6 a7) : ∃ n, W n a1 a2 a3 a4 a5 a6 a7 :=
  loop_m (σ := A1 × A2 × A3 × A4 × A5 × A6 × A7) (fun n s => W n s.1 s.2.1 s.2.2.1 s.2.2.2.1 s.2.2.2.2.1 s.2.2.2.2.2.1 s.2.2.2.2.2.2) (fun s => I s.1 s.2.1 s.2.2.1 s.2.2.2.1 s.2.2.2.2.1 s.2.2.2.2.2.1 s.2.2.2.2.2.2) (fun s => μ s.1 s.2.1 s.2.2.1 s.2.2.2.1 s.2.2.2.2.1 s.2.2.2.2.2.1 s.2.2.2.2.2.2) (fun n s hI hk => hs n s.1 s.2.1 s.2.2.1 s.2.2.2.1 s.2.2.2.2.1 s.2.2.2.2.2.1 s.2.2.2.2.2.2 hI (fun b1 b2 b3 b4 b5 b6 b7 h9 hm => hk (b1, b2, b3, b4, b5, b6, b7) h9 hm)) (a1, a2, a3, a4, a5, a6, a7) h
theorem lp8 {A1 A2 A3 A4 A5 A6 A7 A8 : Type} (W : Nat → A1 → A2 → A3 → A4 → A5 → A6 → A7 → A8 → Prop) (I : A1 → A2 → A3 → A4 → A5 → A6 → A7 → A8 → Prop) (μ : A1 → A2 → A3 → A4 → A5 → A6 → A7 → A8 → Nat) (hs : ∀ (n : Nat) (a1 : A1) (a2 : A2) (a3 : A3) (a4 : A4) (a5 : A5) (a6 : A6) (a7 : A7) (a8 : A8), I a1 a2 a3 a4 a5 a6 a7 a8 → (∀ (b1 : A1) (b2 : A2) (b3 : A3) (b4 : A4) (b5 : A5) (b6 : A6) (b7 : A7) (b8 : A8), I b1 b2 b3 b4 b5 b6 b7 b8 → μ b1 b2 b3 b4 b5 b6 b7 b8 < μ a1 a2 a3 a4 a5 a6 a7 a8 → W n b1 b2 b3 b4 b5 b6 b7 b8) → W (n + 1) a1 a2 a3 a4 a5 a6 a7 a8) (a1 : A1) (a2 : A2) (a3 : A3) (a4 : A4) (a5 : A5) (a6 : A6) (a7 : A7) (a8 : A8) (h : I a1 a2 a3 a4 a5 a6 a7 a8) : ∃ n, W n a1 a2 a3 a4 a5 a6 a7 a8 :=
  loop_m (σ := A1 × A2 × A3 × A4 × A5 × A6 × A7 × A8) (fun n s => W n s.1 s.2.1 s.2.2.1 s.2.2.2.1 s.2.2.2.2.1 s.2.2.2.2.2.1 s.2.2.2.2.2.2.1 s.2.2.2.2.2.2.2) (fun s => I s.1 s.2.1 s.2.2.1 s.2.2.2.1 s.2.2.2.2.1 s.2.2.2.2.2.1 s.2.2.2.2.2.2.1 s.2.2.2.2.2.2.2) (fun s => μ s.1 s.2.1 s.2.2.1 s.2.2.2.1 s.2.2.2.2.1 s.2.2.2.2.2.1 s.2.2.2.2.2.2.1 s.2.2.2.2.2.2.2) (fun n s hI hk => hs n s.1 s.2.1 s.2.2.1 s.2.2.2.1 s.2.2.2.2.1 s.2.2.2.2.2.1 s.2.2.2.2.2.2.1 s.2.2.2.2.2.2.2 hI (fun b1 b2 b3 b4 b5 b6 b7 b8 h9 hm => hk (b1, b2, b3, b4, b5, b6, b7, b8) h9 hm)) (a1, a2, a3, a4, a5, a6, a7, a8) h
theorem lp9 {A1 A2 A3 A4 A5 A6 A7 A8 A9 : Type} (W : Nat → A1 → A2 → A3 → A4 → A5 → A6 → A7 → A8 → A9 → Prop) (I : A1 → A2 → A3 → A4 → A5 → A6 → A7 → A8 → A9 → Prop) (μ : A1 → A2 → A3 → A4 → A5 → A6 → A7 → A8 → A9 → Nat) (hs : ∀ (n : Nat) (a1 : A1) (a2 : A2) (a3 : A3) (a4 : A4) (a5 : A5) (a6 : A6) (a7 : A7) (a8 : A8) (a9 : A9), I a1 a2 a3 a4 a5 a6 a7 a8 a9 → (∀ (b1 : A1) (b2 : A2) (b3 : A3) (b4 : A4) (b5 : A5) (b6 : A6) (b7 : A7) (b8 : A8) (b9 : A9), I b1 b2 b3 b4 b5 b6 b7 b8 b9 → μ b1 b2 b3 b4 b5 b6 b7 b8 b9 < μ a1 a2 a3 a4 a5 a6 a7 a8 a9 → W n b1 b2 b3 b4 b5 b6 b7 b8 b9) → W (n + 1) a1 a2 a3 a4 a5 a6 a7 a8 a9) (a1 : A1) (a2 : A2) (a3 : A3) (a4 : A4) (a5 : A5) (a6 : A6) (a7 : A7) (a8 : A8) (a9 : A9) (h : I a1 a2 a3 a4 a5 a6 a7 a8 a9) : ∃ n, W n a1 a2 a3 a4 a5 a6 a7 a8 a9 :=
  loop_m (σ := A1 × A2 × A3 × A4 × A5 × A6 × A7 × A8 × A9) (fun n s => W n s.1 s.2.1 s.2.2.1 s.2.2.2.1 s.2.2.2.2.1 s.2.2.2.2.2.1 s.2.2.2.2.2.2.1 s.2.2.2.2.2.2.2.1 s.2.2.2.2.2.2.2.2) (fun s => I s.1 s.2.1 s.2.2.1 s.2.2.2.1 s.2.2.2.2.1 s.2.2.2.2.2.1 s.2.2.2.2.2.2.1 s.2.2.2.2.2.2.2.1 s.2.2.2.2.2.2.2.2) (fun s => μ s.1 s.2.1 s.2.2.1 s.2.2.2.1 s.2.2.2.2.1 s.2.2.2.2.2.1 s.2.2.2.2.2.2.1 s.2.2.2.2.2.2.2.1 s.2.2.2.2.2.2.2.2) (fun n s hI hk => hs n s.1 s.2.1 s.2.2.1 s.2.2.2.1 s.2.2.2.2.1 s.2.2.2.2.2.1 s.2.2.2.2.2.2.1 s.2.2.2.2.2.2.2.1 s.2.2.2.2.2.2.2.2 hI (fun b1 b2 b3 b4 b5 b6 b7 b8 b9 h9 hm => hk (b1, b2, b3, b4, b5, b6, b7, b8, b9) h9 hm)) (a1, a2, a3, a4, a5, a6, a7, a8, a9) h
theorem lp10 {A1 A2 A3 A4 A5 A6 A7 A8 A9 A10 : Type} (W : Nat → A1 → A2 → A3 → A4 → A5 → A6 → A7 → A8 → A9 → A10 → Prop) (I : A1 → A2 → A3 → A4 → A5 → A6 → A7 → A8 → A9 → A10 → Prop) (μ : A1 → A2 → A3 → A4 → A5 → A6 → A7 → A8 → A9 → A10 → Nat) (hs : ∀ (n : Nat) (a1 : A1) (a2 : A2) (a3 : A3) (a4 : A4) (a5 : A5) (a6 : A6) (a7 : A7) (a8 : A8) (a9 : A9) (a10 : A10), I a1 a2 a3 a4 a5 a6 a7 a8 a9 a10 → (∀ (b1 : A1) (b2 : A2) (b3 : A3) (b4 : A4) (b5 : A5) (b6 : A6) (b7 : A7) (b8 : A8) (b9 : A9) (b10 : A10), I b1 b2 b3 b4 b5 b6 b7 b8 b9 b10 → μ b1 b2 b3 b4 b5 b6 b7 b8 b9 b10 < μ a1 a2 a3 a4 a5 a6 a7 a8 a9 a10 → W n b1 b2 b3 b4 b5 b6 b7 b8 b9 b10) → W (n + 1) a1 a2 a3 a4 a5 a6 a7 a8 a9 a10) (a1 : A1) (a2 : A2) (a3 : A3) (a4 : A4) (a5 : A5) (a6 : A6) (a7 : A7) (a8 : A8) (a9 : A9) (a10 : A10) (h : I a1 a2 a3 a4 a5 a6 a7 a8 a9 a10) : ∃ n, W n a1 a2 a3 a4 a5 a6 a7 a8 a9 a10 :=
  loop_m (σ := A1 × A2 × A3 × A4 × A5 × A6 × A7 × A8 × A9 × A10) (fun n s => W n s.1 s.2.1 s.2.2.1 s.2.2.2.1 s.2.2.2.2.1 s.2.2.2.2.2.1 s.2.2.2.2.2.2.1 s.2.2.2.2.2.2.2.1 s.2.2.2.2.2.2.2.2.1 s.2.2.2.2.2.2.2.2.2) (fun s => I s.1 s.2.1 s.2.2.1 s.2.2.2.1 s.2.2.2.2.1 s.2.2.2.2.2.1 s.2.2.2.2.2.2.1 s.2.2.2.2.2.2.2.1 s.2.2.2.2.2.2.2.2.1 s.2.2.2.2.2.2.2.2.2) (fun s => μ s.1 s.2.1 s.2.2.1 s.2.2.2.1 s.2.2.2.2.1 s.2.2.2.2.2.1 s.2.2.2.2.2.2.1 s.2.2.2.2.2.2.2.1 s.2.2.2.2.2.2.2.2.1 s.2.2.2.2.2.2.2.2.2) (fun n s hI hk => hs n s.1 s.2.1 s.2.2.1 s.2.2.2.1 s.2.2.2.2.1 s.2.2.2.2.2.1 s.2.2.2.2.2.2.1 s.2.2.2.2.2.2.2.1 s.2.2.2.2.2.2.2.2.1 s.2.2.2.2.2.2.2.2.2 hI (fun b1 b2 b3 b4 b5 b6 b7 b8 b9 b10 h9 hm => hk (b1, b2, b3, b4, b5, b6, b7, b8, b9, b10) h9 hm)) (a1, a2, a3, a4, a5, a6, a7, a8, a9, a10) h
theorem lp11 {A1 A2 A3 A4 A5 A6 A7 A8 A9 A10 A11 : Type} (W : Nat → A1 → A2 → A3 → A4 → A5 → A6 → A7 → A8 → A9 → A10 → A11 → Prop) (I : A1 → A2 → A3 → A4 → A5 → A6 → A7 → A8 → A9 → A10 → A11 → Prop) (μ : A1 → A2 → A3 → A4 → A5 → A6 → A7 → A8 → A9 → A10 → A11 → Nat) (hs : ∀ (n : Nat) (a1 : A1) (a2 : A2) (a3 : A3) (a4 : A4) (a5 : A5) (a6 : A6) (a7 : A7) (a8 : A8) (a9 : A9) (a10 : A10) (a11 : A11), I a1 a2 a3 a4 a5 a6 a7 a8 a9 a10 a11 → (∀ (b1 : A1) (b2 : A2) (b3 : A3) (b4 : A4) (b5 : A5) (b6 : A6) (b7 : A7) (b8 : A8) (b9 : A9) (b10 : A10) (b11 : A11), I b1 b2 b3 b4 b5 b6 b7 b8 b9 b10 b11 → μ b1 b2 b3 b4 b5 b6 b7 b8 b9 b10 b11 < μ a1 a2 a3 a4 a5 a6 a7 a8 a9 a10 a11 → W n b1 b2 b3 b4 b5 b6 b7 b8 b9 b10 b11) → W (n + 1) a1 a2 a3 a4 a5 a6 a7 a8 a9 a10 a11) (a1 : A1) (a2 : A2) (a3 : A3) (a4 : A4) (a5 : A5) (a6 : A6) (a7 : A7) (a8 : A8) (a9 : A9) (a10 : A10) (a11 : A11) (h : I a1 a2 a3 a4 a5 a6 a7 a8 a9 a10 a11) : ∃ n, W n a1 a2 a3 a4 a5 a6 a7 a8 a9 a10 a11 :=
  loop_m (σ := A1 × A2 × A3 × A4 × A5 × A6 × A7 × A8 × A9 × A10 × A11) (fun n s => W n s.1 s.2.1 s.2.2.1 s.2.2.2.1 s.2.2.2.2.1 s.2.2.2.2.2.1 s.2.2.2.2.2.2.1 s.2.2.2.2.2.2.2.1 s.2.2.2.2.2.2.2.2.1 s.2.2.2.2.2.2.2.2.2.1 s.2.2.2.2.2.2.2.2.2.2) (fun s => I s.1 s.2.1 s.2.2.1 s.2.2.2.1 s.2.2.2.2.1 s.2.2.2.2.2.1 s.2.2.2.2.2.2.1 s.2.2.2.2.2.2.2.1 s.2.2.2.2.2.2.2.2.1 s.2.2.2.2.2.2.2.2.2.1 s.2.2.2.2.2.2.2.2.2.2) (fun s => μ s.1 s.2.1 s.2.2.1 s.2.2.2.1 s.2.2.2.2.1 s.2.2.2.2.2.1 s.2.2.2.2.2.2.1 s.2.2.2.2.2.2.2.1 s.2.2.2.2.2.2.2.2.1 s.2.2.2.2.2.2.2.2.2.1 s.2.2.2.2.2.2.2.2.2.2) (fun n s hI hk => hs n s.1 s.2.1 s.2.2.1 s.2.2.2.1 s.2.2.2.2.1 s.2.2.2.2.2.1 s.2.2.2.2.2.2.1 s.2.2.2.2.2.2.2.1 s.2.2.2.2.2.2.2.2.1 s.2.2.2.2.2.2.2.2.2.1 s.2.2.2.2.2.2.2.2.2.2 hI (fun b1 b2 b3 b4 b5 b6 b7 b8 b9 b10 b11 h9 hm => hk (b1, b2, b3, b4, b5, b6, b7, b8, b9, b10, b11) h9 hm)) (a1, a2, a3, a4, a5, a6, a7, a8, a9, a10, a11) h
theorem lp12 {A1 A2 A3 A4 A5 A6 A7 A8 A9 A10 A11 A12 : Type} (W : Nat → A1 → A2 → A3 → A4 → A5 → A6 → A7 → A8 → A9 → A10 → A11 → A12 → Prop) (I : A1 → A2 → A3 → A4 → A5 → A6 → A7 → A8 → A9 → A10 → A11 → A12 → Prop) (μ : A1 → A2 → A3 → A4 → A5 → A6 → A7 → A8 → A9 → A10 → A11 → A12 → Nat) (hs : ∀ (n : Nat) (a1 : A1) (a2 : A2) (a3 : A3) (a4 : A4) (a5 : A5) (a6 : A6) (a7 : A7) (a8 : A8) (a9 : A9) (a10 : A10) (a11 : A11) (a12 : A12), I a1 a2 a3 a4 a5 a6 a7 a8 a9 a10 a11 a12 → (∀ (b1 : A1) (b2 : A2) (b3 : A3) (b4 : A4) (b5 : A5) (b6 : A6) (b7 : A7) (b8 : A8) (b9 : A9) (b10 : A10) (b11 : A11) (b12 : A12), I b1 b2 b3 b4 b5 b6 b7 b8 b9 b10 b11 b12 → μ b1 b2 b3 b4 b5 b6 b7 b8 b9 b10 b11 b12 < μ a1 a2 a3 a4 a5 a6 a7 a8 a9 a10 a11 a12 → W n b1 b2 b3 b4 b5 b6 b7 b8 b9 b10 b11 b12) → W (n + 1) a1 a2 a3 a4 a5 a6 a7 a8 a9 a10 a11 a12) (a1 : A1) (a2 : A2) (a3 : A3) (a4 : A4) (a5 : A5) (a6 : A6) (a7 : A7) (a8 : A8) (a9 : A9) (a10 : A10) (a11 : A11) (a12 : A12) (h : I a1 a2 a3 a4 a5 a6 a7 a8 a9 a10 a11 a12) : ∃ n, W n a1 a2 a3 a4 a5 a6 a7 a8 a9 a10 a11 a12 :=
  loop_m (σ := A1 × A2 × A3 × A4 × A5 × A6 × A7 × A8 × A9 × A10 × A11 × A12) (fun n s => W n s.1 s.2.1 s.2.2.1 s.2.2.2.1 s.2.2.2.2.1 s.2.2.2.2.2.1 s.2.2.2.2.2.2.1 s.2.2.2.2.2.2.2.1 s.2.2.2.2.2.2.2.2.1 s.2.2.2.2.2.2.2.2.2.1 s.2.2.2.2.2.2.2.2.2.2.1 s.2.2.2.2.2.2.2.2.2.2.2) (fun s => I s.1 s.2.1 s.2.2.1 s.2.2.2.1 s.2.2.2.2.1 s.2.2.2.2.2.1 s.2.2.2.2.2.2.1 s.2.2.2.2.2.2.2.1 s.2.2.2.2.2.2.2.2.1 s.2.2.2.2.2.2.2.2.2.1 s.2.2.2.2.2.2.2.2.2.2.1 s.2.2.2.2.2.2.2.2.2.2.2) (fun s => μ s.1 s.2.1 s.2.2.1 s.2.2.2.1 s.2.2.2.2.1 s.2.2.2.2.2.1 s.2.2.2.2.2.2.1 s.2.2.2.2.2.2.2.1 s.2.2.2.2.2.2.2.2.1 s.2.2.2.2.2.2.2.2.2.1 s.2.2.2.2.2.2.2.2.2.2.1 s.2.2.2.2.2.2.2.2.2.2.2) (fun n s hI hk => hs n s.1 s.2.1 s.2.2.1 s.2.2.2.1 s.2.2.2.2.1 s.2.2.2.2.2.1 s.2.2.2.2.2.2.1 s.2.2.2.2.2.2.2.1 s.2.2.2.2.2.2.2.2.1 s.2.2.2.2.2.2.2.2.2.1 s.2.2.2.2.2.2.2.2.2.2.1 s.2.2.2.2.2.2.2.2.2.2.2 hI (fun b1 b2 b3 b4 b5 b6 b7 b8 b9 b10 b11 b12 h9 hm => hk (b1, b2, b3, b4, b5, b6, b7, b8, b9, b10, b11, b12) h9 hm)) (a1, a2, a3, a4, a5, a6, a7, a8, a9, a10, a11, a12) h
theorem lp13 {A1 A2 A3 A4 A5 A6 A7 A8 A9 A10 A11 A12 A13 : Type} (W : Nat → A1 → A2 → A3 → A4 → A5 → A6 → A7 → A8 → A9 → A10 → A11 → A12 → A13 → Prop) (I : A1 → A2 → A3 → A4 → A5 → A6 → A7 → A8 → A9 → A10 → A11 → A12 → A13 → Prop) (μ : A1 → A2 → A3 → A4 → A5 → A6 → A7 → A8 → A9 → A10 → A11 → A12 → A13 → Nat) (hs : ∀ (n : Nat) (a1 : A1) (a2 : A2) (a3 : A3) (a4 : A4) (a5 : A5) (a6 : A6) (a7 : A7) (a8 : A8) (a9 : A9) (a10 : A10) (a11 : A11) (a12 : A12) (a13 : A13), I a1 a2 a3 a4 a5 a6 a7 a8 a9 a10 a11 a12 a13 → (∀ (b1 : A1) (b2 : A2) (b3 : A3) (b4 : A4) (b5 : A5) (b6 : A6) (b7 : A7) (b8 : A8) (b9 : A9) (b10 : A10) (b11 : A11) (b12 : A12) (b13 : A13), I b1 b2 b3 b4 b5 b6 b7 b8 b9 b10 b11 b12 b13 → μ b1 b2 b3 b4 b5 b6 b7 b8 b9 b10 b11 b12 b13 < μ a1 a2 a3 a4 a5 a6 a7 a8 a9 a10 a11 a12 a13 → W n b1 b2 b3 b4 b5 b6 b7 b8 b9 b10 b11 b12 b13) → W (n + 1) a1 a2 a3 a4 a5 a6 a7 a8 a9 a10 a11 a12 a13) (a1 : A1) (a2 : A2) (a3 : A3) (a4 : A4) (a5 : A5) (a6 : A6) (a7 : A7) (a8 : A8) (a9 : A9) (a10 : A10) (a11 : A11) (a12 : A12) (a13 : A13) (h : I a1 a2 a3 a4 a5 a6 a7 a8 a9 a10 a11 a12 a13) : ∃ n, W n a1 a2 a3 a4 a5 a6 a7 a8 a9 a10 a11 a12 a13 :=
  loop_m (σ := A1 × A2 × A3 × A4 × A5 × A6 × A7 × A8 × A9 × A10 × A11 × A12 × A13) (fun n s => W n s.1 s.2.1 s.2.2.1 s.2.2.2.1 s.2.2.2.2.1 s.2.2.2.2.2.1 s.2.2.2.2.2.2.1 s.2.2.2.2.2.2.2.1 s.2.2.2.2.2.2.2.2.1 s.2.2.2.2.2.2.2.2.2.1 s.2.2.2.2.2.2.2.2.2.2.1 s.2.2.2.2.2.2.2.2.2.2.2.1 s.2.2.2.2.2.2.2.2.2.2.2.2) (fun s => I s.1 s.2.1 s.2.2.1 s.2.2.2.1 s.2.2.2.2.1 s.2.2.2.2.2.1 s.2.2.2.2.2.2.1 s.2.2.2.2.2.2.2.1 s.2.2.2.2.2.2.2.2.1 s.2.2.2.2.2.2.2.2.2.1 s.2.2.2.2.2.2.2.2.2.2.1 s.2.2.2.2.2.2.2.2.2.2.2.1 s.2.2.2.2.2.2.2.2.2.2.2.2) (fun s => μ s.1 s.2.1 s.2.2.1 s.2.2.2.1 s.2.2.2.2.1 s.2.2.2.2.2.1 s.2.2.2.2.2.2.1 s.2.2.2.2.2.2.2.1 s.2.2.2.2.2.2.2.2.1 s.2.2.2.2.2.2.2.2.2.1 s.2.2.2.2.2.2.2.2.2.2.1 s.2.2.2.2.2.2.2.2.2.2.2.1 s.2.2.2.2.2.2.2.2.2.2.2.2) (fun n s hI hk => hs n s.1 s.2.1 s.2.2.1 s.2.2.2.1 s.2.2.2.2.1 s.2.2.2.2.2.1 s.2.2.2.2.2.2.1 s.2.2.2.2.2.2.2.1 s.2.2.2.2.2.2.2.2.1 s.2.2.2.2.2.2.2.2.2.1 s.2.2.2.2.2.2.2.2.2.2.1 s.2.2.2.2.2.2.2.2.2.2.2.1 s.2.2.2.2.2.2.2.2.2.2.2.2 hI (fun b1 b2 b3 b4 b5 b6 b7 b8 b9 b10 b11 b12 b13 h9 hm => hk (b1, b2, b3, b4, b5, b6, b7, b8, b9, b10, b11, b12, b13) h9 hm)) (a1, a2, a3, a4, a5, a6, a7, a8, a9, a10, a11, a12, a13) h
theorem lp14 {A1 A2 A3 A4 A5 A6 A7 A8 A9 A10 A11 A12 A13 A14 : Type} (W : Nat → A1 → A2 → A3 → A4 → A5 → A6 → A7 → A8 → A9 → A10 → A11 → A12 → A13 → A14 → Prop) (I : A1 → A2 → A3 → A4 → A5 → A6 → A7 → A8 → A9 → A10 → A11 → A12 → A13 → A14 → Prop) (μ : A1 → A2 → A3 → A4 → A5 → A6 → A7 → A8 → A9 → A10 → A11 → A12 → A13 → A14 → Nat) (hs : ∀ (n : Nat) (a1 : A1) (a2 : A2) (a3 : A3) (a4 : A4) (a5 : A5) (a6 : A6) (a7 : A7) (a8 : A8) (a9 : A9) (a10 : A10) (a11 : A11) (a12 : A12) (a13 : A13) (a14 : A14), I a1 a2 a3 a4 a5 a6 a7 a8 a9 a10 a11 a12 a13 a14 → (∀ (b1 : A1) (b2 : A2) (b3 : A3) (b4 : A4) (b5 : A5) (b6 : A6) (b7 : A7) (b8 : A8) (b9 : A9) (b10 : A10) (b11 : A11) (b12 : A12) (b13 : A13) (b14 : A14), I b1 b2 b3 b4 b5 b6 b7 b8 b9 b10 b11 b12 b13 b14 → μ b1 b2 b3 b4 b5 b6 b7 b8 b9 b10 b11 b12 b13 b14 < μ a1 a2 a3 a4 a5 a6 a7 a8 a9 a10 a11 a12 a13 a14 → W n b1 b2 b3 b4 b5 b6 b7 b8 b9 b10 b11 b12 b13 b14) → W (n + 1) a1 a2 a3 a4 a5 a6 a7 a8 a9 a10 a11 a12 a13 a14) (a1 : A1) (a2 : A2) (a3 : A3) (a4 : A4) (a5 : A5) (a6 : A6) (a7 : A7) (a8 : A8) (a9 : A9) (a10 : A10) (a11 : A11) (a12 : A12) (a13 : A13) (a14 : A14) (h : I a1 a2 a3 a4 a5 a6 a7 a8 a9 a10 a11 a12 a13 a14) : ∃ n, W n a1 a2 a3 a4 a5 a6 a7 a8 a9 a10 a11 a12 a13 a14 :=
  loop_m (σ := A1 × A2 × A3 × A4 × A5 × A6 × A7 × A8 × A9 × A10 × A11 × A12 × A13 × A14) (fun n s => W n s.1 s.2.1 s.2.2.1 s.2.2.2.1 s.2.2.2.2.1 s.2.2.2.2.2.1 s.2.2.2.2.2.2.1 s.2.2.2.2.2.2.2.1 s.2.2.2.2.2.2.2.2.1 s.2.2.2.2.2.2.2.2.2.1 s.2.2.2.2.2.2.2.2.2.2.1 s.2.2.2.2.2.2.2.2.2.2.2.1 s.2.2.2.2.2.2.2.2.2.2.2.2.1 s.2.2.2.2.2.2.2.2.2.2.2.2.2) (fun s => I s.1 s.2.1 s.2.2.1 s.2.2.2.1 s.2.2.2.2.1 s.2.2.2.2.2.1 s.2.2.2.2.2.2.1 s.2.2.2.2.2.2.2.1 s.2.2.2.2.2.2.2.2.1 s.2.2.2.2.2.2.2.2.2.1 s.2.2.2.2.2.2.2.2.2.2.1 s.2.2.2.2.2.2.2.2.2.2.2.1 s.2.2.2.2.2.2.2.2.2.2.2.2.1 s.2.2.2.2.2.2.2.2.2.2.2.2.2) (fun s => μ s.1 s.2.1 s.2.2.1 s.2.2.2.1 s.2.2.2.2.1 s.2.2.2.2.2.1 s.2.2.2.2.2.2.1 s.2.2.2.2.2.2.2.1 s.2.2.2.2.2.2.2.2.1 s.2.2.2.2.2.2.2.2.2.1 s.2.2.2.2.2.2.2.2.2.2.1 s.2.2.2.2.2.2.2.2.2.2.2.1 s.2.2.2.2.2.2.2.2.2.2.2.2.1 s.2.2.2.2.2.2.2.2.2.2.2.2.2) (fun n s hI hk => hs n s.1 s.2.1 s.2.2.1 s.2.2.2.1 s.2.2.2.2.1 s.2.2.2.2.2.1 s.2.2.2.2.2.2.1 s.2.2.2.2.2.2.2.1 s.2.2.2.2.2.2.2.2.1 s.2.2.2.2.2.2.2.2.2.1 s.2.2.2.2.2.2.2.2.2.2.1 s.2.2.2.2.2.2.2.2.2.2.2.1 s.2.2.2.2.2.2.2.2.2.2.2.2.1 s.2.2.2.2.2.2.2.2.2.2.2.2.2 hI (fun b1 b2 b3 b4 b5 b6 b7 b8 b9 b10 b11 b12 b13 b14 h9 hm => hk (b1, b2, b3, b4, b5, b6, b7, b8, b9, b10, b11, b12, b13, b14) h9 hm)) (a1, a2, a3, a4, a5, a6, a7, a8, a9, a10, a11, a12, a13, a14) h
theorem lp15 {A1 A2 A3 A4 A5 A6 A7 A8 A9 A10 A11 A12 A13 A14 A15 : Type} (W : Nat → A1 → A2 → A3 → A4 → A5 → A6 → A7 → A8 → A9 → A10 → A11 → A12 → A13 → A14 → A15 → Prop) (I : A1 → A2 → A3 → A4 → A5 → A6 → A7 → A8 → A9 → A10 → A11 → A12 → A13 → A14 → A15 → Prop) (μ : A1 → A2 → A3 → A4 → A5 → A6 → A7 → A8 → A9 → A10 → A11 → A12 → A13 → A14 → A15 → Nat) (hs : ∀ (n : Nat) (a1 : A1) (a2 : A2) (a3 : A3) (a4 : A4) (a5 : A5) (a6 : A6) (a7 : A7) (a8 : A8) (a9 : A9) (a10 : A10) (a11 : A11) (a12 : A12) (a13 : A13) (a14 : A14) (a15 : A15), I a1 a2 a3 a4 a5 a6 a7 a8 a9 a10 a11 a12 a13 a14 a15 → (∀ (b1 : A1) (b2 : A2) (b3 : A3) (b4 : A4) (b5 : A5) (b6 : A6) (b7 : A7) (b8 : A8) (b9 : A9) (b10 : A10) (b11 : A11) (b12 : A12) (b13 : A13) (b14 : A14) (b15 : A15), I b1 b2 b3 b4 b5 b6 b7 b8 b9 b10 b11 b12 b13 b14 b15 → μ b1 b2 b3 b4 b5 b6 b7 b8 b9 b10 b11 b12 b13 b14 b15 < μ a1 a2 a3 a4 a5 a6 a7 a8 a9 a10 a11 a12 a13 a14 a15 → W n b1 b2 b3 b4 b5 b6 b7 b8 b9 b10 b11 b12 b13 b14 b15) → W (n + 1) a1 a2 a3 a4 a5 a6 a7 a8 a9 a10 a11 a12 a13 a14 a15) (a1 : A1) (a2 : A2) (a3 : A3) (a4 : A4) (a5 : A5) (a6 : A6) (a7 : A7) (a8 : A8) (a9 : A9) (a10 : A10) (a11 : A11) (a12 : A12) (a13 : A13) (a14 : A14) (a15 : A15) (h : I a1 a2 a3 a4 a5 a6 a7 a8 a9 a10 a11 a12 a13 a14 a15) : ∃ n, W n a1 a2 a3 a4 a5 a6 a7 a8 a9 a10 a11 a12 a13 a14 a15 :=
  loop_m (σ := A1 × A2 × A3 × A4 × A5 × A6 × A7 × A8 × A9 × A10 × A11 × A12 × A13 × A14 × A15) (fun n s => W n s.1 s.2.1 s.2.2.1 s.2.2.2.1 s.2.2.2.2.1 s.2.2.2.2.2.1 s.2.2.2.2.2.2.1 s.2.2.2.2.2.2.2.1 s.2.2.2.2.2.2.2.2.1 s.2.2.2.2.2.2.2.2.2.1 s.2.2.2.2.2.2.2.2.2.2.1 s.2.2.2.2.2.2.2.2.2.2.2.1 s.2.2.2.2.2.2.2.2.2.2.2.2.1 s.2.2.2.2.2.2.2.2.2.2.2.2.2.1 s.2.2.2.2.2.2.2.2.2.2.2.2.2.2) (fun s => I s.1 s.2.1 s.2.2.1 s.2.2.2.1 s.2.2.2.2.1 s.2.2.2.2.2.1 s.2.2.2.2.2.2.1 s.2.2.2.2.2.2.2.1 s.2.2.2.2.2.2.2.2.1 s.2.2.2.2.2.2.2.2.2.1 s.2.2.2.2.2.2.2.2.2.2.1 s.2.2.2.2.2.2.2.2.2.2.2.1 s.2.2.2.2.2.2.2.2.2.2.2.2.1 s.2.2.2.2.2.2.2.2.2.2.2.2.2.1 s.2.2.2.2.2.2.2.2.2.2.2.2.2.2) (fun s => μ s.1 s.2.1 s.2.2.1 s.2.2.2.1 s.2.2.2.2.1 s.2.2.2.2.2.1 s.2.2.2.2.2.2.1 s.2.2.2.2.2.2.2.1 s.2.2.2.2.2.2.2.2.1 s.2.2.2.2.2.2.2.2.2.1 s.2.2.2.2.2.2.2.2.2.2.1 s.2.2.2.2.2.2.2.2.2.2.2.1 s.2.2.2.2.2.2.2.2.2.2.2.2.1 s.2.2.2.2.2.2.2.2.2.2.2.2.2.1 s.2.2.2.2.2.2.2.2.2.2.2.2.2.2) (fun n s hI hk => hs n s.1 s.2.1 s.2.2.1 s.2.2.2.1 s.2.2.2.2.1 s.2.2.2.2.2.1 s.2.2.2.2.2.2.1 s.2.2.2.2.2.2.2.1 s.2.2.2.2.2.2.2.2.1 s.2.2.2.2.2.2.2.2.2.1 s.2.2.2.2.2.2.2.2.2.2.1 s.2.2.2.2.2.2.2.2.2.2.2.1 s.2.2.2.2.2.2.2.2.2.2.2.2.1 s.2.2.2.2.2.2.2.2.2.2.2.2.2.1 s.2.2.2.2.2.2.2.2.2.2.2.2.2.2 hI (fun b1 b2 b3 b4 b5 b6 b7 b8 b9 b10 b11 b12 b13 b14 b15 h9 hm => hk (b1, b2, b3, b4, b5, b6, b7, b8, b9, b10, b11, b12, b13, b14, b15) h9 hm)) (a1, a2, a3, a4, a5, a6, a7, a8, a9, a10, a11, a12, a13, a14, a15) h
theorem lp16 {A1 A2 A3 A4 A5 A6 A7 A8 A9 A10 A11 A12 A13 A14 A15 A16 : Type} (W : Nat → A1 → A2 → A3 → A4 → A5 → A6 → A7 → A8 → A9 → A10 → A11 → A12 → A13 → A14 → A15 → A16 → Prop) (I : A1 → A2 → A3 → A4 → A5 → A6 → A7 → A8 → A9 → A10 → A11 → A12 → A13 → A14 → A15 → A16 → Prop) (μ : A1 → A2 → A3 → A4 → A5 → A6 → A7 → A8 → A9 → A10 → A11 → A12 → A13 → A14 → A15 → A16 → Nat) (hs : ∀ (n : Nat) (a1 : A1) (a2 : A2) (a3 : A3) (a4 : A4) (a5 : A5) (a6 : A6) (a7 : A7) (a8 : A8) (a9 : A9) (a10 : A10) (a11 : A11) (a12 : A12) (a13 : A13) (a14 : A14) (a15 : A15) (a16 : A16), I a1 a2 a3 a4 a5 a6 a7 a8 a9 a10 a11 a12 a13 a14 a15 a16 → (∀ (b1 : A1) (b2 : A2) (b3 : A3) (b4 : A4) (b5 : A5) (b6 : A6) (b7 : A7) (b8 : A8) (b9 : A9) (b10 : A10) (b11 : A11) (b12 : A12) (b13 : A13) (b14 : A14) (b15 : A15) (b16 : A16), I b1 b2 b3 b4 b5 b6 b7 b8 b9 b10 b11 b12 b13 b14 b15 b16 → μ b1 b2 b3 b4 b5 b6 b7 b8 b9 b10 b11 b12 b13 b14 b15 b16 < μ a1 a2 a3 a4 a5 a6 a7 a8 a9 a10 a11 a12 a13 a14 a15 a16 → W n b1 b2 b3 b4 b5 b6 b7 b8 b9 b10 b11 b12 b13 b14 b15 b16) → W (n + 1) a1 a2 a3 a4 a5 a6 a7 a8 a9 a10 a11 a12 a13 a14 a15 a16) (a1 : A1) (a2 : A2) (a3 : A3) (a4 : A4) (a5 : A5) (a6 : A6) (a7 : A7) (a8 : A8) (a9 : A9) (a10 : A10) (a11 : A11) (a12 : A12) (a13 : A13) (a14 : A14) (a15 : A15) (a16 : A16) (h : I a1 a2 a3 a4 a5 a6 a7 a8 a9 a10 a11 a12 a13 a14 a15 a16) : ∃ n, W n a1 a2 a3 a4 a5 a6 a7 a8 a9 a10 a11 a12 a13 a14 a15 a16 :=
  loop_m (σ := A1 × A2 × A3 × A4 × A5 × A6 × A7 × A8 × A9 × A10 × A11 × A12 × A13 × A14 × A15 × A16) (fun n s => W n s.1 s.2.1 s.2.2.1 s.2.2.2.1 s.2.2.2.2.1 s.2.2.2.2.2.1 s.2.2.2.2.2.2.1 s.2.2.2.2.2.2.2.1 s.2.2.2.2.2.2.2.2.1 s.2.2.2.2.2.2.2.2.2.1 s.2.2.2.2.2.2.2.2.2.2.1 s.2.2.2.2.2.2.2.2.2.2.2.1 s.2.2.2.2.2.2.2.2.2.2.2.2.1 s.2.2.2.2.2.2.2.2.2.2.2.2.2.1 s.2.2.2.2.2.2.2.2.2.2.2.2.2.2.1 s.2.2.2.2.2.2.2.2.2.2.2.2.2.2.2) (fun s => I s.1 s.2.1 s.2.2.1 s.2.2.2.1 s.2.2.2.2.1 s.2.2.2.2.2.1 s.2.2.2.2.2.2.1 s.2.2.2.2.2.2.2.1 s.2.2.2.2.2.2.2.2.1 s.2.2.2.2.2.2.2.2.2.1 s.2.2.2.2.2.2.2.2.2.2.1 s.2.2.2.2.2.2.2.2.2.2.2.1 s.2.2.2.2.2.2.2.2.2.2.2.2.1 s.2.2.2.2.2.2.2.2.2.2.2.2.2.1 s.2.2.2.2.2.2.2.2.2.2.2.2.2.2.1 s.2.2.2.2.2.2.2.2.2.2.2.2.2.2.2) (fun s => μ s.1 s.2.1 s.2.2.1 s.2.2.2.1 s.2.2.2.2.1 s.2.2.2.2.2.1 s.2.2.2.2.2.2.1 s.2.2.2.2.2.2.2.1 s.2.2.2.2.2.2.2.2.1 s.2.2.2.2.2.2.2.2.2.1 s.2.2.2.2.2.2.2.2.2.2.1 s.2.2.2.2.2.2.2.2.2.2.2.1 s.2.2.2.2.2.2.2.2.2.2.2.2.1 s.2.2.2.2.2.2.2.2.2.2.2.2.2.1 s.2.2.2.2.2.2.2.2.2.2.2.2.2.2.1 s.2.2.2.2.2.2.2.2.2.2.2.2.2.2.2) (fun n s hI hk => hs n s.1 s.2.1 s.2.2.1 s.2.2.2.1 s.2.2.2.2.1 s.2.2.2.2.2.1 s.2.2.2.2.2.2.1 s.2.2.2.2.2.2.2.1 s.2.2.2.2.2.2.2.2.1 s.2.2.2.2.2.2.2.2.2.1 s.2.2.2.2.2.2.2.2.2.2.1 s.2.2.2.2.2.2.2.2.2.2.2.1 s.2.2.2.2.2.2.2.2.2.2.2.2.1 s.2.2.2.2.2.2.2.2.2.2.2.2.2.1 s.2.2.2.2.2.2.2.2.2.2.2.2.2.2.1 s.2.2.2.2.2.2.2.2.2.2.2.2.2.2.2 hI (fun b1 b2 b3 b4 b5 b6 b7 b8 b9 b10 b11 b12 b13 b14 b15 b16 h9 hm => hk (b1, b2, b3, b4, b5, b6, b7, b8, b9, b10, b11, b12, b13, b14, b15, b16) h9 hm)) (a1, a2, a3, a4, a5, a6, a7, a8, a9, a10, a11, a12, a13, a14, a15, a16) h
theorem pk_least (P : Nat → Prop) (h : ∃ k, P k) : ∃ k, P k ∧ ∀ j, j < k → ¬ P j := by
  obtain ⟨k, hk⟩ := h
  induction k using Nat.strongRecOn with
  | ind k ih =>
    by_cases e : ∃ j, j < k ∧ P j
    · obtain ⟨j, hj, pj⟩ := e
      exact ih j hj pj
    · exact ⟨k, hk, fun j hj pj => e ⟨j, hj, pj⟩⟩
theorem rp1 {ρ A1 : Type} (W : Nat → (ρ → Prop) → A1 → Prop) (ok : A1 → Prop) (μ : A1 → Nat) (val : A1 → ρ)
    (hs : ∀ (d : Nat) (post : ρ → Prop) (a1 : A1), ok a1 → post (val a1) → (∀ (post' : ρ → Prop) (b1 : A1), ok b1 → μ b1 < μ a1 → post' (val b1) → W d post' b1) → W (d + 1) post a1) :
    ∀ (d : Nat) (post : ρ → Prop) (a1 : A1), ok a1 → μ a1 < d → post (val a1) → W d post a1 := by
  intro d
  induction d with
  | zero => intro post a1 _ h; omega
  | succ d ih =>
    intro post a1 ho hm hp
    exact hs d post a1 ho hp (fun post' b1 ho' hm' hp' => ih post' b1 ho' (by omega) hp')
theorem rp2 {ρ A1 A2 : Type} (W : Nat → (ρ → Prop) → A1 → A2 → Prop) (ok : A1 → A2 → Prop) (μ : A1 → A2 → Nat) (val : A1 → A2 → ρ)
    (hs : ∀ (d : Nat) (post : ρ → Prop) (a1 : A1) (a2 : A2), ok a1 a2 → post (val a1 a2) → (∀ (post' : ρ → Prop) (b1 : A1) (b2 : A2), ok b1 b2 → μ b1 b2 < μ a1 a2 → post' (val b1 b2) → W d post' b1 b2) → W (d + 1) post a1 a2) :
    ∀ (d : Nat) (post : ρ → Prop) (a1 : A1) (a2 : A2), ok a1 a2 → μ a1 a2 < d → post (val a1 a2) → W d post a1 a2 := by
  intro d
  induction d with
  | zero => intro post a1 a2 _ h; omega
  | succ d ih =>
    intro post a1 a2 ho hm hp
    exact hs d post a1 a2 ho hp (fun post' b1 b2 ho' hm' hp' => ih post' b1 b2 ho' (by omega) hp')
theorem rp3 {ρ A1 A2 A3 : Type} (W : Nat → (ρ → Prop) → A1 → A2 → A3 → Prop) (ok : A1 → A2 → A3 → Prop) (μ : A1 → A2 → A3 → Nat) (val : A1 → A2 → A3 → ρ)
    (hs : ∀ (d : Nat) (post : ρ → Prop) (a1 : A1) (a2 : A2) (a3 : A3), ok a1 a2 a3 → post (val a1 a2 a3) → (∀ (post' : ρ → Prop) (b1 : A1) (b2 : A2) (b3 : A3), ok b1 b2 b3 → μ b1 b2 b3 < μ a1 a2 a3 → post' (val b1 b2 b3) → W d post' b1 b2 b3) → W (d + 1) post a1 a2 a3) :
    ∀ (d : Nat) (post : ρ → Prop) (a1 : A1) (a2 : A2) (a3 : A3), ok a1 a2 a3 → μ a1 a2 a3 < d → post (val a1 a2 a3) → W d post a1 a2 a3 := by
  intro d
  induction d with
  | zero => intro post a1 a2 a3 _ h; omega
  | succ d ih =>
    intro post a1 a2 a3 ho hm hp
    exact hs d post a1 a2 a3 ho hp (fun post' b1 b2 b3 ho' hm' hp' => ih post' b1 b2 b3 ho' (by omega) hp')
theorem rp4 {ρ A1 A2 A3 A4 : Type} (W : Nat → (ρ → Prop) → A1 → A2 → A3 → A4 → Prop) (ok : A1 → A2 → A3 → A4 → Prop) (μ : A1 → A2 → A3 → A4 → Nat) (val : A1 → A2 → A3 → A4 → ρ)
    (hs : ∀ (d : Nat) (post : ρ → Prop) (a1 : A1) (a2 : A2) (a3 : A3) (a4 : A4), ok a1 a2 a3 a4 → post (val a1 a2 a3 a4) → (∀ (post' : ρ → Prop) (b1 : A1) (b2 : A2) (b3 : A3) (b4 : A4), ok b1 b2 b3 b4 → μ b1 b2 b3 b4 < μ a1 a2 a3 a4 → post' (val b1 b2 b3 b4) → W d post' b1 b2 b3 b4) → W (d + 1) post a1 a2 a3 a4) :
    ∀ (d : Nat) (post : ρ → Prop) (a1 : A1) (a2 : A2) (a3 : A3) (a4 : A4), ok a1 a2 a3 a4 → μ a1 a2 a3 a4 < d → post (val a1 a2 a3 a4) → W d post a1 a2 a3 a4 := by
  intro d
  induction d with
  | zero => intro post a1 a2 a3 a4 _ h; omega
  | succ d ih =>
    intro post a1 a2 a3 a4 ho hm hp
    exact hs d post a1 a2 a3 a4 ho hp (fun post' b1 b2 b3 b4 ho' hm' hp' => ih post' b1 b2 b3 b4 ho' (by omega) hp')
theorem rp5 {ρ A1 A2 A3 A4 A5 : Type} (W : Nat → (ρ → Prop) → A1 → A2 → A3 → A4 → A5 → Prop) (ok : A1 → A2 → A3 → A4 → A5 → Prop) (μ : A1 → A2 → A3 → A4 → A5 → Nat) (val : A1 → A2 → A3 → A4 → A5 → ρ)
    (hs : ∀ (d : Nat) (post : ρ → Prop) (a1 : A1) (a2 : A2) (a3 : A3) (a4 : A4) (a5 : A5), ok a1 a2 a3 a4 a5 → post (val a1 a2 a3 a4 a5) → (∀ (post' : ρ → Prop) (b1 : A1) (b2 : A2) (b3 : A3) (b4 : A4) (b5 : A5), ok b1 b2 b3 b4 b5 → μ b1 b2 b3 b4 b5 < μ a1 a2 a3 a4 a5 → post' (val b1 b2 b3 b4 b5) → W d post' b1 b2 b3 b4 b5) → W (d + 1) post a1 a2 a3 a4 a5) :
    ∀ (d : Nat) (post : ρ → Prop) (a1 : A1) (a2 : A2) (a3 : A3) (a4 : A4) (a5 : A5), ok a1 a2 a3 a4 a5 → μ a1 a2 a3 a4 a5 < d → post (val a1 a2 a3 a4 a5) → W d post a1 a2 a3 a4 a5 := by
  intro d
  induction d with
  | zero => intro post a1 a2 a3 a4 a5 _ h; omega
  | succ d ih =>
    intro post a1 a2 a3 a4 a5 ho hm hp
    exact hs d post a1 a2 a3 a4 a5 ho hp (fun post' b1 b2 b3 b4 b5 ho' hm' hp' => ih post' b1 b2 b3 b4 b5 ho' (by omega) hp')
theorem rp6 {ρ A1 A2 A3 A4 A5 A6 : Type} (W : Nat → (ρ → Prop) → A1 → A2 → A3 → A4 → A5 → A6 → Prop) (ok : A1 → A2 → A3 → A4 → A5 → A6 → Prop) (μ : A1 → A2 → A3 → A4 → A5 → A6 → Nat) (val : A1 → A2 → A3 → A4 → A5 → A6 → ρ)
    (hs : ∀ (d : Nat) (post : ρ → Prop) (a1 : A1) (a2 : A2) (a3 : A3) (a4 : A4) (a5 : A5) (a6 : A6), ok a1 a2 a3 a4 a5 a6 → post (val a1 a2 a3 a4 a5 a6) → (∀ (post' : ρ → Prop) (b1 : A1) (b2 : A2) (b3 : A3) (b4 : A4) (b5 : A5) (b6 : A6), ok b1 b2 b3 b4 b5 b6 → μ b1 b2 b3 b4 b5 b6 < μ a1 a2 a3 a4 a5 a6 → post' (val b1 b2 b3 b4 b5 b6) → W d post' b1 b2 b3 b4 b5 b6) → W (d + 1) post a1 a2 a3 a4 a5 a6) :
    ∀ (d : Nat) (post : ρ → Prop) (a1 : A1) (a2 : A2) (a3 : A3) (a4 : A4) (a5 : A5) (a6 : A6), ok a1 a2 a3 a4 a5 a6 → μ a1 a2 a3 a4 a5 a6 < d → post (val a1 a2 a3 a4 a5 a6) → W d post a1 a2 a3 a4 a5 a6 := by
  intro d
  induction d with
  | zero => intro post a1 a2 a3 a4 a5 a6 _ h; omega
  | succ d ih =>
    intro post a1 a2 a3 a4 a5 a6 ho hm hp
    exact hs d post a1 a2 a3 a4 a5 a6 ho hp (fun post' b1 b2 b3 b4 b5 b6 ho' hm' hp' => ih post' b1 b2 b3 b4 b5 b6 ho' (by omega) hp')
theorem rec_p {σ ρ : Type} (W : Nat → (ρ → Prop) → σ → Prop) (ok : σ → Prop) (μ : σ → Nat) (val : σ → ρ)
    (hs : ∀ d s post, ok s → post (val s) → (∀ s' post', ok s' → μ s' < μ s → post' (val s') → W d post' s') → W (d + 1) post s) :
    ∀ d s post, ok s → μ s < d → post (val s) → W d post s := by
  intro d
  induction d with
  | zero => intro s post _ h; omega
  | succ d ih =>
    intro s post ho hm hp
    exact hs d s post ho hp (fun s' post' ho' hm' hp' => ih s' post' ho' (by omega) hp')
theorem rec_q {σ ρ : Type} (W : Nat → (ρ → Prop) → σ → Prop) (ok : σ → Prop) (μ : σ → Nat) (Q : σ → ρ → Prop)
    (hs : ∀ d s post, ok s → (∀ r, Q s r → post r) → (∀ s' post', ok s' → μ s' < μ s → (∀ r, Q s' r → post' r) → W d post' s') → W (d + 1) post s) :
    ∀ d s post, ok s → μ s < d → (∀ r, Q s r → post r) → W d post s := by
  intro d
  induction d with
  | zero => intro s post _ h; omega
  | succ d ih =>
    intro s post ho hm hp
    exact hs d s post ho hp (fun s' post' ho' hm' hp' => ih s' post' ho' (by omega) hp')
def bx_sum (f : Nat → Int32) : Nat → Int32
  | 0 => 0
  | n + 1 => bx_sum f n + f n
theorem ek_u {A : Prop} {B : Nat → Prop} {k N : Nat} (hk : k < N) (h : B k) : (some k = none → A) ∧ (∀ y : Nat, some k = some y → (y < N ∧ B y)) :=
  ⟨fun z => absurd z (Option.some_ne_none k), fun _ e => (by cases e; exact ⟨hk, h⟩)⟩
theorem ek_nu {A : Prop} {B : Nat → Prop} (h : A) : ((none : Option Nat) = none → A) ∧ (∀ y : Nat, (none : Option Nat) = some y → B y) :=
  ⟨fun _ => h, fun _ e => (by cases e)⟩
theorem ek_if {c d A B : Prop} (e : c ↔ d) (f : d → A) (g : ¬ d → B) : (c → A) ∧ (¬ c → B) :=
  ⟨fun z => f (e.mp z), fun z => g (fun y => z (e.mpr y))⟩
theorem ek_v {α : Sort _} {P : α → Prop} {a b : α} (e : a = b) (h : P b) : P a := e ▸ h
theorem co_some {x : Option Nat} {A : Prop} {B : Nat → Prop} (i : Nat) (h : B i) (hx : x = some i := by rfl) : (x = none → A) ∧ (∀ y : Nat, x = some y → B y) := by
  subst hx
  exact ⟨fun e => (nomatch e), fun y e => Option.some.inj e ▸ h⟩
theorem co_none {x : Option Nat} {A : Prop} {B : Nat → Prop} (h : A) (hx : x = none := by rfl) : (x = none → A) ∧ (∀ y : Nat, x = some y → B y) := by
  subst hx
  exact ⟨fun _ => h, fun y e => (nomatch e)⟩
theorem co_any {x : Option Nat} {A : Prop} {B : Nat → Prop} (hn : x = none → A) (hs : ∀ i : Nat, x = some i → B i) : (x = none → A) ∧ (∀ y : Nat, x = some y → B y) := ⟨hn, hs⟩
theorem co_2 {P : Nat → Prop} (h0 : P 0) (h1 : P 1) {i : Nat} (hi : i < 2) : P i :=
  match i, hi with
  | 0, _ => h0
  | 1, _ => h1
theorem co_3 {P : Nat → Prop} (h0 : P 0) (h1 : P 1) (h2 : P 2) {i : Nat} (hi : i < 3) : P i :=
  match i, hi with
  | 0, _ => h0
  | 1, _ => h1
  | 2, _ => h2
theorem co_4 {P : Nat → Prop} (h0 : P 0) (h1 : P 1) (h2 : P 2) (h3 : P 3) {i : Nat} (hi : i < 4) : P i :=
  match i, hi with
  | 0, _ => h0
  | 1, _ => h1
  | 2, _ => h2
  | 3, _ => h3
theorem co_dec {N : Nat} {P : Nat → Prop} [DecidablePred P] (h : (List.range N).all (fun i => decide (P i)) = true) {i : Nat} (hi : i < N) : P i := by
  have := List.all_eq_true.mp h i (List.mem_range.mpr hi)
  exact of_decide_eq_true this
theorem co_tab {α : Type} {l : List α} {d : α} {P : α → Prop} (h : ∀ a, a ∈ l → P a) {i : Nat} (hi : i < l.length) : P (l.getD i d) := by
  rw [List.getD_eq_getElem?_getD, List.getElem?_eq_getElem hi]
  exact h _ (List.getElem_mem hi)
theorem pk_mu {x : Int32} {L : Nat} (h0 : ¬ x < 0) (h : ¬ nI L ≤ x) (hL : L < 2 ^ 31) : ∃ j : Nat, j < L ∧ x = nI j ∧ x + 1 = nI (j + 1) ∧ x.toNatClampNeg = j ∧ L - (x + 1).toNatClampNeg < L - x.toNatClampNeg := by
  obtain ⟨j, hj, rfl⟩ := nI_of h0
  have hl : j < L := Nat.not_le.mp fun q => h (nI_le q hj)
  refine ⟨j, hl, rfl, nI_1 j, nI_clamp hj, ?_⟩
  rw [nI_1, nI_clamp (by omega), nI_clamp hj]
  omega
theorem op_s {α : Type} {r : Option α} {A : Prop} {B : α → Prop} {y : α} (h : r = some y) (b : B y) : (r = none → A) ∧ ∀ z, r = some z → B z :=
  ⟨fun e => (by rw [h] at e; cases e), fun z e => (by rw [h] at e; cases e; exact b)⟩
def l_holds {α : Type} (a : Nat → Option Nat) (LP : List Nat) (p : Nat → α) (c : Nat) (b : Nat → α) : Prop :=
  ∀ j, j < c → ∃ y, a j = some y ∧ y ∈ LP ∧ p y = b j
theorem l_holds_0 {α : Type} {a : Nat → Option Nat} {LP : List Nat} {p b : Nat → α} : l_holds a LP p 0 b := fun j h => absurd h (Nat.not_lt_zero j)
theorem l_in_new (LP : List Nat) (q : Nat) : q ∈ LP ++ [q] := List.mem_append.mpr (Or.inr (List.mem_singleton.mpr rfl))
def l_sum (b : Nat → Int32) : Nat → Int32
  | 0 => 0
  | k + 1 => l_sum b k + b k
theorem sb_shr0 (x : Int32) : x >>> ((0 : Int32) &&& 31) = x := by
  rw [show ((0 : Int32) &&& 31) = 0 by decide]
  simp
theorem sb_shl0 (x : Int32) : x <<< ((0 : Int32) &&& 31) = x := by
  rw [show ((0 : Int32) &&& 31) = 0 by decide]
  simp
theorem sb_cl0 : (0 : Int32).toNatClampNeg = 0 := by decide
theorem sb_m1 {p : Nat} (h : 0 < p) : nI p + (-1) = nI (p - 1) := by
  obtain ⟨q, rfl⟩ : ∃ q, p = q + 1 := ⟨p - 1, by omega⟩
  exact pk_m1 q
def sb_b (c : Nat) : Int32 := (nI c).toInt8.toInt32
theorem sb_byte : ∀ c, c < 256 → sb_b c &&& 255 = nI c ∧ ((nI c).toUInt32 % 65536).toInt32 = nI c ∧ nI c ≤ 255 := by decide +kernel
def sb_Fit (a : Nat → Int32) : Prop := ∀ j, fits .byte (.int (a j)) = true
def sb_Lat (t : Nat → Nat) (n : Nat) (a : Nat → Int32) : Prop := ∀ j, j < n → t j < 256 ∧ a j = sb_b (t j)
theorem sb_fitB (c : Nat) : fits .byte (.int (sb_b c)) = true := pk_fb _
theorem sb_fit0 : sb_Fit (fun _ => 0) := fun _ => by
  show fits .byte (.int 0) = true
  decide
theorem sb_fitU {a : Nat → Int32} {k : Nat} {x : Int32} (h : sb_Fit a) (hx : fits .byte (.int x) = true) : sb_Fit (upd a k x) := by
  intro j
  by_cases e : j = k
  · subst e
    rw [pk_us]
    exact hx
  · rw [pk_un e]
    exact h j
def sb_cat (t : Nat → Nat) (n : Nat) (s : Nat → Nat) : Nat → Nat := fun j => if j < n then t j else s (j - n)
theorem sb_cat_lo {t s : Nat → Nat} {n j : Nat} (h : j < n) : sb_cat t n s j = t j := if_pos h
theorem sb_cat_hi {t s : Nat → Nat} {n j : Nat} : sb_cat t n s (n + j) = s j := by
  show (if n + j < n then t (n + j) else s (n + j - n)) = s j
  rw [if_neg (by omega), Nat.add_sub_cancel_left]
theorem sb_latPut {t s : Nat → Nat} {n w : Nat} {a a' : Nat → Int32} (h : sb_Lat t n a) (hk : ∀ j, j < n → a' j = a j) (hs : ∀ i, i < w → s i < 256 ∧ a' (n + i) = sb_b (s i)) : sb_Lat (sb_cat t n s) (n + w) a' := by
  intro j hj
  by_cases e : j < n
  · rw [sb_cat_lo e, hk j e]
    exact h j e
  · obtain ⟨i, rfl⟩ : ∃ i, j = n + i := ⟨j - n, by omega⟩
    rw [sb_cat_hi]
    exact hs i (by omega)
theorem sb_latKeep {t : Nat → Nat} {n : Nat} {a a' : Nat → Int32} (h : sb_Lat t n a) (hk : ∀ j, j < n → a' j = a j) : sb_Lat t n a' := fun j hj => by
  rw [hk j hj]
  exact h j hj
def sb_cap (q m : Nat) : Nat := if q ≤ m then m else if 2 * m + 2 < q then q else 2 * m + 2
def sb_Room (q m mc ms : Nat) : Prop := q ≤ m ∨ (1 ≤ mc ∧ sb_cap q m ≤ ms ∧ sb_cap q m ≤ 65536)
theorem sb_cap_ge (q m : Nat) : q ≤ sb_cap q m := by
  unfold sb_cap
  split
  · omega
  · split <;> omega
theorem sb_cap_gem (q m : Nat) : m ≤ sb_cap q m := by
  unfold sb_cap
  split
  · omega
  · split <;> omega
theorem sb_cap_le {q m mc ms : Nat} (hm : m ≤ 65536) (hr : sb_Room q m mc ms) : sb_cap q m ≤ 65536 := by
  rcases hr with h | h
  · rw [sb_cap, if_pos h]
    exact hm
  · exact h.2.2
theorem sb_at {P : Int32 → Prop} {x y : Int32} (e : x = y) (h : P y) : P x := e ▸ h
def sb_dg (w : Nat) : Nat := if w < 10 then 1 else if w < 100 then 2 else if w < 1000 then 3 else if w < 10000 then 4 else if w < 100000 then 5 else if w < 1000000 then 6 else if w < 10000000 then 7 else if w < 100000000 then 8 else if w < 1000000000 then 9 else 10
def sb_dec (v : Nat) : Nat → Nat := fun i => 48 + v / 10 ^ (sb_dg v - 1 - i) % 10
theorem sb_dg_in (w : Nat) : 1 ≤ sb_dg w ∧ sb_dg w ≤ 10 := by
  unfold sb_dg
  constructor <;> (repeat' split) <;> omega
theorem sb_dg100 {w : Nat} (h : 100 ≤ w) (hw : w < 2 ^ 31) : sb_dg w = sb_dg (w / 100) + 2 := by
  rw [sb_dg, sb_dg, if_neg (show ¬ w < 10 by omega), if_neg (show ¬ w < 100 by omega)]
  by_cases h3 : w < 1000
  · rw [if_pos h3, if_pos (show w / 100 < 10 by omega)]
  rw [if_neg h3, if_neg (show ¬ w / 100 < 10 by omega)]
  by_cases h4 : w < 10000
  · rw [if_pos h4, if_pos (show w / 100 < 100 by omega)]
  rw [if_neg h4, if_neg (show ¬ w / 100 < 100 by omega)]
  by_cases h5 : w < 100000
  · rw [if_pos h5, if_pos (show w / 100 < 1000 by omega)]
  rw [if_neg h5, if_neg (show ¬ w / 100 < 1000 by omega)]
  by_cases h6 : w < 1000000
  · rw [if_pos h6, if_pos (show w / 100 < 10000 by omega)]
  rw [if_neg h6, if_neg (show ¬ w / 100 < 10000 by omega)]
  by_cases h7 : w < 10000000
  · rw [if_pos h7, if_pos (show w / 100 < 100000 by omega)]
  rw [if_neg h7, if_neg (show ¬ w / 100 < 100000 by omega)]
  by_cases h8 : w < 100000000
  · rw [if_pos h8, if_pos (show w / 100 < 1000000 by omega)]
  rw [if_neg h8, if_neg (show ¬ w / 100 < 1000000 by omega)]
  by_cases h9 : w < 1000000000
  · rw [if_pos h9, if_pos (show w / 100 < 10000000 by omega)]
  rw [if_neg h9, if_neg (show ¬ w / 100 < 10000000 by omega)]
  rw [if_pos (show w / 100 < 100000000 by omega)]
theorem sb_negT {w : Nat} (h : w < 2 ^ 31) : (-nI w).toInt = -(w : Int) := by
  rw [Int32.toInt_neg, nI_toInt h]
  exact Int.bmod_eq_of_le (by omega) (by omega)
theorem sb_nle {a b : Nat} (ha : a < 2 ^ 31) (hb : b < 2 ^ 31) : -nI a ≤ -nI b ↔ b ≤ a := by
  rw [Int32.le_iff_toInt_le, sb_negT ha, sb_negT hb]
  omega
theorem sb_nlt {a b : Nat} (ha : a < 2 ^ 31) (hb : b < 2 ^ 31) : -nI a < -nI b ↔ b < a := by
  rw [Int32.lt_iff_toInt_lt, sb_negT ha, sb_negT hb]
  omega
theorem sb_cmp {A B : Prop} {x : Int32} (v c : Nat) (f : c ≤ v → A) (g : v < c → B) (hv : v < 2 ^ 31) (hx : x = -nI c := by rfl) (hc : c < 2 ^ 31 := by omega) : (-nI v ≤ x → A) ∧ (¬ -nI v ≤ x → B) := by
  subst hx
  rw [sb_nle hv hc]
  exact ⟨f, fun z => g (by omega)⟩
theorem sb_ndiv {w : Nat} (hw : w < 2 ^ 31) : (-nI w) / 100 = -nI (w / 100) := by
  apply Int32.toInt_inj.mp
  have h100 : (100 : Int32).toInt = 100 := by decide
  rw [Int32.toInt_div, sb_negT hw, h100, sb_negT (by omega), Int.neg_tdiv, Int.tdiv_eq_ediv_of_nonneg (by omega), Int.bmod_eq_of_le (by omega) (by omega)]
  omega
theorem sb_nrem {w : Nat} (hw : w < 2 ^ 31) : (-nI (w / 100)) * 100 - (-nI w) = nI (w % 100) := by
  have h := pk_rem (a := w) (d := 100) hw (by decide) (by decide)
  rw [pk_div hw (by decide) (by decide)] at h
  rw [← h]
  show (-nI (w / 100)) * nI 100 - (-nI w) = nI w - nI (w / 100) * nI 100
  rw [Int32.neg_mul, Int32.sub_neg, Int32.add_comm, ← Int32.sub_eq_add_neg]
end
section
/-! rows on bits, shifts and unsigned numbers, to paste: each family out of a closed proof of our own, whole with what it rests on; each by itself clean at Lean in its own claim (generation 39, form 5). Take a family whole -/
/-! ===== Int32 by its bits: bt x i ===== -/
def bt (x : Int32) (i : Nat) : Bool := x.toBitVec.getLsbD i
theorem b_ext {x y : Int32} (h : ∀ i, i < 32 → bt x i = bt y i) : x = y := Int32.toBitVec_inj.mp (BitVec.eq_of_getLsbD_eq (fun i hi => h i hi))
theorem b_or (x y : Int32) (i : Nat) : bt (x ||| y) i = (bt x i || bt y i) := by unfold bt; rw [Int32.toBitVec_or, BitVec.getLsbD_or]
theorem b_and (x y : Int32) (i : Nat) : bt (x &&& y) i = (bt x i && bt y i) := by unfold bt; rw [Int32.toBitVec_and, BitVec.getLsbD_and]
theorem b_xor (x y : Int32) (i : Nat) : bt (x ^^^ y) i = (bt x i ^^ bt y i) := by unfold bt; rw [Int32.toBitVec_xor, BitVec.getLsbD_xor]
theorem b_big {x : Int32} {i : Nat} (h : 32 ≤ i) : bt x i = false := BitVec.getLsbD_of_ge _ _ h
theorem b_255 (i : Nat) : bt 255 i = decide (i < 8) := by
  rcases Nat.lt_or_ge i 32 with h | h
  · exact (by decide +kernel : ∀ i, i < 32 → bt 255 i = decide (i < 8)) i h
  · rw [b_big h, decide_eq_false (by omega)]
theorem b_65535 (i : Nat) : bt 65535 i = decide (i < 16) := by
  rcases Nat.lt_or_ge i 32 with h | h
  · exact (by decide +kernel : ∀ i, i < 32 → bt 65535 i = decide (i < 16)) i h
  · rw [b_big h, decide_eq_false (by omega)]
theorem b_m1 : ∀ i, i < 32 → bt (-1) i = true := by decide +kernel
theorem b_0 (i : Nat) : bt 0 i = false := BitVec.getLsbD_zero
theorem s_l : ∀ n, n < 32 → ((nI n &&& 31).toBitVec.smod 32).toNat = n := by decide +kernel
theorem s_u : ∀ n, n < 32 → (((nI n).toUInt32 &&& Int32.toUInt32 31).toBitVec % 32).toNat = n := by decide +kernel
theorem b_shl (n : Nat) (hn : n < 32) (x : Int32) {i : Nat} (hi : i < 32) : bt (x <<< (nI n &&& 31)) i = (decide (n ≤ i) && bt x (i - n)) := by
  unfold bt
  rw [Int32.toBitVec_shiftLeft]
  show (x.toBitVec <<< ((nI n &&& 31).toBitVec.smod 32).toNat).getLsbD i = _
  rw [s_l n hn, BitVec.getLsbD_shiftLeft]
  rcases Nat.lt_or_ge i n with h | h
  · simp [h, Nat.not_le.mpr h]
  · simp [hi, h, Nat.not_lt.mpr h]
theorem b_ushr (n : Nat) (hn : n < 32) (x : Int32) (i : Nat) : bt ((x.toUInt32 >>> ((nI n).toUInt32 &&& Int32.toUInt32 31)).toInt32) i = bt x (n + i) := by
  show (x.toUInt32 >>> ((nI n).toUInt32 &&& Int32.toUInt32 31)).toBitVec.getLsbD i = x.toUInt32.toBitVec.getLsbD (n + i)
  rw [UInt32.toBitVec_shiftRight]
  show (x.toUInt32.toBitVec >>> (((nI n).toUInt32 &&& Int32.toUInt32 31).toBitVec % 32).toNat).getLsbD i = _
  rw [s_u n hn, BitVec.getLsbD_ushiftRight]
theorem b_sshr (n : Nat) (hn : n < 32) (x : Int32) {i : Nat} (hi : i < 32) : bt (x >>> (nI n &&& 31)) i = if n + i < 32 then bt x (n + i) else bt x 31 := by
  unfold bt
  rw [Int32.toBitVec_shiftRight]
  show (x.toBitVec.sshiftRight ((nI n &&& 31).toBitVec.smod 32).toNat).getLsbD i = _
  rw [s_l n hn, BitVec.getLsbD_sshiftRight, BitVec.msb_eq_getLsbD_last]
  simp [hi]
theorem b_shl8 (x : Int32) {i : Nat} (hi : i < 32) : bt (x <<< ((8 : Int32) &&& 31)) i = (decide (8 ≤ i) && bt x (i - 8)) := b_shl 8 (by omega) x hi
theorem b_shl16 (x : Int32) {i : Nat} (hi : i < 32) : bt (x <<< ((16 : Int32) &&& 31)) i = (decide (16 ≤ i) && bt x (i - 16)) := b_shl 16 (by omega) x hi
theorem b_shl24 (x : Int32) {i : Nat} (hi : i < 32) : bt (x <<< ((24 : Int32) &&& 31)) i = (decide (24 ≤ i) && bt x (i - 24)) := b_shl 24 (by omega) x hi
theorem b_sshr8 (x : Int32) {i : Nat} (hi : i < 32) : bt (x >>> ((8 : Int32) &&& 31)) i = if 8 + i < 32 then bt x (8 + i) else bt x 31 := b_sshr 8 (by omega) x hi
/-! ===== nI under and, xor, >>>, one bit, 65535 ===== -/
theorem nx_and (a b : Nat) : nI a &&& nI b = nI (a &&& b) := by
  apply Int32.toBitVec_inj.1
  show BitVec.ofNat 32 a &&& BitVec.ofNat 32 b = BitVec.ofNat 32 (a &&& b)
  apply BitVec.eq_of_getLsbD_eq
  intro i hi
  simp [hi]
theorem nx_xor (a b : Nat) : nI a ^^^ nI b = nI (a ^^^ b) := by
  apply Int32.toBitVec_inj.1
  show BitVec.ofNat 32 a ^^^ BitVec.ofNat 32 b = BitVec.ofNat 32 (a ^^^ b)
  apply BitVec.eq_of_getLsbD_eq
  intro i hi
  simp [hi]
theorem nx_cnt : ∀ j : Fin 32, (UInt32.ofNat j.val &&& Int32.toUInt32 31).toNat % 32 = j.val := by decide +kernel
theorem nx_ush {k j : Nat} (hk : k < 65536) (hj : j < 32) : ((nI k).toUInt32 >>> ((nI j).toUInt32 &&& Int32.toUInt32 31)).toInt32 = nI (k >>> j) := by
  have hs : k >>> j ≤ k := by
    rw [Nat.shiftRight_eq_div_pow]
    exact Nat.div_le_self _ _
  have e2 : UInt32.ofNat k >>> (UInt32.ofNat j &&& Int32.toUInt32 31) = UInt32.ofNat (k >>> j) := by
    apply UInt32.toNat_inj.1
    have h1 : (UInt32.ofNat k).toNat = k := Nat.mod_eq_of_lt (by omega)
    have h2 : (UInt32.ofNat (k >>> j)).toNat = k >>> j := Nat.mod_eq_of_lt (by omega)
    rw [UInt32.toNat_shiftRight, nx_cnt ⟨j, hj⟩, h1, h2]
  show (UInt32.ofNat k >>> (UInt32.ofNat j &&& Int32.toUInt32 31)).toInt32 = _
  rw [e2]
  rfl
theorem nx_bit {k j : Nat} (hk : k < 65536) (hj : j < 16) : (((nI k).toUInt32 >>> ((nI j).toUInt32 &&& Int32.toUInt32 31)).toInt32 &&& 1) = 0 ↔ k.testBit j = false := by
  rw [nx_ush hk (by omega)]
  show nI (k >>> j) &&& nI 1 = 0 ↔ _
  rw [nx_and, Nat.and_one_is_mod, ← nI_0, nI_eq (by omega) (by omega), Nat.testBit_eq_decide_div_mod_eq, Nat.shiftRight_eq_div_pow, decide_eq_false_iff_not]
  generalize k / 2 ^ j = z
  omega
theorem nx_mod (k : Nat) : nI k &&& 65535 = nI (k % 65536) := by
  show nI k &&& nI 65535 = _
  rw [nx_and, show (65535 : Nat) = 2 ^ 16 - 1 from rfl, Nat.and_two_pow_sub_one_eq_mod]
theorem nx_m16 {k : Nat} (h : k < 65536) : nI k &&& 65535 = nI k := by rw [nx_mod, Nat.mod_eq_of_lt h]
theorem nx_mask (x : Int32) : ∃ k, k < 65536 ∧ x &&& 65535 = nI k := by
  have e : x = nI x.toBitVec.toNat := by
    apply Int32.toBitVec_inj.1
    show x.toBitVec = BitVec.ofNat 32 x.toBitVec.toNat
    simp
  refine ⟨x.toBitVec.toNat % 65536, Nat.mod_lt _ (by omega), ?_⟩
  rw [← nx_mod, ← e]
/-! ===== Int32 as a set of bits: test, set ===== -/
def nf_M (m : Int32) : Nat := 4294967296 - m.toBitVec.toNat
theorem nf_sh : ∀ l, l < 32 → ((1 : Int32) <<< (nI l &&& 31)).toBitVec = BitVec.twoPow 32 l := by decide +kernel
theorem nf_sl : ∀ l, l < 32 → (((nI l).toUInt32 &&& Int32.toUInt32 31).toBitVec % 32).toNat = l := by decide +kernel
theorem nf_tp : ∀ l, l < 32 → BitVec.twoPow 32 l ≠ 0#32 := by decide +kernel
theorem nf_bit (m : Int32) (l : Nat) (hl : l < 32) : ((m.toUInt32 >>> ((nI l).toUInt32 &&& Int32.toUInt32 31)).toInt32 &&& 1) = 0 ↔ (m &&& ((1 : Int32) <<< (nI l &&& 31))) = 0 := by
  have e : ((m.toUInt32 >>> ((nI l).toUInt32 &&& Int32.toUInt32 31)).toInt32).toBitVec = m.toBitVec >>> l := by
    show m.toBitVec >>> (((nI l).toUInt32 &&& Int32.toUInt32 31).toBitVec % 32) = m.toBitVec >>> l
    rw [BitVec.ushiftRight_eq', nf_sl l hl]
  rw [← Int32.toBitVec_inj, ← Int32.toBitVec_inj, Int32.toBitVec_and, Int32.toBitVec_and, nf_sh l hl, e, BitVec.and_twoPow]
  show (m.toBitVec >>> l &&& 1#32) = 0#32 ↔ _ = 0#32
  rw [BitVec.and_one_eq_setWidth_ofBool_getLsbD, BitVec.getLsbD_ushiftRight, Nat.add_zero]
  cases hb : m.toBitVec.getLsbD l
  · exact ⟨fun _ => by simp, fun _ => by decide⟩
  · exact ⟨fun z => absurd z (by decide), fun z => absurd ((if_pos rfl).symm.trans z) (nf_tp l hl)⟩
theorem nf_gr (m k : Int32) (h : m &&& k = 0) (hk : k ≠ 0) : nf_M (m ||| k) < nf_M m := by
  have hm := m.toBitVec.isLt
  have hm' := (m ||| k).toBitVec.isLt
  have h1 : m.toBitVec.toNat ≤ (m ||| k).toBitVec.toNat := by
    rw [Int32.toBitVec_or, BitVec.toNat_or]
    exact Nat.left_le_or
  have h2 : m.toBitVec.toNat ≠ (m ||| k).toBitVec.toNat := by
    intro e
    have e2 : m = m ||| k := Int32.toBitVec_inj.mp (BitVec.eq_of_toNat_eq e)
    apply hk
    apply Int32.toBitVec_inj.mp
    show k.toBitVec = 0#32
    apply BitVec.eq_of_getLsbD_eq
    intro i hi
    have a : m.toBitVec.getLsbD i = (m.toBitVec.getLsbD i || k.toBitVec.getLsbD i) := by rw [← BitVec.getLsbD_or, ← Int32.toBitVec_or, ← e2]
    have b : (m.toBitVec.getLsbD i && k.toBitVec.getLsbD i) = false := by
      rw [← BitVec.getLsbD_and, ← Int32.toBitVec_and, h]
      exact BitVec.getLsbD_zero
    rw [BitVec.getLsbD_zero]
    revert a b
    cases m.toBitVec.getLsbD i <;> cases k.toBitVec.getLsbD i <;> simp
  unfold nf_M
  omega
/-! ===== a byte read unsigned ===== -/
theorem bp_b (x : Int32) : x.toInt8.toInt32 &&& 255 = x &&& 255 := by
  apply Int32.toBitVec_inj.mp
  rw [Int32.toBitVec_and, Int32.toBitVec_and, Int8.toBitVec_toInt32, Int32.toBitVec_toInt8]
  apply BitVec.eq_of_getLsbD_eq
  intro i hi
  rw [BitVec.getLsbD_and, BitVec.getLsbD_and]
  have hm : ∀ i < 32, 8 ≤ i → (255 : Int32).toBitVec.getLsbD i = false := by decide
  rcases Nat.lt_or_ge i 8 with z | z
  · rw [BitVec.getLsbD_signExtend, BitVec.getLsbD_signExtend, if_pos z, if_pos hi]
    simp only [z, hi, decide_true, Bool.true_and]
  · rw [hm i hi z]; simp
/-! ===== the char cast and 65535 ===== -/
theorem em_w (v : Int32) : ∃ w : Nat, w < 65536 ∧ (v.toUInt32 % 65536).toInt32 = nI w ∧ v &&& 65535 = nI w := by
  have hr := lw_u16_r v
  have h0 : (0 : Int32).toInt = 0 := by decide
  obtain ⟨w, h1, h2⟩ := nI_of (x := lw_u16 v) (by rw [Int32.lt_iff_toInt_lt]; omega)
  have h3 : (v.toUInt32 % 65536).toInt32 = nI w := h2
  rw [h2, nI_toInt h1] at hr
  exact ⟨w, by omega, h3, by rw [← lg_i2c_mask, ← lg_i2c_nf, h3]⟩
/-! ===== Int64 as a set of bits: test, set, clear ===== -/
theorem ts_nf {x : Bool} (h : ¬ x = false) : x = true := by cases x <;> first | rfl | exact absurd rfl h
theorem ts_nt {x : Bool} (h : ¬ x = true) : x = false := by cases x <;> first | rfl | exact absurd rfl h
theorem ts_bit {w : Int64} {s : UInt64} {j : Nat} (hj : j < 64) (hs : s.toNat = j) : ((w.toUInt64 >>> s).toInt64 &&& 1) = 0 ↔ w.toBitVec.getLsbD j = false := by
  have e : (w.toUInt64 >>> s).toInt64.toBitVec = w.toBitVec >>> j := by
    apply BitVec.eq_of_toNat_eq
    show (w.toUInt64 >>> s).toNat = _
    rw [UInt64.toNat_shiftRight, hs, Nat.mod_eq_of_lt hj, BitVec.toNat_ushiftRight]
    rfl
  rw [← Int64.toBitVec_inj, Int64.toBitVec_and, e]
  show w.toBitVec >>> j &&& 1#64 = 0#64 ↔ _
  constructor
  · intro h
    have t := congrArg (fun x => x.getLsbD 0) h
    simpa using t
  · intro h
    apply BitVec.eq_of_getLsbD_eq
    intro i hi
    cases i with
    | zero => simp [h]
    | succ i => simp
theorem ts_or {w m : Int64} {j : Nat} (hj : j < 64) (hm : m.toBitVec = BitVec.twoPow 64 j) : (w ||| m) = w ↔ w.toBitVec.getLsbD j = true := by
  rw [← Int64.toBitVec_inj, Int64.toBitVec_or, hm]
  constructor
  · intro h
    have t := congrArg (fun x => x.getLsbD j) h
    simp only [BitVec.getLsbD_or, BitVec.getLsbD_twoPow] at t
    simpa [hj] using t.symm
  · intro h
    apply BitVec.eq_of_getLsbD_eq
    intro i hi
    rw [BitVec.getLsbD_or, BitVec.getLsbD_twoPow]
    by_cases e : j = i
    · subst e; rw [h, Bool.true_or]
    · simp [e]
theorem ts_and {w m : Int64} {j : Nat} (hj : j < 64) (hm : m.toBitVec = BitVec.twoPow 64 j) : (w &&& (m ^^^ (-1))) = w ↔ w.toBitVec.getLsbD j = false := by
  have ha : (-1 : Int64).toBitVec = BitVec.allOnes 64 := by decide
  rw [← Int64.toBitVec_inj, Int64.toBitVec_and, Int64.toBitVec_xor, hm, ha]
  constructor
  · intro h
    have t := congrArg (fun x => x.getLsbD j) h
    simp only [BitVec.getLsbD_and, BitVec.getLsbD_xor, BitVec.getLsbD_twoPow, BitVec.getLsbD_allOnes] at t
    simpa [hj] using t.symm
  · intro h
    apply BitVec.eq_of_getLsbD_eq
    intro i hi
    rw [BitVec.getLsbD_and, BitVec.getLsbD_xor, BitVec.getLsbD_twoPow, BitVec.getLsbD_allOnes]
    by_cases e : j = i
    · subst e; rw [h, Bool.false_and]
    · simp [e, hi]
/-! ===== lN n to 2^64: shifts, and, or, masks, one bit ===== -/
theorem wb_tb (n : Nat) : (lN n).toBitVec = BitVec.ofNat 64 n := rfl
theorem wb_inj {a b : Int64} (h : a.toBitVec = b.toBitVec) : a = b := Int64.toBitVec_inj.mp h
theorem wb_tn {n : Nat} (h : n < 2 ^ 64) : (lN n).toBitVec.toNat = n := by rw [wb_tb, BitVec.toNat_ofNat, Nat.mod_eq_of_lt h]
theorem wb_of (x : Int64) : ∃ n, n < 2 ^ 64 ∧ x = lN n := ⟨x.toBitVec.toNat, x.toBitVec.isLt, wb_inj (by rw [wb_tb]; simp)⟩
theorem wb_of32 (x : Int32) : ∃ n, n < 2 ^ 32 ∧ x = nI n := ⟨x.toBitVec.toNat, x.toBitVec.isLt, Int32.toBitVec_inj.mp (by show _ = BitVec.ofNat 32 _; simp)⟩
theorem wb_c : ∀ k, k < 64 → ((nI k).toInt64 &&& 63) = lN k := by decide +kernel
theorem wb_cu : ∀ k, k < 64 → ((nI k).toInt64.toUInt64 &&& Int64.toUInt64 63) = UInt64.ofNat k := by decide +kernel
theorem wb_sm : ∀ k, k < 64 → (BitVec.ofNat 64 k).smod 64 = BitVec.ofNat 64 k := by decide +kernel
theorem wb_pw {a b : Nat} (h : a ≤ b) : 2 ^ b = 2 ^ a * 2 ^ (b - a) := by rw [← Nat.pow_add]; congr 1; omega
theorem wb_lt2 {a b : Nat} (h : a < b) : 2 ^ a < 2 ^ b := Nat.pow_lt_pow_right (by decide) h
theorem wb_mod (n : Nat) : lN n = lN (n % 2 ^ 64) := wb_inj (by rw [wb_tb, wb_tb]; apply BitVec.eq_of_toNat_eq; rw [BitVec.toNat_ofNat, BitVec.toNat_ofNat, Nat.mod_mod])
theorem wb_shr {n k : Nat} (hn : n < 2 ^ 64) (hk : k < 64) : ((lN n).toUInt64 >>> ((nI k).toInt64.toUInt64 &&& Int64.toUInt64 63)).toInt64 = lN (n / 2 ^ k) := by
  rw [wb_cu k hk]
  apply wb_inj
  apply BitVec.eq_of_toNat_eq
  show ((lN n).toUInt64 >>> UInt64.ofNat k).toNat = (BitVec.ofNat 64 _).toNat
  have h1 : (UInt64.ofNat k).toNat = k := by
    show (BitVec.ofNat 64 k).toNat = k
    rw [BitVec.toNat_ofNat, Nat.mod_eq_of_lt (by omega)]
  have h2 : (lN n).toUInt64.toNat = n := wb_tn hn
  rw [UInt64.toNat_shiftRight, h1, h2, Nat.mod_eq_of_lt hk, Nat.shiftRight_eq_div_pow, BitVec.toNat_ofNat, Nat.mod_eq_of_lt (Nat.lt_of_le_of_lt (Nat.div_le_self _ _) hn)]
theorem wb_shl (n : Nat) {k : Nat} (hk : k < 64) : lN n <<< ((nI k).toInt64 &&& 63) = lN (n * 2 ^ k) := by
  rw [wb_c k hk]
  apply wb_inj
  rw [Int64.toBitVec_shiftLeft, wb_tb, wb_tb, wb_tb, wb_sm k hk]
  apply BitVec.eq_of_toNat_eq
  rw [BitVec.shiftLeft_eq', BitVec.toNat_shiftLeft, BitVec.toNat_ofNat, BitVec.toNat_ofNat, BitVec.toNat_ofNat, Nat.mod_eq_of_lt (show k < 2 ^ 64 by omega), Nat.shiftLeft_eq, Nat.mul_mod, Nat.mod_mod, ← Nat.mul_mod]
theorem wb_and {a b : Nat} (ha : a < 2 ^ 64) (hb : b < 2 ^ 64) : lN a &&& lN b = lN (a &&& b) := by
  apply wb_inj
  rw [Int64.toBitVec_and, wb_tb, wb_tb, wb_tb]
  apply BitVec.eq_of_toNat_eq
  rw [BitVec.toNat_and, BitVec.toNat_ofNat, BitVec.toNat_ofNat, BitVec.toNat_ofNat, Nat.mod_eq_of_lt ha, Nat.mod_eq_of_lt hb, Nat.mod_eq_of_lt (Nat.and_lt_two_pow _ hb)]
theorem wb_or {a b : Nat} (ha : a < 2 ^ 64) (hb : b < 2 ^ 64) : lN a ||| lN b = lN (a ||| b) := by
  apply wb_inj
  rw [Int64.toBitVec_or, wb_tb, wb_tb, wb_tb]
  apply BitVec.eq_of_toNat_eq
  rw [BitVec.toNat_or, BitVec.toNat_ofNat, BitVec.toNat_ofNat, BitVec.toNat_ofNat, Nat.mod_eq_of_lt ha, Nat.mod_eq_of_lt hb, Nat.mod_eq_of_lt (Nat.or_lt_two_pow ha hb)]
theorem wb_mask {n k : Nat} (hn : n < 2 ^ 64) (hk : k < 64) : lN n &&& lN (2 ^ k - 1) = lN (n % 2 ^ k) := by
  rw [wb_and hn (by have := wb_lt2 hk; omega), Nat.and_two_pow_sub_one_eq_mod]
theorem wb_a1 {n : Nat} (hn : n < 2 ^ 64) : lN n &&& 1 = lN (n % 2) := wb_mask (k := 1) hn (by decide)
theorem wb_bit {n k : Nat} (hn : n < 2 ^ 64) (hk : k < 64) : ((lN n).toUInt64 >>> ((nI k).toInt64.toUInt64 &&& Int64.toUInt64 63)).toInt64 &&& 1 = lN (n / 2 ^ k % 2) := by
  rw [wb_shr hn hk, wb_a1 (Nat.lt_of_le_of_lt (Nat.div_le_self _ _) hn)]
theorem wb_xor {q k : Nat} (hk : k < 63) (h : 2 ^ k ≤ q) (h2 : q < 2 ^ (k + 1)) : lN q ^^^ lN (2 ^ k) = lN (q - 2 ^ k) := by
  obtain ⟨r, rfl⟩ : ∃ r, q = 2 ^ k + r := ⟨q - 2 ^ k, by omega⟩
  have hr : r < 2 ^ k := by rw [Nat.pow_succ] at h2; omega
  have hx : (2 ^ k + r) ^^^ 2 ^ k = r := by
    apply Nat.eq_of_testBit_eq
    intro i
    rw [Nat.testBit_xor, Nat.testBit_two_pow]
    rcases Nat.lt_trichotomy i k with h | h | h
    · rw [Nat.testBit_two_pow_add_gt h]
      simp [show ¬ k = i by omega]
    · subst h
      rw [Nat.testBit_two_pow_add_eq]
      simp
    · have a1 : 2 ^ (k + 1) ≤ 2 ^ i := Nat.pow_le_pow_right (by decide) h
      rw [Nat.testBit_lt_two_pow (show 2 ^ k + r < 2 ^ i by omega), Nat.testBit_lt_two_pow (show r < 2 ^ i by omega)]
      simp [show ¬ k = i by omega]
  have b1 := wb_lt2 (show k + 1 < 64 by omega)
  have b2 := wb_lt2 (show k < 64 by omega)
  apply wb_inj
  rw [Int64.toBitVec_xor, wb_tb, wb_tb, wb_tb]
  apply BitVec.eq_of_toNat_eq
  rw [BitVec.toNat_xor, BitVec.toNat_ofNat, BitVec.toNat_ofNat, BitVec.toNat_ofNat, Nat.mod_eq_of_lt (by omega : 2 ^ k + r < 2 ^ 64), Nat.mod_eq_of_lt b2, hx, Nat.add_sub_cancel_left, Nat.mod_eq_of_lt (by omega)]
/-! ===== lN: masks, 'or' of parts that don't overlap is a sum ===== -/
theorem u_tn {n : Nat} (h : n < 2 ^ 64) : (UInt64.ofNat n).toNat = n := Nat.mod_eq_of_lt h
theorem g_and {a b c : Nat} (ha : a < 2 ^ 64) (hb : b < 2 ^ 64) (hc : a &&& b = c) : lN a &&& lN b = lN c := by
  subst hc
  have h : UInt64.ofNat a &&& UInt64.ofNat b = UInt64.ofNat (a &&& b) := UInt64.toNat_inj.mp (by rw [UInt64.toNat_and, u_tn ha, u_tn hb, u_tn (Nat.and_lt_two_pow a hb)])
  have h2 := congrArg UInt64.toInt64 h
  exact h2
theorem g_and1 {a : Nat} (ha : a < 2 ^ 64) : lN a &&& 1 = lN (a % 2) := g_and (b := 1) ha (by decide) (Nat.and_two_pow_sub_one_eq_mod a 1)
theorem g_mask {a s p : Nat} (hp : 2 ^ s = p) (hs : s < 64) (ha : a < 2 ^ 64) : lN a &&& lN (p - 1) = lN (a % p) := by
  subst hp
  have := Nat.pow_lt_pow_right (show 1 < 2 by decide) hs
  exact g_and ha (by omega) (Nat.and_two_pow_sub_one_eq_mod a s)
theorem g_or {k p a b : Nat} (hp : 2 ^ k = p) (ha : a < p) (h : b * p + a < 2 ^ 64) : lN (b * p) ||| lN a = lN (b * p + a) := by
  subst hp
  have h1 : b * 2 ^ k ||| a = b * 2 ^ k + a := by rw [← Nat.shiftLeft_eq, Nat.shiftLeft_add_eq_or_of_lt ha]
  have h3 : UInt64.ofNat (b * 2 ^ k) ||| UInt64.ofNat a = UInt64.ofNat (b * 2 ^ k + a) := UInt64.toNat_inj.mp (by rw [UInt64.toNat_or, u_tn (by omega), u_tn (by omega), u_tn h, h1])
  have h2 := congrArg UInt64.toInt64 h3
  exact h2
theorem g_or' {k p a b : Nat} (hp : 2 ^ k = p) (ha : a < p) (h : a + b * p < 2 ^ 64) : lN a ||| lN (b * p) = lN (a + b * p) := by
  rw [Int64.or_comm, g_or hp ha (by omega), Nat.add_comm]
theorem g_ushr {a k p : Nat} {y : UInt64} (hy : y = UInt64.ofNat k) (hk : k < 64) (hp : 2 ^ k = p) (ha : a < 2 ^ 64) : ((lN a).toUInt64 >>> y).toInt64 = lN (a / p) := by
  subst hy hp
  have h : UInt64.ofNat a >>> UInt64.ofNat k = UInt64.ofNat (a / 2 ^ k) := UInt64.toNat_inj.mp (by rw [UInt64.toNat_shiftRight, u_tn ha, u_tn (by omega), u_tn (Nat.lt_of_le_of_lt (Nat.div_le_self _ _) ha), Nat.mod_eq_of_lt hk, Nat.shiftRight_eq_div_pow])
  have h2 := congrArg UInt64.toInt64 h
  exact h2
theorem g_shl {a k p : Nat} {y : Int64} (hy : y.toBitVec.smod 64 = BitVec.ofNat 64 k) (hk : k < 64) (hp : 2 ^ k = p) (ha : a < 2 ^ 64) : lN a <<< y = lN (a * p) := by
  subst hp
  apply Int64.toBitVec_inj.mp
  rw [Int64.toBitVec_shiftLeft, hy]
  apply BitVec.eq_of_toNat_eq
  have hb : (lN a).toBitVec.toNat = a := Nat.mod_eq_of_lt ha
  have hk' : (BitVec.ofNat 64 k).toNat = k := Nat.mod_eq_of_lt (by omega)
  have h : ((lN a).toBitVec <<< BitVec.ofNat 64 k).toNat = (a * 2 ^ k) % 2 ^ 64 := by simp only [BitVec.shiftLeft_eq', BitVec.toNat_shiftLeft, hb, hk', Nat.shiftLeft_eq]
  exact h
/-! ===== lN to 2^62 under >> and >>> ===== -/
theorem pf_lI {a : Nat} (h : a < 2 ^ 63) : (lN a).toInt = (a : Int) := lg_ofNat_toInt h
theorem pf_shr {a d : Nat} {D : Int64} (hD : (D.toBitVec.smod 64).toNat = d) (h : a < 2 ^ 62) : lN a >>> D = lN (a / 2 ^ d) := by
  have hd : a / 2 ^ d ≤ a := Nat.div_le_self _ _
  apply Int64.toInt_inj.mp
  have e : (lN a >>> D).toInt = (lN a).toInt >>> d := by
    rw [← hD]
    exact BitVec.toInt_sshiftRight ..
  rw [e, Int.shiftRight_eq_div_pow, pf_lI (by omega), pf_lI (by omega)]
  rfl
theorem pf_ushr {a d : Nat} {D : UInt64} (hD : D.toNat % 64 = d) (h : a < 2 ^ 62) : ((lN a).toUInt64 >>> D).toInt64 = lN (a / 2 ^ d) := by
  have hd : a / 2 ^ d ≤ a := Nat.div_le_self _ _
  have e : (lN a).toUInt64 >>> D = UInt64.ofNat (a / 2 ^ d) := UInt64.toNat_inj.mp (by
    rw [UInt64.toNat_shiftRight, hD, Nat.shiftRight_eq_div_pow, UInt64.toNat_ofNat']
    show (UInt64.ofNat a).toNat / 2 ^ d = _
    rw [UInt64.toNat_ofNat', Nat.mod_eq_of_lt (by omega), Nat.mod_eq_of_lt (by omega)])
  rw [e]
  rfl
theorem pf_andw (x : Int64) : ∃ m, m < 2 ^ 32 ∧ x &&& 4294967295 = lN m := ⟨x.toBitVec.toNat % 2 ^ 32, Nat.mod_lt _ (by decide), Int64.toBitVec_inj.mp (BitVec.eq_of_toNat_eq (by
  show (x.toBitVec &&& 4294967295#64).toNat = (BitVec.ofNat 64 (x.toBitVec.toNat % 2 ^ 32)).toNat
  rw [BitVec.toNat_and, show (4294967295#64).toNat = 2 ^ 32 - 1 from by decide, Nat.and_two_pow_sub_one_eq_mod, BitVec.toNat_ofNat]
  omega))⟩
/-! ===== Int64 as an unsigned number: uN x ===== -/
def uN (x : Int64) : Nat := x.toUInt64.toNat
theorem uN_lt (x : Int64) : uN x < 18446744073709551616 := x.toUInt64.toNat_lt
theorem uN_inj {x y : Int64} (h : uN x = uN y) : x = y := congrArg UInt64.toInt64 (UInt64.toNat_inj.mp h)
theorem uN_add (x y : Int64) : uN (x + y) = (uN x + uN y) % 18446744073709551616 := by
  show (x.toUInt64 + y.toUInt64).toNat = _
  exact UInt64.toNat_add _ _
theorem uN_mul (x y : Int64) : uN (x * y) = (uN x * uN y) % 18446744073709551616 := by
  show (x.toUInt64 * y.toUInt64).toNat = _
  exact UInt64.toNat_mul _ _
theorem uN_shl (x : Int64) : uN (x <<< ((1 : Int32).toInt64 &&& 63)) = (2 * uN x) % 18446744073709551616 := by
  have h : (((1 : Int32).toInt64 &&& 63).toBitVec.smod 64).toNat = 1 := by decide
  show (x.toBitVec <<< (((1 : Int32).toInt64 &&& 63).toBitVec.smod 64).toNat).toNat = _
  rw [h, BitVec.toNat_shiftLeft, Nat.shiftLeft_eq, Nat.mul_comm]
  rfl
theorem uN_shr (x : Int64) (s : UInt64) : uN (x.toUInt64 >>> s).toInt64 = uN x / 2 ^ (s.toNat % 64) := by
  show (x.toUInt64 >>> s).toNat = _
  rw [UInt64.toNat_shiftRight, Nat.shiftRight_eq_div_pow]
  rfl
theorem uN_s32 (x : Int64) : uN (x.toUInt64 >>> ((32 : Int32).toInt64.toUInt64 &&& Int64.toUInt64 63)).toInt64 = uN x / 4294967296 := by
  have h : ((32 : Int32).toInt64.toUInt64 &&& Int64.toUInt64 63).toNat % 64 = 32 := by decide
  rw [uN_shr, h]
theorem uN_s63 (x : Int64) : uN (x.toUInt64 >>> ((63 : Int32).toInt64.toUInt64 &&& Int64.toUInt64 63)).toInt64 = uN x / 9223372036854775808 := by
  have h : ((63 : Int32).toInt64.toUInt64 &&& Int64.toUInt64 63).toNat % 64 = 63 := by decide
  rw [uN_shr, h]
theorem uN_lo (x : Int64) : uN (x &&& 4294967295) = uN x % 4294967296 := by
  show (x.toUInt64 &&& Int64.toUInt64 4294967295).toNat = _
  rw [UInt64.toNat_and]
  exact Nat.and_two_pow_sub_one_eq_mod _ 32
theorem uN_bit (x : Int64) : (x &&& 1) = 0 ↔ uN x % 2 = 0 := by
  have h : uN (x &&& 1) = uN x % 2 := by
    show (x.toUInt64 &&& Int64.toUInt64 1).toNat = _
    rw [UInt64.toNat_and]
    exact Nat.and_two_pow_sub_one_eq_mod _ 1
  rw [← h]
  exact ⟨fun z => by rw [z]; rfl, fun z => uN_inj (z.trans rfl)⟩
theorem uN_or {x y : Int64} (hy : uN y < 2) : uN ((x <<< ((1 : Int32).toInt64 &&& 63)) ||| y) = (2 * uN x) % 18446744073709551616 + uN y := by
  have h1 : uN ((x <<< ((1 : Int32).toInt64 &&& 63)) ||| y) = uN (x <<< ((1 : Int32).toInt64 &&& 63)) ||| uN y := UInt64.toNat_or _ _
  have h2 : (2 * uN x) % 18446744073709551616 = 2 ^ 1 * (uN x % 9223372036854775808) := by omega
  rw [h1, uN_shl, h2]
  exact (Nat.two_pow_add_eq_or_of_lt (i := 1) hy _).symm
theorem nat_xor {a : Nat} (h : a < 18446744073709551616) : a ^^^ 2 ^ 63 = (a + 9223372036854775808) % 18446744073709551616 := by
  have h1 : (a ^^^ 2 ^ 63) % 2 ^ 63 = a % 2 ^ 63 := by rw [Nat.xor_mod_two_pow, Nat.mod_self, Nat.xor_zero]
  have h2 : (a ^^^ 2 ^ 63) / 2 ^ 63 = (a / 2 ^ 63) ^^^ 1 := by rw [Nat.xor_div_two_pow, Nat.div_self (Nat.two_pow_pos 63)]
  have h3 : a / 2 ^ 63 = 0 ∨ a / 2 ^ 63 = 1 := by omega
  generalize a ^^^ 2 ^ 63 = t at h1 h2
  rcases h3 with h3 | h3
  · rw [h3] at h2
    have h2 : t / 2 ^ 63 = 1 := h2
    omega
  · rw [h3] at h2
    have h2 : t / 2 ^ 63 = 0 := h2
    omega
theorem uN_xor (x : Int64) : uN (x ^^^ (-9223372036854775808)) = (uN x + 9223372036854775808) % 18446744073709551616 := by
  rw [← nat_xor (uN_lt x)]
  exact UInt64.toNat_xor _ _
theorem uN_int (x : Int64) : x.toInt = if 2 * uN x < 18446744073709551616 then (uN x : Int) else (uN x : Int) - 18446744073709551616 := BitVec.toInt_eq_toNat_cond _
theorem uN_le (x y : Int64) : (x ^^^ (-9223372036854775808)) ≤ (y ^^^ (-9223372036854775808)) ↔ uN x ≤ uN y := by
  have hx := uN_lt x
  have hy := uN_lt y
  rw [Int64.le_iff_toInt_le, uN_int, uN_int, uN_xor, uN_xor]
  omega
theorem uN_sk (x : Int64) {k : Nat} (hk : k < 64) : uN (x.toUInt64 >>> ((nI k).toInt64.toUInt64 &&& Int64.toUInt64 63)).toInt64 = uN x / 2 ^ k := by
  have h : ((nI k).toInt64.toUInt64 &&& Int64.toUInt64 63).toNat % 64 = k := by
    rw [nI_l (by omega), UInt64.toNat_and]
    have e : (lN k).toUInt64.toNat = k % 2 ^ 64 := rfl
    have e2 : (Int64.toUInt64 63).toNat = 2 ^ 6 - 1 := by decide
    rw [e, e2, Nat.and_two_pow_sub_one_eq_mod]
    omega
  rw [uN_shr, h]
/-! ===== unsigned comparison by xor with the least ===== -/
theorem lN_bv (n : Nat) : (lN n).toBitVec = BitVec.ofNat 64 n := rfl
theorem lN_nat {n : Nat} (h : n < 2 ^ 64) : (lN n).toBitVec.toNat = n := by rw [lN_bv, BitVec.toNat_ofNat]; exact Nat.mod_eq_of_lt h
theorem lN_xor (a b : Nat) : lN a ^^^ lN b = lN (a ^^^ b) := by
  apply Int64.toBitVec_inj.mp; rw [Int64.toBitVec_xor, lN_bv, lN_bv, lN_bv]; apply BitVec.eq_of_getLsbD_eq; intro i hi; simp [BitVec.getLsbD_ofNat, Nat.testBit_xor, hi]
theorem lN_ti {m : Nat} (h : m < 2 ^ 64) : (lN m).toInt = if m < 2 ^ 63 then (m : Int) else (m : Int) - 2 ^ 64 := by
  have c := BitVec.toInt_eq_toNat_cond (lN m).toBitVec
  rw [lN_nat h] at c
  show (lN m).toBitVec.toInt = _
  rw [c]
  split <;> split <;> omega
theorem xor63 {x : Nat} (h : x < 2 ^ 63) : x ^^^ 2 ^ 63 = 2 ^ 63 + x := by
  apply Nat.eq_of_testBit_eq
  intro i
  rw [Nat.testBit_xor, Nat.testBit_two_pow]
  rcases Nat.lt_trichotomy i 63 with z | z | z
  · rw [Nat.testBit_two_pow_add_gt z, decide_eq_false (by omega)]; simp
  · subst z; rw [Nat.testBit_two_pow_add_eq]; simp
  · have hp : 2 ^ 64 ≤ 2 ^ i := Nat.pow_le_pow_right (by decide) z
    rw [Nat.testBit_lt_two_pow (show x < 2 ^ i by omega), Nat.testBit_lt_two_pow (show 2 ^ 63 + x < 2 ^ i by omega), decide_eq_false (by omega)]; rfl
theorem xorS {a : Nat} (h : a < 2 ^ 64) : (lN a ^^^ (-9223372036854775808)).toInt = (a : Int) - 2 ^ 63 := by
  rw [show (-9223372036854775808 : Int64) = lN (2 ^ 63) from by decide +kernel, lN_xor]
  rcases Nat.lt_or_ge a (2 ^ 63) with z | z
  · rw [xor63 z, lN_ti (by omega), if_neg (by omega)]; omega
  · obtain ⟨x, rfl⟩ : ∃ x, a = 2 ^ 63 + x := ⟨a - 2 ^ 63, by omega⟩
    rw [← xor63 (by omega), Nat.xor_assoc, Nat.xor_self, Nat.xor_zero, lN_ti (by omega), if_pos (by omega), xor63 (by omega)]; omega
theorem ultL {a b : Nat} (ha : a < 2 ^ 64) (hb : b < 2 ^ 64) : ((lN b ^^^ (-9223372036854775808)) ≤ (lN a ^^^ (-9223372036854775808))) ↔ b ≤ a := by
  rw [Int64.le_iff_toInt_le, xorS ha, xorS hb]; omega
/-! ===== Int64 masks of n low bits ===== -/
theorem cr_bits (W U M : BitVec 64) : ((W &&& U) &&& (U &&& (M ^^^ BitVec.allOnes 64))) = 0#64 ↔ (W &&& U) &&& M = W &&& U := by
  constructor
  · intro h
    apply BitVec.eq_of_getLsbD_eq
    intro i hi
    have e := congrArg (fun x => BitVec.getLsbD x i) h
    simp only [BitVec.getLsbD_and, BitVec.getLsbD_xor, BitVec.getLsbD_allOnes, BitVec.getLsbD_zero, hi, decide_true] at e ⊢
    revert e
    cases W.getLsbD i <;> cases U.getLsbD i <;> cases M.getLsbD i <;> decide
  · intro h
    apply BitVec.eq_of_getLsbD_eq
    intro i hi
    have e := congrArg (fun x => BitVec.getLsbD x i) h
    simp only [BitVec.getLsbD_and, BitVec.getLsbD_xor, BitVec.getLsbD_allOnes, BitVec.getLsbD_zero, hi, decide_true] at e ⊢
    revert e
    cases W.getLsbD i <;> cases U.getLsbD i <;> cases M.getLsbD i <;> decide
theorem cr_mask (w U m : Int64) (n : Nat) (hm : m.toBitVec.toNat = 2 ^ n - 1) : ((w &&& U) &&& (U &&& (m ^^^ (-1)))) = 0 ↔ (w &&& U).toBitVec.toNat < 2 ^ n := by
  have e0 : (-1 : Int64).toBitVec = BitVec.allOnes 64 := by decide
  have z0 : (0 : Int64).toBitVec = 0#64 := by decide
  rw [← Int64.toBitVec_inj, z0, Int64.toBitVec_and, Int64.toBitVec_and, Int64.toBitVec_and, Int64.toBitVec_xor, e0, cr_bits]
  generalize w.toBitVec &&& U.toBitVec = T
  rw [← BitVec.toNat_inj, BitVec.toNat_and, hm, Nat.and_two_pow_sub_one_eq_mod]
  constructor
  · intro h
    have t := Nat.mod_lt T.toNat (Nat.two_pow_pos n)
    rw [h] at t
    exact t
  · exact Nat.mod_eq_of_lt
theorem cr_shr (t : Int64) (x : UInt64) (n : Nat) (hx : x.toNat % 64 = n) : (t.toUInt64 >>> x).toInt64 = 0 ↔ t.toBitVec.toNat < 2 ^ n := by
  rw [← Int64.toBitVec_inj, ← BitVec.toNat_inj]
  show (t.toUInt64 >>> x).toNat = 0 ↔ t.toUInt64.toNat < 2 ^ n
  rw [UInt64.toNat_shiftRight, hx, Nat.shiftRight_eq_div_pow]
  constructor
  · intro h
    have d : t.toUInt64.toNat / 2 ^ n < 1 := by
      rw [h]
      decide
    have e := (Nat.div_lt_iff_lt_mul (Nat.two_pow_pos n)).mp d
    rw [Nat.one_mul] at e
    exact e
  · exact Nat.div_eq_of_lt
theorem cr_amt (s : Int64) : ∃ n, n < 64 ∧ s &&& 63 = lN n ∧ (s.toUInt64 &&& Int64.toUInt64 63).toNat % 64 = n := by
  have e : (s.toUInt64 &&& Int64.toUInt64 63).toNat = s.toUInt64.toNat % 2 ^ 6 := by
    rw [UInt64.toNat_and, show (Int64.toUInt64 63).toNat = 2 ^ 6 - 1 from by decide, Nat.and_two_pow_sub_one_eq_mod]
  refine ⟨s.toUInt64.toNat % 2 ^ 6, by omega, ?_, by omega⟩
  rw [← Int64.toBitVec_inj, ← BitVec.toNat_inj]
  show (s.toUInt64 &&& Int64.toUInt64 63).toNat = (BitVec.ofNat 64 (s.toUInt64.toNat % 2 ^ 6)).toNat
  rw [e, BitVec.toNat_ofNat]
  omega
end
section
/-! bits of Int32: tests, sets, flips -/
theorem jb_1 : ∀ i, i < 32 → bt 1 i = decide (i = 0) := by decide +kernel
theorem jb_test {k : Nat} (hk : k < 32) (x : Int32) : ((x >>> (nI k &&& 31)) &&& 1) = 0 ↔ bt x k = false := by
  constructor
  · intro h
    have e : bt ((x >>> (nI k &&& 31)) &&& 1) 0 = false := by rw [h]; exact b_0 0
    rw [b_and, b_sshr k hk x (by omega), jb_1 0 (by omega), if_pos (by omega : k + 0 < 32)] at e
    simpa using e
  · intro h
    apply b_ext
    intro i hi
    rw [b_0, b_and, jb_1 i hi]
    by_cases z : i = 0
    · subst z
      rw [b_sshr k hk x (by omega), if_pos (by omega : k + 0 < 32)]
      simp [h]
    · simp [z]
theorem jb_bit {k : Nat} (hk : k < 32) (x : Int32) : ((x >>> (nI k &&& 31)) &&& 1) = if bt x k = true then 1 else 0 := by
  cases h : bt x k with
  | false => rw [(jb_test hk x).mpr h]; rfl
  | true =>
    rw [if_pos rfl]
    apply b_ext
    intro i hi
    rw [b_and, jb_1 i hi]
    by_cases z : i = 0
    · subst z
      rw [b_sshr k hk x (by omega), if_pos (by omega : k + 0 < 32)]
      simp [h]
    · simp [z]
theorem jb_shl1 {a i : Nat} (ha : a < 32) (hi : i < 32) : bt ((1 : Int32) <<< (nI a &&& 31)) i = decide (i = a) := by
  rw [b_shl a ha _ hi]
  by_cases z : a ≤ i
  · rw [jb_1 (i - a) (by omega), decide_eq_true z, Bool.true_and]
    exact decide_eq_decide.mpr ⟨fun h => by omega, fun h => by omega⟩
  · rw [decide_eq_false z, Bool.false_and]
    exact (decide_eq_false (by omega)).symm
theorem jb_set {a i : Nat} (ha : a < 32) (hi : i < 32) (x : Int32) : bt (x ||| ((1 : Int32) <<< (nI a &&& 31))) i = (bt x i || decide (i = a)) := by
  rw [b_or, jb_shl1 ha hi]
theorem jb_tog {a i : Nat} (ha : a < 32) (hi : i < 32) (x : Int32) : bt (x ^^^ ((1 : Int32) <<< (nI a &&& 31))) i = (bt x i ^^ decide (i = a)) := by
  rw [b_xor, jb_shl1 ha hi]
theorem jb_sub (x p : Int32) : (x &&& (p ^^^ (-1))) = 0 ↔ ∀ i, i < 32 → bt x i = true → bt p i = true := by
  constructor
  · intro h i hi hx
    have e : bt (x &&& (p ^^^ (-1))) i = false := by rw [h]; exact b_0 i
    rw [b_and, b_xor, b_m1 i hi, hx] at e
    simpa using e
  · intro h
    apply b_ext
    intro i hi
    rw [b_0, b_and, b_xor, b_m1 i hi]
    cases hx : bt x i with
    | false => rfl
    | true => rw [h i hi hx]; rfl
theorem jb_flip {a b : Nat} (ha : a < 32) (hb : b < 32) (x y : Int32) : (((x >>> (nI b &&& 31)) ^^^ (y >>> (nI a &&& 31))) &&& 1) = if (bt x b ^^ bt y a) = true then 1 else 0 := by
  apply b_ext
  intro i hi
  rw [b_and, b_xor, jb_1 i hi]
  by_cases z : i = 0
  · subst z
    rw [b_sshr b hb x (by omega), b_sshr a ha y (by omega), if_pos (by omega : b + 0 < 32), if_pos (by omega : a + 0 < 32), Nat.add_zero, Nat.add_zero]
    cases (bt x b ^^ bt y a) <;> decide
  · rw [decide_eq_false z, Bool.and_false]
    cases (bt x b ^^ bt y a)
    · exact (b_0 i).symm
    · exact (by rw [if_pos rfl, jb_1 i hi, decide_eq_false z])
theorem jb_shlif {c : Bool} {a i : Nat} (ha : a < 32) (hi : i < 32) : bt ((if c = true then (1 : Int32) else 0) <<< (nI a &&& 31)) i = (c && decide (i = a)) := by
  cases c
  · rw [if_neg (by decide), b_shl a ha _ hi, b_0, Bool.and_false, Bool.false_and]
  · rw [if_pos rfl, jb_shl1 ha hi, Bool.true_and]
/-! Int32 by its integer -/
theorem ja_add {x y : Int32} (h1 : -2147483648 ≤ x.toInt + y.toInt) (h2 : x.toInt + y.toInt < 2147483648) : (x + y).toInt = x.toInt + y.toInt := by
  rw [Int32.toInt_add]
  exact Int.bmod_eq_of_le (by omega) (by omega)
theorem ja_sub {x y : Int32} (h1 : -2147483648 ≤ x.toInt - y.toInt) (h2 : x.toInt - y.toInt < 2147483648) : (x - y).toInt = x.toInt - y.toInt := by
  rw [Int32.toInt_sub]
  exact Int.bmod_eq_of_le (by omega) (by omega)
theorem ja_neg {x : Int32} (h1 : -2147483648 < x.toInt) : (-x).toInt = - x.toInt := by
  have h2 := x.toInt_lt
  rw [Int32.toInt_neg]
  exact Int.bmod_eq_of_le (by omega) (by omega)
theorem ja_le {x y : Int32} : x ≤ y ↔ x.toInt ≤ y.toInt := Int32.le_iff_toInt_le
theorem ja_lt {x y : Int32} : x < y ↔ x.toInt < y.toInt := Int32.lt_iff_toInt_lt
theorem ja_eq {x y : Int32} : x = y ↔ x.toInt = y.toInt := Int32.toInt_inj.symm
theorem ja_0 : (0 : Int32).toInt = 0 := by decide
theorem ja_1 : (1 : Int32).toInt = 1 := by decide
theorem ja_m1000 : (-1000 : Int32).toInt = -1000 := by decide
theorem ja_1000 : (1000 : Int32).toInt = 1000 := by decide
theorem ja_60 : (60 : Int32).toInt = 60 := by decide
theorem ja_m4 : (-4 : Int32).toInt = -4 := by decide
theorem ja_m5 : (-5 : Int32).toInt = -5 := by decide
theorem ja_10 : ¬ (1 : Int32) = 0 := by decide
/-! flags -/
theorem jf_0 {z : Int32} (h : z = 0 ∨ z = 1) : z ||| 0 = z := by rcases h with h | h <;> subst h <;> decide
theorem jf_1 {z : Int32} (h : z = 0 ∨ z = 1) : z ||| 1 = 1 := by rcases h with h | h <;> subst h <;> decide
theorem jf_n {z : Int32} (h : z = 0 ∨ z = 1) : narrow .boolean (.int z) = .int z := by rcases h with h | h <;> subst h <;> rfl
theorem jf_f {z : Int32} (h : z = 0 ∨ z = 1) : fits .boolean (.int z) = true := by rcases h with h | h <;> subst h <;> rfl
theorem jf_c {z f : Int32} (hf : f = 0 ∨ f = 1) (h : z = f ∨ z = 1) : z = 0 ∨ z = 1 := by
  rcases h with h | h
  · rw [h]; exact hf
  · exact Or.inr h
end
section
/-! sums over an initial part -/
def js_s (f : Nat → Nat) : Nat → Nat
  | 0 => 0
  | k + 1 => js_s f k + f k
theorem js_s_le {f g : Nat → Nat} : ∀ {n : Nat}, (∀ a, a < n → f a ≤ g a) → js_s f n ≤ js_s g n
  | 0, _ => Nat.le_refl _
  | n + 1, h => by
    have a := js_s_le (f := f) (g := g) (n := n) (fun k hk => h k (by omega))
    have b := h n (by omega)
    simp only [js_s]; omega
theorem js_s_lt {f g : Nat → Nat} {a : Nat} (hl : f a < g a) : ∀ {n : Nat}, (∀ k, k < n → f k ≤ g k) → a < n → js_s f n < js_s g n
  | 0, _, h => by omega
  | n + 1, h, ha => by
    simp only [js_s]
    rcases Nat.lt_or_ge a n with z | z
    · have x := js_s_lt hl (n := n) (fun k hk => h k (by omega)) z
      have b := h n (by omega)
      omega
    · have e : a = n := by omega
      subst e
      have x := js_s_le (f := f) (g := g) (n := a) (fun k hk => h k (by omega))
      omega
theorem js_s_eq {f g : Nat → Nat} {n : Nat} (h : ∀ a, a < n → f a = g a) : js_s f n = js_s g n :=
  Nat.le_antisymm (js_s_le fun a ha => Nat.le_of_eq (h a ha)) (js_s_le fun a ha => Nat.le_of_eq (h a ha).symm)
theorem js_s_add (f g : Nat → Nat) : ∀ n, js_s (fun a => f a + g a) n = js_s f n + js_s g n
  | 0 => rfl
  | n + 1 => by
    have := js_s_add f g n
    simp only [js_s]; omega
theorem js_s_zero : ∀ n, js_s (fun _ => 0) n = 0
  | 0 => rfl
  | n + 1 => by simp only [js_s, js_s_zero n]
theorem js_s_swap (f : Nat → Nat → Nat) (m : Nat) : ∀ n, js_s (fun a => js_s (fun b => f a b) m) n = js_s (fun b => js_s (fun a => f a b) n) m
  | 0 => by simp only [js_s]; exact (js_s_zero m).symm
  | n + 1 => by
    simp only [js_s]
    rw [js_s_swap f m n, js_s_add]
theorem js_s_const (c : Nat) : ∀ n, js_s (fun _ => c) n = n * c
  | 0 => by simp [js_s]
  | n + 1 => by simp only [js_s, js_s_const c n]; rw [Nat.succ_mul]
theorem js_s_bd {f : Nat → Nat} {c n : Nat} (h : ∀ a, a < n → f a ≤ c) : js_s f n ≤ n * c := by
  rw [← js_s_const c n]
  exact js_s_le h
/-! schedules, states of the search -/
def js_d (n : Nat) (d : Nat → Int32) : Prop := ∀ a, a < n → 1 ≤ (d a).toInt ∧ (d a).toInt ≤ 15
def js_D (n : Nat) (M d : Nat → Int32) (s : Nat → Int) : Prop := ∀ a b, a < n → b < n → a ≠ b → M a = M b → s a + (d a).toInt ≤ s b ∨ s b + (d b).toInt ≤ s a
def js_C (n : Nat) (d lo hi pred : Nat → Int32) (s : Nat → Int) : Prop := (∀ a, a < n → (lo a).toInt ≤ s a ∧ s a + (d a).toInt ≤ (hi a).toInt) ∧ (∀ a b, a < n → b < n → bt (pred b) a = true → s a + (d a).toInt ≤ s b)
def js_R (n : Nat) (d lo hi : Nat → Int32) : Prop := ∀ a, a < n → -60 ≤ (lo a).toInt ∧ (lo a).toInt + (d a).toInt ≤ (hi a).toInt ∧ (hi a).toInt ≤ 60
def js_F1 (n : Nat) (lo hi : Nat → Int32) : Nat := js_s (fun a => ((hi a).toInt - (lo a).toInt).toNat) n
def js_F2 (n : Nat) (pred : Nat → Int32) : Nat := js_s (fun a => js_s (fun b => if bt (pred a) b = true then 0 else 1) n) n
def js_F (n : Nat) (lo hi pred : Nat → Int32) : Nat := js_F1 n lo hi + js_F2 n pred
/-- bounds shrink, orders grow -/
def js_G (n : Nat) (lo hi pred lo' hi' pred' : Nat → Int32) : Prop := ∀ a, a < n → (lo a).toInt ≤ (lo' a).toInt ∧ (hi' a).toInt ≤ (hi a).toInt ∧ (∀ b, b < n → bt (pred a) b = true → bt (pred' a) b = true)
theorem js_G_rf {n : Nat} {lo hi pred : Nat → Int32} : js_G n lo hi pred lo hi pred := fun _ _ => ⟨Int.le_refl _, Int.le_refl _, fun _ _ h => h⟩
theorem js_G_tr {n : Nat} {lo hi pred lo' hi' pred' lo'' hi'' pred'' : Nat → Int32} (h : js_G n lo hi pred lo' hi' pred') (k : js_G n lo' hi' pred' lo'' hi'' pred'') : js_G n lo hi pred lo'' hi'' pred'' :=
  fun a ha => ⟨Int.le_trans (h a ha).1 (k a ha).1, Int.le_trans (k a ha).2.1 (h a ha).2.1, fun b hb z => (k a ha).2.2 b hb ((h a ha).2.2 b hb z)⟩
theorem js_G_C {n : Nat} {d lo hi pred lo' hi' pred' : Nat → Int32} {s : Nat → Int} (h : js_G n lo hi pred lo' hi' pred') (c : js_C n d lo' hi' pred' s) : js_C n d lo hi pred s :=
  ⟨fun a ha => ⟨Int.le_trans (h a ha).1 (c.1 a ha).1, Int.le_trans (c.1 a ha).2 (h a ha).2.1⟩, fun a b ha hb z => c.2 a b ha hb ((h b hb).2.2 a ha z)⟩
theorem js_ind_le {p q : Prop} [Decidable p] [Decidable q] (h : q → p) : (if p then (0 : Nat) else 1) ≤ (if q then 0 else 1) := by
  by_cases hq : q
  · rw [if_pos hq, if_pos (h hq)]; exact Nat.le_refl _
  · rw [if_neg hq]; split <;> omega
theorem js_F2_le {n : Nat} {pred pred' : Nat → Int32} (h : ∀ a, a < n → ∀ b, b < n → bt (pred a) b = true → bt (pred' a) b = true) : js_F2 n pred' ≤ js_F2 n pred :=
  js_s_le fun a ha => js_s_le fun b hb => js_ind_le (h a ha b hb)
theorem js_F2_lt {n : Nat} {pred pred' : Nat → Int32} (h : ∀ a, a < n → ∀ b, b < n → bt (pred a) b = true → bt (pred' a) b = true) {a b : Nat} (ha : a < n) (hb : b < n) (h0 : bt (pred a) b = false) (h1 : bt (pred' a) b = true) : js_F2 n pred' < js_F2 n pred := by
  refine js_s_lt (a := a) ?_ (fun k hk => js_s_le fun b hb => js_ind_le (h k hk b hb)) ha
  refine js_s_lt (a := b) ?_ (fun k hk => js_ind_le (h a ha k hk)) hb
  show (if bt (pred' a) b = true then 0 else 1) < (if bt (pred a) b = true then 0 else 1)
  rw [h0, h1]; decide
theorem js_F1_le {n : Nat} {lo hi lo' hi' : Nat → Int32} (h : ∀ a, a < n → (lo a).toInt ≤ (lo' a).toInt ∧ (hi' a).toInt ≤ (hi a).toInt) : js_F1 n lo' hi' ≤ js_F1 n lo hi :=
  js_s_le fun a ha => by have := h a ha; show ((hi' a).toInt - (lo' a).toInt).toNat ≤ ((hi a).toInt - (lo a).toInt).toNat; omega
theorem js_F_le {n : Nat} {lo hi pred lo' hi' pred' : Nat → Int32} (h : js_G n lo hi pred lo' hi' pred') : js_F n lo' hi' pred' ≤ js_F n lo hi pred :=
  Nat.add_le_add (js_F1_le fun a ha => ⟨(h a ha).1, (h a ha).2.1⟩) (js_F2_le fun a ha => (h a ha).2.2)
/-- a sound step of the filters -/
def js_T (n : Nat) (M d lo hi pred : Nat → Int32) (mv fl : Int32) (lo' hi' pred' : Nat → Int32) (mv' fl' : Int32) : Prop :=
  (fl' = fl ∨ fl' = 1) ∧ (mv' = mv ∨ mv' = 1) ∧ (fl = 0 → js_R n d lo hi →
    (∀ s, js_D n M d s → js_C n d lo hi pred s → fl' = 0 ∧ js_C n d lo' hi' pred' s) ∧
    (fl' = 0 → js_R n d lo' hi' ∧ js_G n lo hi pred lo' hi' pred' ∧ (mv' = mv ∨ js_F n lo' hi' pred' < js_F n lo hi pred)))
theorem js_T_rf {n : Nat} {M d lo hi pred : Nat → Int32} {mv fl : Int32} : js_T n M d lo hi pred mv fl lo hi pred mv fl :=
  ⟨Or.inl rfl, Or.inl rfl, fun hf hR => ⟨fun _ _ c => ⟨hf, c⟩, fun _ => ⟨hR, js_G_rf, Or.inl rfl⟩⟩⟩
theorem js_T_tr {n : Nat} {M d lo hi pred lo' hi' pred' lo'' hi'' pred'' : Nat → Int32} {mv fl mv' fl' mv'' fl'' : Int32}
    (h : js_T n M d lo hi pred mv fl lo' hi' pred' mv' fl') (k : js_T n M d lo' hi' pred' mv' fl' lo'' hi'' pred'' mv'' fl'') : js_T n M d lo hi pred mv fl lo'' hi'' pred'' mv'' fl'' := by
  obtain ⟨h1, h2, h3⟩ := h
  obtain ⟨k1, k2, k3⟩ := k
  refine ⟨?_, ?_, fun hf hR => ⟨fun s hD hC => ?_, fun hf'' => ?_⟩⟩
  · rcases k1 with k1 | k1
    · rw [k1]; exact h1
    · exact Or.inr k1
  · rcases k2 with k2 | k2
    · rw [k2]; exact h2
    · exact Or.inr k2
  · obtain ⟨hf', hC'⟩ := (h3 hf hR).1 s hD hC
    exact (k3 hf' ((h3 hf hR).2 hf').1).1 s hD hC'
  · have hf' : fl' = 0 := by
      rcases k1 with k1 | k1
      · rw [← k1]; exact hf''
      · rw [k1] at hf''; exact absurd hf'' ja_10
    obtain ⟨a1, a2, a3⟩ := (h3 hf hR).2 hf'
    obtain ⟨b1, b2, b3⟩ := (k3 hf' a1).2 hf''
    refine ⟨b1, js_G_tr a2 b2, ?_⟩
    have e1 := js_F_le a2
    have e2 := js_F_le b2
    rcases b3 with b3 | b3
    · rcases a3 with a3 | a3
      · exact Or.inl (b3.trans a3)
      · exact Or.inr (Nat.lt_of_le_of_lt e2 a3)
    · exact Or.inr (Nat.lt_of_lt_of_le b3 e1)
/-- nothing moved -/
def js_Q (n : Nat) (lo hi pred : Nat → Int32) (lo' hi' pred' : Nat → Int32) (mv' : Int32) : Prop :=
  mv' = 0 → ∀ a, a < n → lo' a = lo a ∧ hi' a = hi a ∧ ∀ b, b < n → bt (pred' a) b = bt (pred a) b
theorem js_Q_rf {n : Nat} {lo hi pred : Nat → Int32} {mv : Int32} : js_Q n lo hi pred lo hi pred mv := fun _ _ _ => ⟨rfl, rfl, fun _ _ => rfl⟩
/-- narrow -/
def js_N (d lo hi : Nat → Int32) (mv fl : Int32) (op : Nat) (fr to : Int32) (lo' hi' : Nat → Int32) (mv' fl' : Int32) : Prop :=
  lo' = upd lo op (if lo op ≤ fr then fr else lo op) ∧ hi' = upd hi op (if to ≤ hi op then to else hi op) ∧
  ((mv' = mv ∧ fr ≤ lo op ∧ hi op ≤ to) ∨ (mv' = 1 ∧ (lo op < fr ∨ to < hi op))) ∧
  ((fl' = fl ∧ lo' op + d op ≤ hi' op) ∨ (fl' = 1 ∧ ¬ lo' op + d op ≤ hi' op))
theorem js_T_narrow {n : Nat} {M d L H P lo hi pred : Nat → Int32} {v f mv fl : Int32} {op : Nat} {fr to : Int32} {lo' hi' : Nat → Int32} {mv' fl' : Int32}
    (hd : js_d n d) (hop : op < n) (t : js_T n M d L H P v f lo hi pred mv fl) (N : js_N d lo hi mv fl op fr to lo' hi' mv' fl')
    (rg : f = 0 → fl = 0 → js_R n d L H → (-2000 ≤ fr.toInt ∧ fr.toInt ≤ 2000) ∧ (∀ s, js_D n M d s → js_C n d L H P s → fr.toInt ≤ s op ∧ s op + (d op).toInt ≤ to.toInt)) :
    js_T n M d L H P v f lo' hi' pred mv' fl' := by
  obtain ⟨t1, t2, t3⟩ := t
  obtain ⟨elo, ehi, emv, efl⟩ := N
  have dop := hd op hop
  have lo1 : lo' op = if lo op ≤ fr then fr else lo op := by rw [elo]; exact pk_us
  have hi1 : hi' op = if to ≤ hi op then to else hi op := by rw [ehi]; exact pk_us
  have lo2 : ∀ a, a ≠ op → lo' a = lo a := fun a ha => by rw [elo]; exact pk_un ha
  have hi2 : ∀ a, a ≠ op → hi' a = hi a := fun a ha => by rw [ehi]; exact pk_un ha
  have lo3 : (lo' op).toInt = if (lo op).toInt ≤ fr.toInt then fr.toInt else (lo op).toInt := by
    rw [lo1]
    by_cases z : lo op ≤ fr
    · rw [if_pos z, if_pos (ja_le.mp z)]
    · rw [if_neg z, if_neg (fun y => z (ja_le.mpr y))]
  have hi3 : (hi' op).toInt = if to.toInt ≤ (hi op).toInt then to.toInt else (hi op).toInt := by
    rw [hi1]
    by_cases z : to ≤ hi op
    · rw [if_pos z, if_pos (ja_le.mp z)]
    · rw [if_neg z, if_neg (fun y => z (ja_le.mpr y))]
  refine ⟨?_, ?_, fun hf hR => ⟨fun s hD hC => ?_, fun hf' => ?_⟩⟩
  · rcases efl with ⟨e, _⟩ | ⟨e, _⟩
    · rw [e]; exact t1
    · exact Or.inr e
  · rcases emv with ⟨e, _⟩ | ⟨e, _⟩
    · rw [e]; exact t2
    · exact Or.inr e
  · obtain ⟨hf1, hC1⟩ := (t3 hf hR).1 s hD hC
    have hs := (rg hf hf1 hR).2 s hD hC
    have h1 := hC1.1 op hop
    have l4 : (lo' op).toInt ≤ s op := by rw [lo3]; split <;> omega
    have h4 : s op + (d op).toInt ≤ (hi' op).toInt := by rw [hi3]; split <;> omega
    have b1 := (lo' op).le_toInt
    have b2 := (hi' op).toInt_lt
    refine ⟨?_, fun a ha => ?_, hC1.2⟩
    · rcases efl with ⟨e, _⟩ | ⟨_, e⟩
      · rw [e]; exact hf1
      · refine absurd (ja_le.mpr ?_) e
        rw [ja_add (by omega) (by omega)]; omega
    · by_cases z : a = op
      · subst z; exact ⟨l4, h4⟩
      · rw [lo2 a z, hi2 a z]; exact hC1.1 a ha
  · rcases efl with ⟨e, c⟩ | ⟨e, _⟩
    · have hf1 : fl = 0 := e ▸ hf'
      obtain ⟨r1, g1, p1⟩ := (t3 hf hR).2 hf1
      have rop := r1 op hop
      have hr := rg hf hf1 hR
      have c1 := ja_le.mp c
      have l5 : (lo op).toInt ≤ (lo' op).toInt ∧ (lo' op).toInt ≤ 2000 ∧ (fr.toInt ≤ (lo op).toInt → (lo' op).toInt = (lo op).toInt) ∧ ((lo op).toInt < fr.toInt → (lo op).toInt < (lo' op).toInt) := by rw [lo3]; split <;> omega
      have h5 : (hi' op).toInt ≤ (hi op).toInt ∧ ((hi op).toInt ≤ to.toInt → (hi' op).toInt = (hi op).toInt) ∧ (to.toInt < (hi op).toInt → (hi' op).toInt < (hi op).toInt) := by rw [hi3]; split <;> omega
      rw [ja_add (by omega) (by omega)] at c1
      have g2 : js_G n lo hi pred lo' hi' pred := fun a ha => by
        by_cases z : a = op
        · subst z; exact ⟨l5.1, h5.1, fun _ _ q => q⟩
        · rw [lo2 a z, hi2 a z]; exact ⟨Int.le_refl _, Int.le_refl _, fun _ _ q => q⟩
      refine ⟨fun a ha => ?_, js_G_tr g1 g2, ?_⟩
      · by_cases z : a = op
        · subst z; omega
        · rw [lo2 a z, hi2 a z]; exact r1 a ha
      · rcases emv with ⟨e2, _⟩ | ⟨e2, c2⟩
        · rcases p1 with p1 | p1
          · exact Or.inl (e2.trans p1)
          · exact Or.inr (Nat.lt_of_le_of_lt (js_F_le g2) p1)
        · refine Or.inr (Nat.lt_of_lt_of_le ?_ (js_F_le g1))
          refine Nat.add_lt_add_of_lt_of_le (js_s_lt (a := op) ?_ (fun k hk => ?_) hop) (Nat.le_refl _)
          · show ((hi' op).toInt - (lo' op).toInt).toNat < ((hi op).toInt - (lo op).toInt).toNat
            rcases c2 with c2 | c2
            · have := ja_lt.mp c2; omega
            · have := ja_lt.mp c2; omega
          · have := g2 k hk
            show ((hi' k).toInt - (lo' k).toInt).toNat ≤ ((hi k).toInt - (lo k).toInt).toNat
            omega
    · rw [e] at hf'; exact absurd hf' ja_10
theorem js_Q_narrow {n : Nat} {d L H P lo hi pred : Nat → Int32} {mv fl : Int32} {op : Nat} {fr to : Int32} {lo' hi' : Nat → Int32} {mv' fl' : Int32}
    (q : js_Q n L H P lo hi pred mv) (N : js_N d lo hi mv fl op fr to lo' hi' mv' fl') : js_Q n L H P lo' hi' pred mv' := by
  obtain ⟨elo, ehi, emv, _⟩ := N
  intro hm
  rcases emv with ⟨e, c1, c2⟩ | ⟨e, _⟩
  · have hq := q (e ▸ hm)
    intro a ha
    by_cases z : a = op
    · subst z
      have l1 : lo' a = lo a := by
        rw [elo]; show upd lo a _ a = _; rw [pk_us]
        split
        · rename_i z; exact Int32.le_antisymm c1 z
        · rfl
      have h1 : hi' a = hi a := by
        rw [ehi]; show upd hi a _ a = _; rw [pk_us]
        split
        · rename_i z; exact Int32.le_antisymm z c2
        · rfl
      rw [l1, h1]; exact hq a ha
    · rw [elo, ehi, pk_un z, pk_un z]; exact hq a ha
  · rw [e] at hm; exact absurd hm ja_10
/-- orders added -/
theorem js_T_or {n : Nat} {M d L H P lo hi pred : Nat → Int32} {v f mv fl mv' : Int32} {op : Nat} {set : Int32}
    (hop : op < n) (t : js_T n M d L H P v f lo hi pred mv fl)
    (hs : f = 0 → fl = 0 → js_R n d L H → ∀ s, js_D n M d s → js_C n d L H P s → js_C n d lo hi pred s → ∀ a, a < n → bt set a = true → s a + (d a).toInt ≤ s op)
    (hm : mv' = mv ∨ (mv' = 1 ∧ ∃ a, a < n ∧ bt set a = true ∧ bt (pred op) a = false)) :
    js_T n M d L H P v f lo hi (upd pred op (pred op ||| set)) mv' fl := by
  obtain ⟨t1, t2, t3⟩ := t
  have g2 : ∀ a, a < n → ∀ b, b < n → bt (pred a) b = true → bt (upd pred op (pred op ||| set) a) b = true := by
    intro a ha b hb h
    by_cases z : a = op
    · subst z; rw [pk_us, b_or, h]; rfl
    · rw [pk_un z]; exact h
  have G2 : js_G n lo hi pred lo hi (upd pred op (pred op ||| set)) := fun a ha => ⟨Int.le_refl _, Int.le_refl _, g2 a ha⟩
  refine ⟨t1, ?_, fun hf hR => ⟨fun s hD hC => ?_, fun hf' => ?_⟩⟩
  · rcases hm with e | ⟨e, _⟩
    · rw [e]; exact t2
    · exact Or.inr e
  · obtain ⟨hf1, hC1⟩ := (t3 hf hR).1 s hD hC
    refine ⟨hf1, hC1.1, fun a b ha hb h => ?_⟩
    by_cases z : b = op
    · subst z
      rw [pk_us, b_or] at h
      cases h2 : bt (pred b) a with
      | true => exact hC1.2 a b ha hb h2
      | false =>
        rw [h2, Bool.false_or] at h
        exact hs hf hf1 hR s hD hC hC1 a ha h
    · rw [pk_un z] at h; exact hC1.2 a b ha hb h
  · obtain ⟨r1, g1, p1⟩ := (t3 hf hR).2 hf'
    refine ⟨r1, js_G_tr g1 G2, ?_⟩
    rcases hm with e | ⟨e, a, ha, h1, h2⟩
    · rcases p1 with p1 | p1
      · exact Or.inl (e.trans p1)
      · exact Or.inr (Nat.lt_of_le_of_lt (js_F_le G2) p1)
    · refine Or.inr (Nat.lt_of_lt_of_le ?_ (js_F_le g1))
      exact Nat.add_lt_add_of_le_of_lt (Nat.le_refl _) (js_F2_lt g2 hop ha h2 (by rw [pk_us, b_or, h1, Bool.or_true]))
/-- a failure found -/
theorem js_T_fail {n : Nat} {M d L H P lo hi pred : Nat → Int32} {v f mv fl fl' : Int32} (t : js_T n M d L H P v f lo hi pred mv fl) (he : fl' = fl ∨ fl' = 1)
    (hs : f = 0 → fl = 0 → fl' = 1 → js_R n d L H → ∀ s, js_D n M d s → js_C n d L H P s → ¬ js_C n d lo hi pred s) :
    js_T n M d L H P v f lo hi pred mv fl' := by
  obtain ⟨t1, t2, t3⟩ := t
  refine ⟨?_, t2, fun hf hR => ⟨fun s hD hC => ?_, fun hf' => ?_⟩⟩
  · rcases he with e | e
    · rw [e]; exact t1
    · exact Or.inr e
  · obtain ⟨hf1, hC1⟩ := (t3 hf hR).1 s hD hC
    rcases he with e | e
    · rw [e]; exact ⟨hf1, hC1⟩
    · exact absurd hC1 (hs hf hf1 e hR s hD hC)
  · rcases he with e | e
    · exact (t3 hf hR).2 (e ▸ hf')
    · rw [e] at hf'; exact absurd hf' ja_10
end
section
/-! time turned round -/
def js_M (n : Nat) (lo hi pred lo' hi' pred' : Nat → Int32) : Prop := ∀ a, a < n → lo' a = -(hi a) ∧ hi' a = -(lo a) ∧ ∀ b, b < n → bt (pred' a) b = bt (pred b) a
def js_m (d : Nat → Int32) (s : Nat → Int) : Nat → Int := fun a => -(s a + (d a).toInt)
theorem js_m_m (d : Nat → Int32) (s : Nat → Int) : js_m d (js_m d s) = s := by
  funext a
  show -(-(s a + (d a).toInt) + (d a).toInt) = s a
  omega
theorem js_D_m {n : Nat} {M d : Nat → Int32} {s : Nat → Int} (h : js_D n M d s) : js_D n M d (js_m d s) := by
  intro a b ha hb hne hM
  have := h a b ha hb hne hM
  show -(s a + (d a).toInt) + (d a).toInt ≤ -(s b + (d b).toInt) ∨ -(s b + (d b).toInt) + (d b).toInt ≤ -(s a + (d a).toInt)
  omega
theorem js_M_t {n : Nat} {d lo hi pred lo' hi' pred' : Nat → Int32} (hd : js_d n d) (m : js_M n lo hi pred lo' hi' pred') (r : js_R n d lo hi) : ∀ a, a < n → (lo' a).toInt = -(hi a).toInt ∧ (hi' a).toInt = -(lo a).toInt := by
  intro a ha
  have := r a ha
  have := hd a ha
  rw [(m a ha).1, (m a ha).2.1, ja_neg (by omega), ja_neg (by omega)]
  exact ⟨rfl, rfl⟩
theorem js_M_R {n : Nat} {d lo hi pred lo' hi' pred' : Nat → Int32} (hd : js_d n d) (m : js_M n lo hi pred lo' hi' pred') (r : js_R n d lo hi) : js_R n d lo' hi' := by
  intro a ha
  have := r a ha
  have := js_M_t hd m r a ha
  omega
theorem js_M_C {n : Nat} {d lo hi pred lo' hi' pred' : Nat → Int32} {s : Nat → Int} (hd : js_d n d) (m : js_M n lo hi pred lo' hi' pred') (r : js_R n d lo hi) (c : js_C n d lo hi pred s) : js_C n d lo' hi' pred' (js_m d s) := by
  refine ⟨fun a ha => ?_, fun a b ha hb h => ?_⟩
  · have := js_M_t hd m r a ha
    have := c.1 a ha
    show (lo' a).toInt ≤ -(s a + (d a).toInt) ∧ -(s a + (d a).toInt) + (d a).toInt ≤ (hi' a).toInt
    omega
  · rw [(m b hb).2.2 a ha] at h
    have := c.2 b a hb ha h
    show -(s a + (d a).toInt) + (d a).toInt ≤ -(s b + (d b).toInt)
    omega
theorem js_M_F {n : Nat} {d lo hi pred lo' hi' pred' : Nat → Int32} (hd : js_d n d) (m : js_M n lo hi pred lo' hi' pred') (r : js_R n d lo hi) : js_F n lo' hi' pred' = js_F n lo hi pred := by
  have e1 : js_F1 n lo' hi' = js_F1 n lo hi := js_s_eq fun a ha => by
    have := js_M_t hd m r a ha
    show ((hi' a).toInt - (lo' a).toInt).toNat = ((hi a).toInt - (lo a).toInt).toNat
    omega
  have e2 : js_F2 n pred' = js_F2 n pred := by
    have : js_F2 n pred' = js_s (fun a => js_s (fun b => if bt (pred b) a = true then 0 else 1) n) n := js_s_eq fun a ha => js_s_eq fun b hb => by
      show (if bt (pred' a) b = true then 0 else 1) = if bt (pred b) a = true then 0 else 1
      rw [(m a ha).2.2 b hb]
    rw [this, js_s_swap (fun a b => if bt (pred b) a = true then 0 else 1) n n]
    rfl
  show js_F1 n lo' hi' + js_F2 n pred' = js_F1 n lo hi + js_F2 n pred
  rw [e1, e2]
theorem js_T_mir {n : Nat} {M d lo1 hi1 pred1 lo2 hi2 pred2 lo3 hi3 pred3 lo4 hi4 pred4 : Nat → Int32} {mv fl mv' fl' : Int32} (hd : js_d n d)
    (m : js_M n lo1 hi1 pred1 lo2 hi2 pred2) (t : js_T n M d lo2 hi2 pred2 mv fl lo3 hi3 pred3 mv' fl') (m' : js_M n lo3 hi3 pred3 lo4 hi4 pred4) :
    js_T n M d lo1 hi1 pred1 mv fl lo4 hi4 pred4 mv' fl' := by
  obtain ⟨t1, t2, t3⟩ := t
  refine ⟨t1, t2, fun hf hR => ⟨fun s hD hC => ?_, fun hf' => ?_⟩⟩
  · obtain ⟨f1, c1⟩ := (t3 hf (js_M_R hd m hR)).1 _ (js_D_m hD) (js_M_C hd m hR hC)
    have r3 := ((t3 hf (js_M_R hd m hR)).2 f1).1
    have c2 := js_M_C hd m' r3 c1
    rw [js_m_m] at c2
    exact ⟨f1, c2⟩
  · have hR2 := js_M_R hd m hR
    obtain ⟨r3, g3, p3⟩ := (t3 hf hR2).2 hf'
    refine ⟨js_M_R hd m' r3, fun a ha => ?_, ?_⟩
    · have x1 := js_M_t hd m hR a ha
      have x2 := js_M_t hd m' r3 a ha
      have x3 := g3 a ha
      refine ⟨by omega, by omega, fun b hb h => ?_⟩
      rw [(m' a ha).2.2 b hb]
      refine (g3 b hb).2.2 a ha ?_
      rw [(m b hb).2.2 a ha]; exact h
    · rw [js_M_F hd m' r3, ← js_M_F hd m hR]; exact p3
/-! the tree: earliest end of a set -/
theorem jt_ers (D : Nat → Int) (q : Nat) : ∀ L : List Nat, q ∈ L → (L.map D).sum = D q + ((L.erase q).map D).sum := by
  intro L
  induction L with
  | nil => intro h; exact absurd h (by simp)
  | cons x L il =>
    intro h
    by_cases z : x = q
    · subst z
      rw [List.erase_cons_head, List.map_cons, List.sum_cons]
    · rw [List.erase_cons_tail (by simpa using z), List.map_cons, List.sum_cons, List.map_cons, List.sum_cons, il (by rcases List.mem_cons.mp h with e | e; exact absurd e.symm z; exact e)]
      omega
theorem jt_blk (S D : Nat → Int) : ∀ (k : Nat) (L : List Nat), L.length = k → L.Nodup → ∀ t T : Int, t ≤ T →
    (∀ q, q ∈ L → 0 ≤ D q ∧ (D q = 0 ∨ (t ≤ S q ∧ S q + D q ≤ T))) →
    (∀ q, q ∈ L → ∀ r, r ∈ L → q ≠ r → D q ≠ 0 → D r ≠ 0 → S q + D q ≤ S r ∨ S r + D r ≤ S q) → (L.map D).sum ≤ T - t := by
  intro k
  induction k with
  | zero =>
    intro L hL _ t T ht _ _
    have : L = [] := List.length_eq_zero_iff.mp hL
    subst this
    simp; omega
  | succ k ih =>
    intro L hL hn t T ht h1 h2
    by_cases hz : ∃ q, q ∈ L ∧ D q ≠ 0
    · -- the last of them
      have hmax : ∀ (l : List Nat), (∃ q, q ∈ l ∧ D q ≠ 0) → ∃ q, q ∈ l ∧ D q ≠ 0 ∧ ∀ r, r ∈ l → D r ≠ 0 → S r ≤ S q := by
        intro l
        induction l with
        | nil => intro ⟨q, h, _⟩; exact absurd h (by simp)
        | cons x l il =>
          intro hx
          by_cases hl : ∃ q, q ∈ l ∧ D q ≠ 0
          · obtain ⟨q, a, b, c⟩ := il hl
            by_cases hb : D x ≠ 0 ∧ S q < S x
            · refine ⟨x, List.mem_cons_self, hb.1, fun r hr hd => ?_⟩
              rcases List.mem_cons.mp hr with e | e
              · rw [e]; exact Int.le_refl _
              · have := c r e hd; omega
            · refine ⟨q, List.mem_cons_of_mem _ a, b, fun r hr hd => ?_⟩
              rcases List.mem_cons.mp hr with e | e
              · rw [e]; rw [e] at hd
                by_cases z : S q < S x
                · exact absurd ⟨hd, z⟩ hb
                · omega
              · exact c r e hd
          · obtain ⟨q, a, b⟩ := hx
            rcases List.mem_cons.mp a with e | e
            · refine ⟨q, a, b, fun r hr hd => ?_⟩
              rcases List.mem_cons.mp hr with e' | e'
              · rw [e', e]; exact Int.le_refl _
              · exact absurd ⟨r, e', hd⟩ hl
            · exact absurd ⟨q, e, b⟩ hl
      obtain ⟨q, hq, dq, mq⟩ := hmax L hz
      have hs : (L.map D).sum = D q + ((L.erase q).map D).sum := jt_ers D q L hq
      have hqb := h1 q hq
      have := ih (L.erase q) (by rw [List.length_erase_of_mem hq, hL]; rfl) (hn.erase q) t (S q) (by omega) (fun r hr => by
          have hr' := List.mem_of_mem_erase hr
          have hne : r ≠ q := fun e => by rw [e] at hr; exact (List.Nodup.not_mem_erase hn) hr
          have a := h1 r hr'
          refine ⟨a.1, ?_⟩
          by_cases z : D r = 0
          · exact Or.inl z
          · have b := h2 r hr' q hq hne z dq
            have c := mq r hr' z
            have d1 := hqb.1
            right; omega) (fun x hx y hy => h2 x (List.mem_of_mem_erase hx) y (List.mem_of_mem_erase hy))
      rw [hs]; omega
    · have hz' : ∀ q, q ∈ L → D q = 0 := fun q hq => Classical.byContradiction fun h => hz ⟨q, hq, h⟩
      have : ∀ (l : List Nat), (∀ q, q ∈ l → D q = 0) → (l.map D).sum = 0 := by
        intro l
        induction l with
        | nil => intro _; rfl
        | cons x l il =>
          intro h
          rw [List.map_cons, List.sum_cons, h x List.mem_cons_self, il (fun q hq => h q (List.mem_cons_of_mem _ hq))]; rfl
      rw [this L hz']; omega
def jt_mx (x y : Int32) : Int32 := if x ≤ y then y else x
theorem jt_mx_i (x y : Int32) : (jt_mx x y).toInt = x.toInt ∨ (jt_mx x y).toInt = y.toInt := by
  unfold jt_mx
  split
  · exact Or.inr rfl
  · exact Or.inl rfl
/-- the tree belongs to the set inT -/
def jt_K (n : Nat) (d lo place : Nat → Int32) (inT : Int32) (sum ect : Nat → Int32) : Prop :=
  (∀ v, 1 ≤ v → v < 8 → sum v = sum (2 * v) + sum (2 * v + 1) ∧ ect v = jt_mx (ect (2 * v + 1)) (ect (2 * v) + sum (2 * v + 1))) ∧
  (∀ p, p < 8 → (sum (8 + p) = 0 ∧ ect (8 + p) = -1000) ∨ ∃ a, a < n ∧ place a = nI p ∧ bt inT a = true ∧ sum (8 + p) = d a ∧ ect (8 + p) = lo a + d a)
/-- the leaves stand in the order of lo -/
def jt_P (n : Nat) (lo place : Nat → Int32) : Prop := ∃ rk : Nat → Nat, ∀ a, a < n → rk a < 8 ∧ place a = nI (rk a) ∧ ∀ b, b < n → rk a ≤ rk b → (lo a).toInt ≤ (lo b).toInt
theorem jt_leaf {n : Nat} {d lo hi place : Nat → Int32} {inT : Int32} {sum ect : Nat → Int32} (hd : js_d n d) (r : js_R n d lo hi) (k : jt_K n d lo place inT sum ect) :
    ∀ p, p < 8 → (0 ≤ (sum (8 + p)).toInt ∧ (sum (8 + p)).toInt ≤ 15 ∧ -1000 ≤ (ect (8 + p)).toInt ∧ (ect (8 + p)).toInt ≤ 60) := by
  intro p hp
  rcases k.2 p hp with ⟨e1, e2⟩ | ⟨a, ha, _, _, e1, e2⟩
  · rw [e1, e2, ja_0, ja_m1000]; omega
  · have := hd a ha
    have := r a ha
    rw [e1, e2, ja_add (by omega) (by omega)]; omega
theorem jt_node {sum ect : Nat → Int32} {v : Nat} {B : Int} (hB : 0 ≤ B ∧ B ≤ 100) (h : sum v = sum (2 * v) + sum (2 * v + 1) ∧ ect v = jt_mx (ect (2 * v + 1)) (ect (2 * v) + sum (2 * v + 1)))
    (h1 : 0 ≤ (sum (2 * v)).toInt ∧ (sum (2 * v)).toInt ≤ B ∧ -1000 ≤ (ect (2 * v)).toInt ∧ (ect (2 * v)).toInt ≤ 60 + B)
    (h2 : 0 ≤ (sum (2 * v + 1)).toInt ∧ (sum (2 * v + 1)).toInt ≤ B ∧ -1000 ≤ (ect (2 * v + 1)).toInt ∧ (ect (2 * v + 1)).toInt ≤ 60 + B) :
    (sum v).toInt = (sum (2 * v)).toInt + (sum (2 * v + 1)).toInt ∧ ((ect v).toInt = (ect (2 * v + 1)).toInt ∨ (ect v).toInt = (ect (2 * v)).toInt + (sum (2 * v + 1)).toInt) := by
  refine ⟨by rw [h.1, ja_add (by omega) (by omega)], ?_⟩
  rw [h.2]
  rcases jt_mx_i (ect (2 * v + 1)) (ect (2 * v) + sum (2 * v + 1)) with e | e
  · exact Or.inl e
  · right; rw [e, ja_add (by omega) (by omega)]
end
section
theorem jt_len : ∀ {l m : List Nat}, l.Nodup → (∀ q, q ∈ l → q ∈ m) → l.length ≤ m.length := by
  intro l
  induction l with
  | nil => intro m _ _; simp
  | cons x l il =>
    intro m hn h
    have hx : x ∈ m := h x List.mem_cons_self
    have := il (m := m.erase x) (List.nodup_cons.mp hn).2 (fun q hq => by
      have hne : q ≠ x := fun e => (List.nodup_cons.mp hn).1 (e ▸ hq)
      exact (List.mem_erase_of_ne hne).mpr (h q (List.mem_cons_of_mem _ hq)))
    rw [List.length_erase_of_mem hx] at this
    have hpos : 0 < m.length := List.length_pos_of_mem hx
    rw [List.length_cons]; omega
theorem jt_root {n : Nat} {d lo hi place : Nat → Int32} {inT : Int32} {sum ect : Nat → Int32} (hd : js_d n d) (r : js_R n d lo hi) (k : jt_K n d lo place inT sum ect) :
    (∃ p l, p < 8 ∧ (p :: l).Nodup ∧ (∀ q, q ∈ l → q < 8 ∧ p < q) ∧ (ect 1).toInt = (ect (8 + p)).toInt + (l.map (fun q => (sum (8 + q)).toInt)).sum) ∧ -1000 ≤ (ect 1).toInt ∧ (ect 1).toInt ≤ 200 := by
  have L0 : 0 ≤ (sum 8).toInt ∧ (sum 8).toInt ≤ 15 ∧ -1000 ≤ (ect 8).toInt ∧ (ect 8).toInt ≤ 60 := jt_leaf hd r k 0 (by omega)
  have L1 : 0 ≤ (sum 9).toInt ∧ (sum 9).toInt ≤ 15 ∧ -1000 ≤ (ect 9).toInt ∧ (ect 9).toInt ≤ 60 := jt_leaf hd r k 1 (by omega)
  have L2 : 0 ≤ (sum 10).toInt ∧ (sum 10).toInt ≤ 15 ∧ -1000 ≤ (ect 10).toInt ∧ (ect 10).toInt ≤ 60 := jt_leaf hd r k 2 (by omega)
  have L3 : 0 ≤ (sum 11).toInt ∧ (sum 11).toInt ≤ 15 ∧ -1000 ≤ (ect 11).toInt ∧ (ect 11).toInt ≤ 60 := jt_leaf hd r k 3 (by omega)
  have L4 : 0 ≤ (sum 12).toInt ∧ (sum 12).toInt ≤ 15 ∧ -1000 ≤ (ect 12).toInt ∧ (ect 12).toInt ≤ 60 := jt_leaf hd r k 4 (by omega)
  have L5 : 0 ≤ (sum 13).toInt ∧ (sum 13).toInt ≤ 15 ∧ -1000 ≤ (ect 13).toInt ∧ (ect 13).toInt ≤ 60 := jt_leaf hd r k 5 (by omega)
  have L6 : 0 ≤ (sum 14).toInt ∧ (sum 14).toInt ≤ 15 ∧ -1000 ≤ (ect 14).toInt ∧ (ect 14).toInt ≤ 60 := jt_leaf hd r k 6 (by omega)
  have L7 : 0 ≤ (sum 15).toInt ∧ (sum 15).toInt ≤ 15 ∧ -1000 ≤ (ect 15).toInt ∧ (ect 15).toInt ≤ 60 := jt_leaf hd r k 7 (by omega)
  have N4 : (sum 4).toInt = (sum 8).toInt + (sum 9).toInt ∧ ((ect 4).toInt = (ect 9).toInt ∨ (ect 4).toInt = (ect 8).toInt + (sum 9).toInt) := jt_node (v := 4) (B := 15) (by omega) (k.1 4 (by omega) (by omega)) ⟨L0.1, L0.2.1, L0.2.2.1, Int.le_trans L0.2.2.2 (by decide)⟩ ⟨L1.1, L1.2.1, L1.2.2.1, Int.le_trans L1.2.2.2 (by decide)⟩
  have R4 : 0 ≤ (sum 4).toInt ∧ (sum 4).toInt ≤ 30 ∧ -1000 ≤ (ect 4).toInt ∧ (ect 4).toInt ≤ 75 := by omega
  have N5 : (sum 5).toInt = (sum 10).toInt + (sum 11).toInt ∧ ((ect 5).toInt = (ect 11).toInt ∨ (ect 5).toInt = (ect 10).toInt + (sum 11).toInt) := jt_node (v := 5) (B := 15) (by omega) (k.1 5 (by omega) (by omega)) ⟨L2.1, L2.2.1, L2.2.2.1, Int.le_trans L2.2.2.2 (by decide)⟩ ⟨L3.1, L3.2.1, L3.2.2.1, Int.le_trans L3.2.2.2 (by decide)⟩
  have R5 : 0 ≤ (sum 5).toInt ∧ (sum 5).toInt ≤ 30 ∧ -1000 ≤ (ect 5).toInt ∧ (ect 5).toInt ≤ 75 := by omega
  have N6 : (sum 6).toInt = (sum 12).toInt + (sum 13).toInt ∧ ((ect 6).toInt = (ect 13).toInt ∨ (ect 6).toInt = (ect 12).toInt + (sum 13).toInt) := jt_node (v := 6) (B := 15) (by omega) (k.1 6 (by omega) (by omega)) ⟨L4.1, L4.2.1, L4.2.2.1, Int.le_trans L4.2.2.2 (by decide)⟩ ⟨L5.1, L5.2.1, L5.2.2.1, Int.le_trans L5.2.2.2 (by decide)⟩
  have R6 : 0 ≤ (sum 6).toInt ∧ (sum 6).toInt ≤ 30 ∧ -1000 ≤ (ect 6).toInt ∧ (ect 6).toInt ≤ 75 := by omega
  have N7 : (sum 7).toInt = (sum 14).toInt + (sum 15).toInt ∧ ((ect 7).toInt = (ect 15).toInt ∨ (ect 7).toInt = (ect 14).toInt + (sum 15).toInt) := jt_node (v := 7) (B := 15) (by omega) (k.1 7 (by omega) (by omega)) ⟨L6.1, L6.2.1, L6.2.2.1, Int.le_trans L6.2.2.2 (by decide)⟩ ⟨L7.1, L7.2.1, L7.2.2.1, Int.le_trans L7.2.2.2 (by decide)⟩
  have R7 : 0 ≤ (sum 7).toInt ∧ (sum 7).toInt ≤ 30 ∧ -1000 ≤ (ect 7).toInt ∧ (ect 7).toInt ≤ 75 := by omega
  have N2 : (sum 2).toInt = (sum 4).toInt + (sum 5).toInt ∧ ((ect 2).toInt = (ect 5).toInt ∨ (ect 2).toInt = (ect 4).toInt + (sum 5).toInt) := jt_node (v := 2) (B := 30) (by omega) (k.1 2 (by omega) (by omega)) ⟨R4.1, R4.2.1, R4.2.2.1, Int.le_trans R4.2.2.2 (by decide)⟩ ⟨R5.1, R5.2.1, R5.2.2.1, Int.le_trans R5.2.2.2 (by decide)⟩
  have R2 : 0 ≤ (sum 2).toInt ∧ (sum 2).toInt ≤ 60 ∧ -1000 ≤ (ect 2).toInt ∧ (ect 2).toInt ≤ 110 := by omega
  have N3 : (sum 3).toInt = (sum 6).toInt + (sum 7).toInt ∧ ((ect 3).toInt = (ect 7).toInt ∨ (ect 3).toInt = (ect 6).toInt + (sum 7).toInt) := jt_node (v := 3) (B := 30) (by omega) (k.1 3 (by omega) (by omega)) ⟨R6.1, R6.2.1, R6.2.2.1, Int.le_trans R6.2.2.2 (by decide)⟩ ⟨R7.1, R7.2.1, R7.2.2.1, Int.le_trans R7.2.2.2 (by decide)⟩
  have R3 : 0 ≤ (sum 3).toInt ∧ (sum 3).toInt ≤ 60 ∧ -1000 ≤ (ect 3).toInt ∧ (ect 3).toInt ≤ 110 := by omega
  have N1 : (sum 1).toInt = (sum 2).toInt + (sum 3).toInt ∧ ((ect 1).toInt = (ect 3).toInt ∨ (ect 1).toInt = (ect 2).toInt + (sum 3).toInt) := jt_node (v := 1) (B := 60) (by omega) (k.1 1 (by omega) (by omega)) ⟨R2.1, R2.2.1, R2.2.2.1, Int.le_trans R2.2.2.2 (by decide)⟩ ⟨R3.1, R3.2.1, R3.2.2.1, Int.le_trans R3.2.2.2 (by decide)⟩
  refine ⟨?_, by omega⟩
  rcases N1.2 with e1 | e1
  · rcases N3.2 with e3 | e3
    · rcases N7.2 with e7 | e7
      · refine ⟨7, [], by omega, by decide, by decide, ?_⟩
        simp only [List.map_cons, List.map_nil, List.sum_cons, List.sum_nil]
        show (ect 1).toInt = (ect 15).toInt + _
        show (ect 1).toInt = (ect 15).toInt + (0)
        omega
      · refine ⟨6, [7], by omega, by decide, by decide, ?_⟩
        simp only [List.map_cons, List.map_nil, List.sum_cons, List.sum_nil]
        show (ect 1).toInt = (ect 14).toInt + _
        show (ect 1).toInt = (ect 14).toInt + ((sum 15).toInt + (0))
        omega
    · rcases N6.2 with e6 | e6
      · refine ⟨5, [6, 7], by omega, by decide, by decide, ?_⟩
        simp only [List.map_cons, List.map_nil, List.sum_cons, List.sum_nil]
        show (ect 1).toInt = (ect 13).toInt + _
        show (ect 1).toInt = (ect 13).toInt + ((sum 14).toInt + ((sum 15).toInt + (0)))
        omega
      · refine ⟨4, [5, 6, 7], by omega, by decide, by decide, ?_⟩
        simp only [List.map_cons, List.map_nil, List.sum_cons, List.sum_nil]
        show (ect 1).toInt = (ect 12).toInt + _
        show (ect 1).toInt = (ect 12).toInt + ((sum 13).toInt + ((sum 14).toInt + ((sum 15).toInt + (0))))
        omega
  · rcases N2.2 with e2 | e2
    · rcases N5.2 with e5 | e5
      · refine ⟨3, [4, 5, 6, 7], by omega, by decide, by decide, ?_⟩
        simp only [List.map_cons, List.map_nil, List.sum_cons, List.sum_nil]
        show (ect 1).toInt = (ect 11).toInt + _
        show (ect 1).toInt = (ect 11).toInt + ((sum 12).toInt + ((sum 13).toInt + ((sum 14).toInt + ((sum 15).toInt + (0)))))
        omega
      · refine ⟨2, [3, 4, 5, 6, 7], by omega, by decide, by decide, ?_⟩
        simp only [List.map_cons, List.map_nil, List.sum_cons, List.sum_nil]
        show (ect 1).toInt = (ect 10).toInt + _
        show (ect 1).toInt = (ect 10).toInt + ((sum 11).toInt + ((sum 12).toInt + ((sum 13).toInt + ((sum 14).toInt + ((sum 15).toInt + (0))))))
        omega
    · rcases N4.2 with e4 | e4
      · refine ⟨1, [2, 3, 4, 5, 6, 7], by omega, by decide, by decide, ?_⟩
        simp only [List.map_cons, List.map_nil, List.sum_cons, List.sum_nil]
        show (ect 1).toInt = (ect 9).toInt + _
        show (ect 1).toInt = (ect 9).toInt + ((sum 10).toInt + ((sum 11).toInt + ((sum 12).toInt + ((sum 13).toInt + ((sum 14).toInt + ((sum 15).toInt + (0)))))))
        omega
      · refine ⟨0, [1, 2, 3, 4, 5, 6, 7], by omega, by decide, by decide, ?_⟩
        simp only [List.map_cons, List.map_nil, List.sum_cons, List.sum_nil]
        show (ect 1).toInt = (ect 8).toInt + _
        show (ect 1).toInt = (ect 8).toInt + ((sum 9).toInt + ((sum 10).toInt + ((sum 11).toInt + ((sum 12).toInt + ((sum 13).toInt + ((sum 14).toInt + ((sum 15).toInt + (0))))))))
        omega
/-- all ops in the tree end by T: then so does its earliest end -/
theorem jt_ect {n : Nat} {d lo hi place : Nat → Int32} {inT : Int32} {sum ect : Nat → Int32} (hd : js_d n d) (r : js_R n d lo hi) (k : jt_K n d lo place inT sum ect) (P : jt_P n lo place)
    {s : Nat → Int} {T : Int} (hT : -800 ≤ T) (h1 : ∀ a, a < n → bt inT a = true → (lo a).toInt ≤ s a ∧ s a + (d a).toInt ≤ T)
    (h2 : ∀ a b, a < n → b < n → a ≠ b → bt inT a = true → bt inT b = true → s a + (d a).toInt ≤ s b ∨ s b + (d b).toInt ≤ s a) : (ect 1).toInt ≤ T := by
  obtain ⟨rk, hrk⟩ := P
  obtain ⟨⟨p, l, hp, hnd, hl, e⟩, _⟩ := jt_root hd r k
  have hch : ∀ q, ∃ a, q < 8 → (sum (8 + q)).toInt = 0 ∨ (a < n ∧ rk a = q ∧ bt inT a = true ∧ (sum (8 + q)).toInt = (d a).toInt ∧ (ect (8 + q)).toInt = (lo a).toInt + (d a).toInt) := by
    intro q
    by_cases hq : q < 8
    · rcases k.2 q hq with ⟨e1, e2⟩ | ⟨a, ha, e0, b, e1, e2⟩
      · exact ⟨0, fun _ => Or.inl (by rw [e1]; exact ja_0)⟩
      · refine ⟨a, fun _ => Or.inr ⟨ha, ?_, b, by rw [e1], ?_⟩⟩
        · rw [(hrk a ha).2.1] at e0
          exact (nI_eq (by have := (hrk a ha).1; omega) (by omega)).mp e0
        · have := hd a ha
          have := r a ha
          rw [e2, ja_add (by omega) (by omega)]
    · exact ⟨0, fun h => absurd h hq⟩
  obtain ⟨g, hg⟩ := Classical.axiomOfChoice hch
  have lf := jt_leaf hd r k
  have hsum : ∀ (m : List Nat), (∀ q, q ∈ m → q < 8) → (m.map (fun q => (sum (8 + q)).toInt)).sum ≤ 15 * m.length := by
    intro m
    induction m with
    | nil => intro _; simp
    | cons x m im =>
      intro h
      have a := lf x (h x List.mem_cons_self)
      have b := im (fun q hq => h q (List.mem_cons_of_mem _ hq))
      simp only [List.map_cons, List.sum_cons, List.length_cons]
      omega
  rcases hg p hp with z | ⟨ga, gr, gb, g1, g2⟩
  · -- an empty leaf
    have h3 : (ect (8 + p)).toInt = -1000 := by
      rcases k.2 p hp with ⟨_, e2⟩ | ⟨a, ha, _, _, e1, _⟩
      · rw [e2]; exact ja_m1000
      · rw [e1] at z; have := hd a ha; omega
    have h4 := hsum l (fun q hq => (hl q hq).1)
    have h5 : l.length ≤ 8 := by
      have a1 : l.Nodup := (List.nodup_cons.mp hnd).2
      have a2 : ∀ q, q ∈ l → q ∈ List.range 8 := fun q hq => List.mem_range.mpr (hl q hq).1
      have := jt_len a1 a2
      simpa using this
    omega
  · have hb := jt_blk (fun q => s (g q)) (fun q => (sum (8 + q)).toInt) (p :: l).length (p :: l) rfl hnd (lo (g p)).toInt T
      (by have := h1 (g p) ga gb; have := hd (g p) ga; omega)
      (fun q hq => by
        have hq8 : q < 8 ∧ p ≤ q := by
          rcases List.mem_cons.mp hq with e | e
          · omega
          · have := hl q e; omega
        refine ⟨(lf q hq8.1).1, ?_⟩
        rcases hg q hq8.1 with z | ⟨qa, qr, qb, q1, q2⟩
        · exact Or.inl z
        · right
          show (lo (g p)).toInt ≤ s (g q) ∧ s (g q) + (sum (8 + q)).toInt ≤ T
          have a1 := h1 (g q) qa qb
          have a2 := (hrk (g p) ga).2.2 (g q) qa (by omega)
          rw [q1]; omega)
      (fun q hq q' hq' hne d1 d2 => by
        have hq8 : q < 8 := by
          rcases List.mem_cons.mp hq with e | e
          · omega
          · exact (hl q e).1
        have hq8' : q' < 8 := by
          rcases List.mem_cons.mp hq' with e | e
          · omega
          · exact (hl q' e).1
        rcases hg q hq8 with z | ⟨qa, qr, qb, q1, q2⟩
        · exact absurd z d1
        · rcases hg q' hq8' with z | ⟨qa', qr', qb', q1', q2'⟩
          · exact absurd z d2
          · show s (g q) + (sum (8 + q)).toInt ≤ s (g q') ∨ s (g q') + (sum (8 + q')).toInt ≤ s (g q)
            rw [q1, q1']
            exact h2 (g q) (g q') qa qa' (fun e => hne (by rw [← qr, ← qr', e])) qb qb')
    rw [List.map_cons, List.sum_cons] at hb
    have hb' : (sum (8 + p)).toInt + (l.map (fun q => (sum (8 + q)).toInt)).sum ≤ T - (lo (g p)).toInt := hb
    omega
end
section
/-! walks of X: small methods, the tree -/
theorem jl_fill {e : Nat → Int32} {c : Int32} {i : Nat} (h : ∀ j, j < i → e j = c) : ∀ j, j < i + 1 → upd e i c j = c := fun j hj => by
  by_cases z : j = i
  · subst z; exact pk_us
  · rw [pk_un z]; exact h j (by omega)
def jt_mn (x y : Int32) : Int32 := if y ≤ x then y else x
section
variable {f_machines f_firstHorizon f_horizon f_jobs f_ops f_depth f_recorded f_wantA f_wantB f_moved f_failed f_level f_pickA f_pickB f_inTree : Int32} {a_releaseOf a_dueOf a_jobOf a_machineOf a_durationOf a_entryA a_entryB a_noted a_wantFrom a_wantTo a_lo a_hi a_pred a_savedLo a_savedHi a_savedPred a_savedA a_savedB a_raised a_cut a_place a_sum a_ect : Nat → Int32}
theorem jx_greater {post : Int32 → Prop} {p0 p1 : Int32} (h : post (jt_mx p0 p1)) : (wpX_greater post (f_machines, f_firstHorizon, f_horizon, f_jobs, f_ops, f_depth, f_recorded, f_wantA, f_wantB, f_moved, f_failed, f_level, f_pickA, f_pickB, f_inTree, a_releaseOf, a_dueOf, a_jobOf, a_machineOf, a_durationOf, a_entryA, a_entryB, a_noted, a_wantFrom, a_wantTo, a_lo, a_hi, a_pred, a_savedLo, a_savedHi, a_savedPred, a_savedA, a_savedB, a_raised, a_cut, a_place, a_sum, a_ect) p0 p1) :=
  br_c (fun z => by rw [jt_mx, if_pos z] at h; exact h) (fun z => by rw [jt_mx, if_neg z] at h; exact h)
theorem jx_lesser {post : Int32 → Prop} {p0 p1 : Int32} (h : post (jt_mn p0 p1)) : (wpX_lesser post (f_machines, f_firstHorizon, f_horizon, f_jobs, f_ops, f_depth, f_recorded, f_wantA, f_wantB, f_moved, f_failed, f_level, f_pickA, f_pickB, f_inTree, a_releaseOf, a_dueOf, a_jobOf, a_machineOf, a_durationOf, a_entryA, a_entryB, a_noted, a_wantFrom, a_wantTo, a_lo, a_hi, a_pred, a_savedLo, a_savedHi, a_savedPred, a_savedA, a_savedB, a_raised, a_cut, a_place, a_sum, a_ect) p0 p1) :=
  br_c (fun z => by rw [jt_mn, if_pos z] at h; exact h) (fun z => by rw [jt_mn, if_neg z] at h; exact h)
theorem jx_rivals {post : Int32 → Prop} {a b : Nat} (ha : a < 8) (hb : b < 8) (h1 : a ≠ b → a_machineOf a = a_machineOf b → post 1) (h0 : ¬ (a ≠ b ∧ a_machineOf a = a_machineOf b) → post 0) : (wpX_rivals post (f_machines, f_firstHorizon, f_horizon, f_jobs, f_ops, f_depth, f_recorded, f_wantA, f_wantB, f_moved, f_failed, f_level, f_pickA, f_pickB, f_inTree, a_releaseOf, a_dueOf, a_jobOf, a_machineOf, a_durationOf, a_entryA, a_entryB, a_noted, a_wantFrom, a_wantTo, a_lo, a_hi, a_pred, a_savedLo, a_savedHi, a_savedPred, a_savedA, a_savedB, a_raised, a_cut, a_place, a_sum, a_ect) (nI a) (nI b)) := by
  have ea : (nI a).toNatClampNeg = a := nI_clamp (by omega)
  have eb : (nI b).toNatClampNeg = b := nI_clamp (by omega)
  refine br_c (fun z => h0 fun y => y.1 ((nI_eq (by omega) (by omega)).mp z)) fun z => ⟨vp_in_nI ha (by omega), vp_in_nI hb (by omega), ?_⟩
  rw [ea, eb]
  exact br_c (fun y => h1 (fun e => z (congrArg nI e)) y) (fun y => h0 fun x => y x.2)
theorem jx_narrow_30 {post : SX → Prop} {op : Nat} {fr to z0 z1 : Int32} (hop : op < 8) (h0 : z0 = 0 ∨ z0 = 1) (h1 : z1 = 0 ∨ z1 = 1) (hf : f_failed = 0 ∨ f_failed = 1)
    (h : ∀ lo' hi' mv' fl', lo' = upd a_lo op (jt_mx (a_lo op) fr) → hi' = upd a_hi op (jt_mn (a_hi op) to) → mv' = z1 ||| z0 → ((fl' = f_failed ∧ lo' op + a_durationOf op ≤ hi' op) ∨ (fl' = 1 ∧ ¬ lo' op + a_durationOf op ≤ hi' op)) → post (f_machines, f_firstHorizon, f_horizon, f_jobs, f_ops, f_depth, f_recorded, f_wantA, f_wantB, mv', fl', f_level, f_pickA, f_pickB, f_inTree, a_releaseOf, a_dueOf, a_jobOf, a_machineOf, a_durationOf, a_entryA, a_entryB, a_noted, a_wantFrom, a_wantTo, lo', hi', a_pred, a_savedLo, a_savedHi, a_savedPred, a_savedA, a_savedB, a_raised, a_cut, a_place, a_sum, a_ect)) : (wX_narrow_30 post (nI op) fr to z0 z1 f_machines f_firstHorizon f_horizon f_jobs f_ops f_depth f_recorded f_wantA f_wantB f_moved f_failed f_level f_pickA f_pickB f_inTree a_releaseOf a_dueOf a_jobOf a_machineOf a_durationOf a_entryA a_entryB a_noted a_wantFrom a_wantTo a_lo a_hi a_pred a_savedLo a_savedHi a_savedPred a_savedA a_savedB a_raised a_cut a_place a_sum a_ect) := by
  intro mv' emv
  have hv : vp_in (nI op) 8 := vp_in_nI hop (by decide)
  have e : (nI op).toNatClampNeg = op := nI_clamp (by omega)
  have hb : mv' = 0 ∨ mv' = 1 := by rw [emv]; rcases h0 with h0 | h0 <;> rcases h1 with h1 | h1 <;> rw [h0, h1] <;> decide
  rw [e]
  refine ⟨jf_n hb, jf_f hb, hv, jx_greater ⟨hv, fun lo' elo => ⟨hv, jx_lesser ⟨hv, fun hi' ehi => ⟨hv, hv, hv, ?_⟩⟩⟩⟩⟩
  refine br_c (fun z => ?_) (fun z => ?_)
  · intro fl' efl
    have ef : fl' = f_failed := efl.trans (jf_0 hf)
    have hb2 : fl' = 0 ∨ fl' = 1 := by rw [ef]; exact hf
    exact ⟨jf_n hb2, jf_f hb2, h lo' hi' mv' fl' elo ehi emv (Or.inl ⟨ef, z⟩)⟩
  · intro fl' efl
    have ef : fl' = 1 := efl.trans (jf_1 hf)
    have hb2 : fl' = 0 ∨ fl' = 1 := Or.inr ef
    exact ⟨jf_n hb2, jf_f hb2, h lo' hi' mv' fl' elo ehi emv (Or.inr ⟨ef, z⟩)⟩
theorem jx_narrow {post : SX → Prop} {op : Nat} {fr to : Int32} (hop : op < 8) (hm : f_moved = 0 ∨ f_moved = 1) (hf : f_failed = 0 ∨ f_failed = 1)
    (h : ∀ lo' hi' mv' fl', js_N a_durationOf a_lo a_hi f_moved f_failed op fr to lo' hi' mv' fl' → post (f_machines, f_firstHorizon, f_horizon, f_jobs, f_ops, f_depth, f_recorded, f_wantA, f_wantB, mv', fl', f_level, f_pickA, f_pickB, f_inTree, a_releaseOf, a_dueOf, a_jobOf, a_machineOf, a_durationOf, a_entryA, a_entryB, a_noted, a_wantFrom, a_wantTo, lo', hi', a_pred, a_savedLo, a_savedHi, a_savedPred, a_savedA, a_savedB, a_raised, a_cut, a_place, a_sum, a_ect)) : (wpX_narrow post (f_machines, f_firstHorizon, f_horizon, f_jobs, f_ops, f_depth, f_recorded, f_wantA, f_wantB, f_moved, f_failed, f_level, f_pickA, f_pickB, f_inTree, a_releaseOf, a_dueOf, a_jobOf, a_machineOf, a_durationOf, a_entryA, a_entryB, a_noted, a_wantFrom, a_wantTo, a_lo, a_hi, a_pred, a_savedLo, a_savedHi, a_savedPred, a_savedA, a_savedB, a_raised, a_cut, a_place, a_sum, a_ect) (nI op) fr to) := by
  have hv : vp_in (nI op) 8 := vp_in_nI hop (by decide)
  have e : (nI op).toNatClampNeg = op := nI_clamp (by omega)
  unfold wpX_narrow
  dsimp only
  rw [e]
  refine ⟨hv, br_c (fun z => ?_) (fun z => ⟨hv, br_c (fun y => ?_) (fun y => ?_)⟩)⟩
  · exact jx_narrow_30 hop (Or.inr rfl) hm hf fun lo' hi' mv' fl' a b c d => h lo' hi' mv' fl' ⟨a, b, Or.inr ⟨c.trans (jf_1 hm), Or.inl z⟩, d⟩
  · exact jx_narrow_30 hop (Or.inl rfl) hm hf fun lo' hi' mv' fl' a b c d => h lo' hi' mv' fl' ⟨a, b, Or.inl ⟨c.trans (jf_0 hm), Int32.not_lt.mp z, y⟩, d⟩
  · exact jx_narrow_30 hop (Or.inr rfl) hm hf fun lo' hi' mv' fl' a b c d => h lo' hi' mv' fl' ⟨a, b, Or.inr ⟨c.trans (jf_1 hm), Or.inr (Int32.not_le.mp y)⟩, d⟩
theorem jx_putAfter {post : SX → Prop} {op : Nat} {set en : Int32} (hop : op < 8) (hm : f_moved = 0 ∨ f_moved = 1)
    (h : ∀ mv', ((mv' = f_moved ∧ ∀ i, i < 32 → bt set i = true → bt (a_pred op) i = true) ∨ (mv' = 1 ∧ ¬ ∀ i, i < 32 → bt set i = true → bt (a_pred op) i = true)) → post (f_machines, f_firstHorizon, f_horizon, f_jobs, f_ops, f_depth, f_recorded, f_wantA, f_wantB, mv', f_failed, f_level, f_pickA, f_pickB, f_inTree, a_releaseOf, a_dueOf, a_jobOf, a_machineOf, a_durationOf, a_entryA, a_entryB, a_noted, a_wantFrom, a_wantTo, a_lo, a_hi, upd a_pred op (a_pred op ||| set), a_savedLo, a_savedHi, a_savedPred, a_savedA, a_savedB, upd a_raised op (jt_mx (a_raised op) en), a_cut, a_place, a_sum, a_ect)) : (wpX_putAfter post (f_machines, f_firstHorizon, f_horizon, f_jobs, f_ops, f_depth, f_recorded, f_wantA, f_wantB, f_moved, f_failed, f_level, f_pickA, f_pickB, f_inTree, a_releaseOf, a_dueOf, a_jobOf, a_machineOf, a_durationOf, a_entryA, a_entryB, a_noted, a_wantFrom, a_wantTo, a_lo, a_hi, a_pred, a_savedLo, a_savedHi, a_savedPred, a_savedA, a_savedB, a_raised, a_cut, a_place, a_sum, a_ect) (nI op) set en) := by
  have hv : vp_in (nI op) 8 := vp_in_nI hop (by decide)
  have e : (nI op).toNatClampNeg = op := nI_clamp (by omega)
  unfold wpX_putAfter
  dsimp only
  refine ⟨hv, ?_⟩
  rw [e]
  refine br_c (fun z => ?_) (fun z => ?_)
  · intro mv' emv
    have ef : mv' = f_moved := emv.trans (jf_0 hm)
    have hb2 : mv' = 0 ∨ mv' = 1 := by rw [ef]; exact hm
    rw [e]
    refine ⟨jf_n hb2, jf_f hb2, hv, hv, nm_e ⟨hv, jx_greater ⟨hv, nm_e ?_⟩⟩⟩
    exact h mv' (Or.inl ⟨ef, (jb_sub _ _).mp z⟩)
  · intro mv' emv
    have ef : mv' = 1 := emv.trans (jf_1 hm)
    have hb2 : mv' = 0 ∨ mv' = 1 := Or.inr ef
    rw [e]
    refine ⟨jf_n hb2, jf_f hb2, hv, hv, nm_e ⟨hv, jx_greater ⟨hv, nm_e ?_⟩⟩⟩
    exact h mv' (Or.inr ⟨ef, fun y => z ((jb_sub _ _).mpr y)⟩)
theorem jx_clearTree {post : SX → Prop} (h : ∀ sum ect, (∀ j, j < 16 → sum j = 0) → (∀ j, j < 16 → ect j = -1000) → post (f_machines, f_firstHorizon, f_horizon, f_jobs, f_ops, f_depth, f_recorded, f_wantA, f_wantB, f_moved, f_failed, f_level, f_pickA, f_pickB, 0, a_releaseOf, a_dueOf, a_jobOf, a_machineOf, a_durationOf, a_entryA, a_entryB, a_noted, a_wantFrom, a_wantTo, a_lo, a_hi, a_pred, a_savedLo, a_savedHi, a_savedPred, a_savedA, a_savedB, a_raised, a_cut, a_place, sum, ect)) : (wpX_clearTree post (f_machines, f_firstHorizon, f_horizon, f_jobs, f_ops, f_depth, f_recorded, f_wantA, f_wantB, f_moved, f_failed, f_level, f_pickA, f_pickB, f_inTree, a_releaseOf, a_dueOf, a_jobOf, a_machineOf, a_durationOf, a_entryA, a_entryB, a_noted, a_wantFrom, a_wantTo, a_lo, a_hi, a_pred, a_savedLo, a_savedHi, a_savedPred, a_savedA, a_savedB, a_raised, a_cut, a_place, a_sum, a_ect)) := by
  show ∃ n7 : Nat, (wX_clearTree_7 post f_machines f_firstHorizon f_horizon f_jobs f_ops f_depth f_recorded f_wantA f_wantB f_moved f_failed f_level f_pickA f_pickB 0 n7 0 a_releaseOf a_dueOf a_jobOf a_machineOf a_durationOf a_entryA a_entryB a_noted a_wantFrom a_wantTo a_lo a_hi a_pred a_savedLo a_savedHi a_savedPred a_savedA a_savedB a_raised a_cut a_place a_sum a_ect)
  refine loop_0 (fun n i s => (wX_clearTree_7 post f_machines f_firstHorizon f_horizon f_jobs f_ops f_depth f_recorded f_wantA f_wantB f_moved f_failed f_level f_pickA f_pickB 0 n (nI i) a_releaseOf a_dueOf a_jobOf a_machineOf a_durationOf a_entryA a_entryB a_noted a_wantFrom a_wantTo a_lo a_hi a_pred a_savedLo a_savedHi a_savedPred a_savedA a_savedB a_raised a_cut a_place s a_ect)) (fun i s => ∀ j, j < i → s j = 0) 16 _ (fun j hj => by omega) ?_ ?_
  · intro m s hs
    refine br_t (nI_le (a := 16) (b := 16) (by omega) (by omega)) ?_
    refine loop_0 (fun n i e => (wX_clearTree_28 post f_machines f_firstHorizon f_horizon f_jobs f_ops f_depth f_recorded f_wantA f_wantB f_moved f_failed f_level f_pickA f_pickB 0 n (nI i) a_releaseOf a_dueOf a_jobOf a_machineOf a_durationOf a_entryA a_entryB a_noted a_wantFrom a_wantTo a_lo a_hi a_pred a_savedLo a_savedHi a_savedPred a_savedA a_savedB a_raised a_cut a_place s e)) (fun i e => ∀ j, j < i → e j = -1000) 16 _ (fun j hj => by omega) ?_ ?_
    · intro m e he
      exact br_t (nI_le (a := 16) (b := 16) (by omega) (by omega)) (h s e hs he)
    · intro m i e hi he K
      refine br_f (nI_ge (a := i) (b := 16) hi (by omega)) ⟨vp_in_nI (by omega) (by omega), nm_e (nm_r (nI_1 i) (K _ ?_))⟩
      rw [nI_clamp (by omega)]
      exact jl_fill he
  · intro m i s hi hs K
    refine br_f (nI_ge (a := i) (b := 16) hi (by omega)) ⟨vp_in_nI (by omega) (by omega), nm_e (nm_r (nI_1 i) (K _ ?_))⟩
    rw [nI_clamp (by omega)]
    exact jl_fill hs
theorem jx_tog81 {post : SX → Prop} {v m : Nat} (hv : 1 ≤ v) (hv8 : v < 8)
    (K : (wX_toggle_81 post f_machines f_firstHorizon f_horizon f_jobs f_ops f_depth f_recorded f_wantA f_wantB f_moved f_failed f_level f_pickA f_pickB f_inTree m (nI (v / 2)) a_releaseOf a_dueOf a_jobOf a_machineOf a_durationOf a_entryA a_entryB a_noted a_wantFrom a_wantTo a_lo a_hi a_pred a_savedLo a_savedHi a_savedPred a_savedA a_savedB a_raised a_cut a_place (upd a_sum v (a_sum (2 * v) + a_sum (2 * v + 1))) (upd a_ect v (jt_mx (a_ect (2 * v + 1)) (a_ect (2 * v) + a_sum (2 * v + 1)))))) : (wX_toggle_81 post f_machines f_firstHorizon f_horizon f_jobs f_ops f_depth f_recorded f_wantA f_wantB f_moved f_failed f_level f_pickA f_pickB f_inTree (m + 1) (nI v) a_releaseOf a_dueOf a_jobOf a_machineOf a_durationOf a_entryA a_entryB a_noted a_wantFrom a_wantTo a_lo a_hi a_pred a_savedLo a_savedHi a_savedPred a_savedA a_savedB a_raised a_cut a_place a_sum a_ect) := by
  have e2 : (2 : Int32) * nI v = nI (2 * v) := pk_mul 2 v
  have e3 : (2 : Int32) * nI v + 1 = nI (2 * v + 1) := by rw [e2, nI_1]
  have c1 : (nI v).toNatClampNeg = v := nI_clamp (by omega)
  have c2 : (nI (2 * v)).toNatClampNeg = 2 * v := nI_clamp (by omega)
  have c3 : (nI (2 * v + 1)).toNatClampNeg = 2 * v + 1 := nI_clamp (by omega)
  have i1 : vp_in (nI v) 16 := vp_in_nI (by omega) (by omega)
  have i2 : vp_in (nI (2 * v)) 16 := vp_in_nI (by omega) (by omega)
  have i3 : vp_in (nI (2 * v + 1)) 16 := vp_in_nI (by omega) (by omega)
  rw [wX_toggle_81]
  dsimp only
  rw [e3, e2, c1, c2, c3]
  refine br_f (nI_nle (by omega) (by omega)) ⟨i2, i3, i1, nm_e ⟨i3, i2, i3, jx_greater ⟨i1, nm_e (nm_r (pk_shrN (by omega) _ 1 (by decide)) ?_)⟩⟩⟩
  rw [pk_un (by omega : 2 * v + 1 ≠ v)]
  exact K
end
end
section
/-! toggle -/
theorem jt_path {S0 S1 S2 S3 E0 E1 E2 E3 : Nat → Int32} {V1 V2 V3 : Nat} (b1 : 4 ≤ V1) (b2 : V1 < 8) (e2 : V2 = V1 / 2) (e3 : V3 = V2 / 2)
    (s1 : S1 = upd S0 V1 (S0 (2 * V1) + S0 (2 * V1 + 1))) (t1 : E1 = upd E0 V1 (jt_mx (E0 (2 * V1 + 1)) (E0 (2 * V1) + S0 (2 * V1 + 1))))
    (s2 : S2 = upd S1 V2 (S1 (2 * V2) + S1 (2 * V2 + 1))) (t2 : E2 = upd E1 V2 (jt_mx (E1 (2 * V2 + 1)) (E1 (2 * V2) + S1 (2 * V2 + 1))))
    (s3 : S3 = upd S2 V3 (S2 (2 * V3) + S2 (2 * V3 + 1))) (t3 : E3 = upd E2 V3 (jt_mx (E2 (2 * V3 + 1)) (E2 (2 * V3) + S2 (2 * V3 + 1))))
    (hK : ∀ v, 1 ≤ v → v < 8 → v ≠ V1 → v ≠ V2 → v ≠ V3 → S0 v = S0 (2 * v) + S0 (2 * v + 1) ∧ E0 v = jt_mx (E0 (2 * v + 1)) (E0 (2 * v) + S0 (2 * v + 1))) :
    (∀ v, 1 ≤ v → v < 8 → S3 v = S3 (2 * v) + S3 (2 * v + 1) ∧ E3 v = jt_mx (E3 (2 * v + 1)) (E3 (2 * v) + S3 (2 * v + 1))) ∧ (∀ x, 8 ≤ x → S3 x = S0 x ∧ E3 x = E0 x) := by
  have n1 : ∀ x, x ≠ V1 → S1 x = S0 x ∧ E1 x = E0 x := fun x h => by rw [s1, t1]; exact ⟨pk_un h, pk_un h⟩
  have n2 : ∀ x, x ≠ V2 → S2 x = S1 x ∧ E2 x = E1 x := fun x h => by rw [s2, t2]; exact ⟨pk_un h, pk_un h⟩
  have n3 : ∀ x, x ≠ V3 → S3 x = S2 x ∧ E3 x = E2 x := fun x h => by rw [s3, t3]; exact ⟨pk_un h, pk_un h⟩
  refine ⟨fun v h1 h8 => ?_, fun x hx => ?_⟩
  · by_cases z3 : v = V3
    · have a := n3 (2 * v) (by omega)
      have b := n3 (2 * v + 1) (by omega)
      rw [a.1, a.2, b.1, b.2, z3, s3, t3]
      exact ⟨pk_us, pk_us⟩
    · by_cases z2 : v = V2
      · have a := n3 (2 * v) (by omega)
        have b := n3 (2 * v + 1) (by omega)
        have a' := n2 (2 * v) (by omega)
        have b' := n2 (2 * v + 1) (by omega)
        have c := n3 v (by omega)
        rw [a.1, a.2, b.1, b.2, a'.1, a'.2, b'.1, b'.2, c.1, c.2, z2, s2, t2]
        exact ⟨pk_us, pk_us⟩
      · by_cases z1 : v = V1
        · have a := n3 (2 * v) (by omega)
          have b := n3 (2 * v + 1) (by omega)
          have a' := n2 (2 * v) (by omega)
          have b' := n2 (2 * v + 1) (by omega)
          have a'' := n1 (2 * v) (by omega)
          have b'' := n1 (2 * v + 1) (by omega)
          have c := n3 v (by omega)
          have c' := n2 v (by omega)
          rw [a.1, a.2, b.1, b.2, a'.1, a'.2, b'.1, b'.2, a''.1, a''.2, b''.1, b''.2, c.1, c.2, c'.1, c'.2, z1, s1, t1]
          exact ⟨pk_us, pk_us⟩
        · have a := n3 (2 * v) (by omega)
          have b := n3 (2 * v + 1) (by omega)
          have a' := n2 (2 * v) (by omega)
          have b' := n2 (2 * v + 1) (by omega)
          have a'' := n1 (2 * v) (by omega)
          have b'' := n1 (2 * v + 1) (by omega)
          have c := n3 v z3
          have c' := n2 v z2
          have c'' := n1 v z1
          rw [a.1, a.2, b.1, b.2, a'.1, a'.2, b'.1, b'.2, a''.1, a''.2, b''.1, b''.2, c.1, c.2, c'.1, c'.2, c''.1, c''.2]
          exact hK v h1 h8 z1 z2 z3
  · rw [(n3 x (by omega)).1, (n3 x (by omega)).2, (n2 x (by omega)).1, (n2 x (by omega)).2, (n1 x (by omega)).1, (n1 x (by omega)).2]
    exact ⟨rfl, rfl⟩
section
variable {f_machines f_firstHorizon f_horizon f_jobs f_ops f_depth f_recorded f_wantA f_wantB f_moved f_failed f_level f_pickA f_pickB f_inTree : Int32} {a_releaseOf a_dueOf a_jobOf a_machineOf a_durationOf a_entryA a_entryB a_noted a_wantFrom a_wantTo a_lo a_hi a_pred a_savedLo a_savedHi a_savedPred a_savedA a_savedB a_raised a_cut a_place a_sum a_ect : Nat → Int32}
theorem jx_tog_path {post : SX → Prop} {p : Nat} (hp : p < 8)
    (hK : ∀ v, 1 ≤ v → v < 8 → v ≠ (8 + p) / 2 → v ≠ (8 + p) / 2 / 2 → v ≠ (8 + p) / 2 / 2 / 2 → a_sum v = a_sum (2 * v) + a_sum (2 * v + 1) ∧ a_ect v = jt_mx (a_ect (2 * v + 1)) (a_ect (2 * v) + a_sum (2 * v + 1)))
    (h : ∀ sum' ect', (∀ v, 1 ≤ v → v < 8 → sum' v = sum' (2 * v) + sum' (2 * v + 1) ∧ ect' v = jt_mx (ect' (2 * v + 1)) (ect' (2 * v) + sum' (2 * v + 1))) → (∀ x, 8 ≤ x → sum' x = a_sum x ∧ ect' x = a_ect x) → post (f_machines, f_firstHorizon, f_horizon, f_jobs, f_ops, f_depth, f_recorded, f_wantA, f_wantB, f_moved, f_failed, f_level, f_pickA, f_pickB, f_inTree, a_releaseOf, a_dueOf, a_jobOf, a_machineOf, a_durationOf, a_entryA, a_entryB, a_noted, a_wantFrom, a_wantTo, a_lo, a_hi, a_pred, a_savedLo, a_savedHi, a_savedPred, a_savedA, a_savedB, a_raised, a_cut, a_place, sum', ect')) :
    ∃ n81 : Nat, (wX_toggle_81 post f_machines f_firstHorizon f_horizon f_jobs f_ops f_depth f_recorded f_wantA f_wantB f_moved f_failed f_level f_pickA f_pickB f_inTree n81 (nI ((8 + p) / 2)) a_releaseOf a_dueOf a_jobOf a_machineOf a_durationOf a_entryA a_entryB a_noted a_wantFrom a_wantTo a_lo a_hi a_pred a_savedLo a_savedHi a_savedPred a_savedA a_savedB a_raised a_cut a_place a_sum a_ect) := by
  refine ⟨3 + 1, jx_tog81 (m := 2 + 1) (by omega) (by omega) (jx_tog81 (m := 1 + 1) (by omega) (by omega) (jx_tog81 (m := 0 + 1) (by omega) (by omega) ?_))⟩
  have e0 : (8 + p) / 2 / 2 / 2 / 2 = 0 := by omega
  rw [e0]
  refine br_t (by decide) ?_
  have J := jt_path (S0 := a_sum) (E0 := a_ect) (V1 := (8 + p) / 2) (V2 := (8 + p) / 2 / 2) (V3 := (8 + p) / 2 / 2 / 2) (by omega) (by omega) rfl rfl rfl rfl rfl rfl rfl rfl hK
  exact h _ _ J.1 J.2
theorem jx_toggle {post : SX → Prop} {n op : Nat} (hn : n ≤ 8) (hop : op < n) (hd : js_d n a_durationOf) (P : jt_P n a_lo a_place) (k : jt_K n a_durationOf a_lo a_place f_inTree a_sum a_ect)
    (h : ∀ inT' sum' ect', jt_K n a_durationOf a_lo a_place inT' sum' ect' → (∀ i, i < 32 → bt inT' i = (bt f_inTree i ^^ decide (i = op))) → post (f_machines, f_firstHorizon, f_horizon, f_jobs, f_ops, f_depth, f_recorded, f_wantA, f_wantB, f_moved, f_failed, f_level, f_pickA, f_pickB, inT', a_releaseOf, a_dueOf, a_jobOf, a_machineOf, a_durationOf, a_entryA, a_entryB, a_noted, a_wantFrom, a_wantTo, a_lo, a_hi, a_pred, a_savedLo, a_savedHi, a_savedPred, a_savedA, a_savedB, a_raised, a_cut, a_place, sum', ect')) : (wpX_toggle post (f_machines, f_firstHorizon, f_horizon, f_jobs, f_ops, f_depth, f_recorded, f_wantA, f_wantB, f_moved, f_failed, f_level, f_pickA, f_pickB, f_inTree, a_releaseOf, a_dueOf, a_jobOf, a_machineOf, a_durationOf, a_entryA, a_entryB, a_noted, a_wantFrom, a_wantTo, a_lo, a_hi, a_pred, a_savedLo, a_savedHi, a_savedPred, a_savedA, a_savedB, a_raised, a_cut, a_place, a_sum, a_ect) (nI op)) := by
  obtain ⟨rk, hrk⟩ := P
  have r1 := hrk op hop
  have hd1 := hd op hop
  have hv : vp_in (nI op) 8 := vp_in_nI (by omega) (by decide)
  have e : (nI op).toNatClampNeg = op := nI_clamp (by omega)
  have e8 : (8 : Int32) + nI (rk op) = nI (8 + rk op) := nI_add 8 (rk op)
  have hv2 : vp_in (nI (8 + rk op)) 16 := vp_in_nI (by omega) (by omega)
  have c8 : (nI (8 + rk op)).toNatClampNeg = 8 + rk op := nI_clamp (by omega)
  unfold wpX_toggle
  dsimp only
  intro inT' eT
  have hbits : ∀ i, i < 32 → bt inT' i = (bt f_inTree i ^^ decide (i = op)) := fun i hi => by rw [eT]; exact jb_tog (by omega) hi _
  rw [e, r1.2.1, e8]
  refine ⟨hv, nm_e ?_⟩
  rw [c8]
  refine ⟨hv, hv2, ?_⟩
  rw [jb_bit (by omega) inT']
  have key : ∀ (S E : Nat → Int32) (sv ev : Int32), S = upd a_sum (8 + rk op) sv → E = upd a_ect (8 + rk op) ev → ((sv = 0 ∧ ev = -1000) ∨ (bt inT' op = true ∧ sv = a_durationOf op ∧ ev = a_lo op + a_durationOf op)) →
      ∃ n81 : Nat, (wX_toggle_81 post f_machines f_firstHorizon f_horizon f_jobs f_ops f_depth f_recorded f_wantA f_wantB f_moved f_failed f_level f_pickA f_pickB inT' n81 (nI ((8 + rk op) / 2)) a_releaseOf a_dueOf a_jobOf a_machineOf a_durationOf a_entryA a_entryB a_noted a_wantFrom a_wantTo a_lo a_hi a_pred a_savedLo a_savedHi a_savedPred a_savedA a_savedB a_raised a_cut a_place S E) := by
    intro S E sv ev eS eE hl
    refine jx_tog_path r1.1 (fun v h1 h8 z1 z2 z3 => ?_) (fun sum' ect' i1 i2 => ?_)
    · rw [eS, eE, pk_un (by omega), pk_un (by omega), pk_un (by omega), pk_un (by omega), pk_un (by omega), pk_un (by omega)]
      exact k.1 v h1 h8
    · refine h inT' sum' ect' ⟨i1, fun p hp => ?_⟩ hbits
      rw [(i2 (8 + p) (by omega)).1, (i2 (8 + p) (by omega)).2, eS, eE]
      by_cases z : p = rk op
      · rw [z, pk_us, pk_us]
        rcases hl with hl | ⟨l1, l2, l3⟩
        · exact Or.inl hl
        · exact Or.inr ⟨op, hop, r1.2.1, l1, l2, l3⟩
      · rw [pk_un (by omega), pk_un (by omega)]
        rcases k.2 p hp with q | ⟨a, ha, q1, q2, q3, q4⟩
        · exact Or.inl q
        · refine Or.inr ⟨a, ha, q1, ?_, q3, q4⟩
          have hne : a ≠ op := fun x => by
            rw [x, r1.2.1] at q1
            exact z ((nI_eq (by omega) (by omega)).mp q1).symm
          rw [hbits a (by omega), q2, decide_eq_false hne]; rfl
  by_cases hb : bt inT' op = true
  · rw [if_pos hb]
    have e1 : (1 : Int32) * a_durationOf op = a_durationOf op := Int32.one_mul _
    rw [e1]
    refine nm_e ⟨hv2, ?_⟩
    rw [pk_us]
    refine br_f ?_ ⟨hv, hv2, hv2, nm_e (nm_r (pk_shrN (by omega) _ 1 (by decide)) (key _ _ _ _ rfl rfl (Or.inr ⟨hb, rfl, rfl⟩)))⟩
    intro z
    have := ja_le.mp z
    rw [ja_0] at this
    omega
  · rw [if_neg hb]
    have e1 : (0 : Int32) * a_durationOf op = 0 := Int32.zero_mul
    rw [e1]
    refine nm_e ⟨hv2, ?_⟩
    rw [pk_us]
    exact br_t (by decide) ⟨hv2, nm_e (nm_r (pk_shrN (by omega) _ 1 (by decide)) (key _ _ _ _ rfl rfl (Or.inl ⟨rfl, rfl⟩)))⟩
theorem jx_clearK {n : Nat} {sum ect : Nat → Int32} (h1 : ∀ j, j < 16 → sum j = 0) (h2 : ∀ j, j < 16 → ect j = -1000) : jt_K n a_durationOf a_lo a_place 0 sum ect := by
  refine ⟨fun v hv h8 => ?_, fun p hp => Or.inl ⟨h1 _ (by omega), h2 _ (by omega)⟩⟩
  rw [h1 v (by omega), h1 (2 * v) (by omega), h1 (2 * v + 1) (by omega), h2 v (by omega), h2 (2 * v) (by omega), h2 (2 * v + 1) (by omega)]
  decide
end
end
section
/-! placeLeaves -/
def jp_in (lo : Nat → Int32) (a b : Nat) : Nat := if lo b < lo a ∨ (lo b = lo a ∧ b < a) then 1 else 0
def jp_rk (n : Nat) (lo : Nat → Int32) (a : Nat) : Nat := js_s (jp_in lo a) n
theorem jp_le1 (lo : Nat → Int32) (a b : Nat) : jp_in lo a b ≤ 1 := by unfold jp_in; split <;> omega
theorem jp_lt {n : Nat} {lo : Nat → Int32} {a : Nat} (ha : a < n) : jp_rk n lo a < n := by
  have h : js_s (jp_in lo a) n < js_s (fun _ => 1) n := js_s_lt (a := a) (by
    show jp_in lo a a < 1
    unfold jp_in
    rw [if_neg (fun h => by rcases h with h | h; exact Int32.lt_irrefl h; omega)]; omega) (fun k _ => jp_le1 lo a k) ha
  rw [js_s_const] at h
  unfold jp_rk; omega
theorem jp_mono {n : Nat} {lo : Nat → Int32} {a b : Nat} (hb : b < n) (h : (lo b).toInt < (lo a).toInt) : jp_rk n lo b < jp_rk n lo a := by
  refine js_s_lt (a := b) ?_ (fun k _ => ?_) hb
  · unfold jp_in
    rw [if_neg (fun h => by rcases h with h | h; exact Int32.lt_irrefl h; omega), if_pos (Or.inl (ja_lt.mpr h))]; omega
  · unfold jp_in
    by_cases z : lo k < lo b ∨ (lo k = lo b ∧ k < b)
    · rw [if_pos z, if_pos]
      · exact Nat.le_refl _
      · left
        rcases z with z | z
        · have := ja_lt.mp z; exact ja_lt.mpr (by omega)
        · rw [z.1]; exact ja_lt.mpr h
    · rw [if_neg z]; split <;> omega
theorem jp_P {n : Nat} {lo place : Nat → Int32} (hn : n ≤ 8) (h : ∀ a, a < n → place a = nI (jp_rk n lo a)) : jt_P n lo place := by
  refine ⟨jp_rk n lo, fun a ha => ⟨by have := jp_lt (lo := lo) ha; omega, h a ha, fun b hb hr => ?_⟩⟩
  by_cases z : (lo b).toInt < (lo a).toInt
  · have := jp_mono (n := n) hb z; omega
  · omega
section
variable {f_machines f_firstHorizon f_horizon f_jobs f_depth f_recorded f_wantA f_wantB f_moved f_failed f_level f_pickA f_pickB f_inTree : Int32} {a_releaseOf a_dueOf a_jobOf a_machineOf a_durationOf a_entryA a_entryB a_noted a_wantFrom a_wantTo a_lo a_hi a_pred a_savedLo a_savedHi a_savedPred a_savedA a_savedB a_raised a_cut a_place a_sum a_ect : Nat → Int32}
theorem jx_placeLeaves {post : SX → Prop} {n : Nat} (hn : n ≤ 8) (h : ∀ ra cu pl, (∀ a, a < n → ra a = a_lo a ∧ cu a = a_hi a) → jt_P n a_lo pl → post (f_machines, f_firstHorizon, f_horizon, f_jobs, nI n, f_depth, f_recorded, f_wantA, f_wantB, f_moved, f_failed, f_level, f_pickA, f_pickB, f_inTree, a_releaseOf, a_dueOf, a_jobOf, a_machineOf, a_durationOf, a_entryA, a_entryB, a_noted, a_wantFrom, a_wantTo, a_lo, a_hi, a_pred, a_savedLo, a_savedHi, a_savedPred, a_savedA, a_savedB, ra, cu, pl, a_sum, a_ect)) : (wpX_placeLeaves post (f_machines, f_firstHorizon, f_horizon, f_jobs, nI n, f_depth, f_recorded, f_wantA, f_wantB, f_moved, f_failed, f_level, f_pickA, f_pickB, f_inTree, a_releaseOf, a_dueOf, a_jobOf, a_machineOf, a_durationOf, a_entryA, a_entryB, a_noted, a_wantFrom, a_wantTo, a_lo, a_hi, a_pred, a_savedLo, a_savedHi, a_savedPred, a_savedA, a_savedB, a_raised, a_cut, a_place, a_sum, a_ect)) := by
  show ∃ n2 : Nat, (wX_placeLeaves_2 post f_machines f_firstHorizon f_horizon f_jobs (nI n) f_depth f_recorded f_wantA f_wantB f_moved f_failed f_level f_pickA f_pickB f_inTree n2 0 a_releaseOf a_dueOf a_jobOf a_machineOf a_durationOf a_entryA a_entryB a_noted a_wantFrom a_wantTo a_lo a_hi a_pred a_savedLo a_savedHi a_savedPred a_savedA a_savedB a_raised a_cut a_place a_sum a_ect)
  refine loop_0 (σ := (Nat → Int32) × (Nat → Int32) × (Nat → Int32)) (fun m i s => (wX_placeLeaves_2 post f_machines f_firstHorizon f_horizon f_jobs (nI n) f_depth f_recorded f_wantA f_wantB f_moved f_failed f_level f_pickA f_pickB f_inTree m (nI i) a_releaseOf a_dueOf a_jobOf a_machineOf a_durationOf a_entryA a_entryB a_noted a_wantFrom a_wantTo a_lo a_hi a_pred a_savedLo a_savedHi a_savedPred a_savedA a_savedB s.1 s.2.1 s.2.2 a_sum a_ect))
    (fun i s => ∀ a, a < i → (s.1 a = a_lo a ∧ s.2.1 a = a_hi a) ∧ s.2.2 a = nI (jp_rk n a_lo a)) n (a_raised, a_cut, a_place) (fun j hj => by omega) ?_ ?_
  · intro m s hs
    exact br_t (nI_le (Nat.le_refl _) (by omega)) (h s.1 s.2.1 s.2.2 (fun a ha => (hs a ha).1) (jp_P hn fun a ha => (hs a ha).2))
  · intro m i s hi hs K
    have hv : vp_in (nI i) 8 := vp_in_nI (by omega) (by omega)
    have ci : (nI i).toNatClampNeg = i := nI_clamp (by omega)
    refine br_f (nI_ge hi (by omega)) ⟨hv, hv, nm_e ⟨hv, hv, nm_e ⟨hv, nm_e ?_⟩⟩⟩
    rw [ci]
    refine loop_0 (σ := Nat → Int32) (fun m' j p => (wX_placeLeaves_43 post (wX_placeLeaves_2 post f_machines f_firstHorizon f_horizon f_jobs (nI n) f_depth f_recorded f_wantA f_wantB f_moved f_failed f_level f_pickA f_pickB f_inTree m) (nI i) f_machines f_firstHorizon f_horizon f_jobs (nI n) f_depth f_recorded f_wantA f_wantB f_moved f_failed f_level f_pickA f_pickB f_inTree m' (nI j) a_releaseOf a_dueOf a_jobOf a_machineOf a_durationOf a_entryA a_entryB a_noted a_wantFrom a_wantTo a_lo a_hi a_pred a_savedLo a_savedHi a_savedPred a_savedA a_savedB (upd s.1 i (a_lo i)) (upd s.2.1 i (a_hi i)) p a_sum a_ect))
      (fun j p => p i = nI (js_s (jp_in a_lo i) j) ∧ ∀ a, a ≠ i → p a = s.2.2 a) n (upd s.2.2 i 0) ⟨pk_us, fun a ha => pk_un ha⟩ ?_ ?_
    · intro m' p hp
      refine br_t (nI_le (Nat.le_refl _) (by omega)) (nm_r (nI_1 i) (K (upd s.1 i (a_lo i), upd s.2.1 i (a_hi i), p) fun a ha => ?_))
      by_cases z : a = i
      · subst z
        exact ⟨⟨pk_us, pk_us⟩, hp.1⟩
      · show (upd s.1 i (a_lo i) a = a_lo a ∧ upd s.2.1 i (a_hi i) a = a_hi a) ∧ p a = _
        rw [pk_un z, pk_un z, hp.2 a z]
        exact hs a (by omega)
    · intro m' j p hj hp K'
      have hv2 : vp_in (nI j) 8 := vp_in_nI (by omega) (by omega)
      have cj : (nI j).toNatClampNeg = j := nI_clamp (by omega)
      have add : jp_in a_lo i j = 1 → ∀ p', p' = upd p i (p i + 1) → (p' i = nI (js_s (jp_in a_lo i) (j + 1)) ∧ ∀ a, a ≠ i → p' a = s.2.2 a) := fun e p' ep => by
        rw [ep]
        refine ⟨?_, fun a ha => by rw [pk_un ha]; exact hp.2 a ha⟩
        rw [pk_us, hp.1, nI_1]
        show nI (js_s (jp_in a_lo i) j + 1) = nI (js_s (jp_in a_lo i) j + jp_in a_lo i j)
        rw [e]
      have skip : jp_in a_lo i j = 0 → (p i = nI (js_s (jp_in a_lo i) (j + 1)) ∧ ∀ a, a ≠ i → p a = s.2.2 a) := fun e => by
        refine ⟨?_, hp.2⟩
        rw [hp.1]
        show nI (js_s (jp_in a_lo i) j) = nI (js_s (jp_in a_lo i) j + jp_in a_lo i j)
        rw [e, Nat.add_zero]
      have c1 : ∀ c : a_lo j < a_lo i ∨ (a_lo j = a_lo i ∧ j < i), jp_in a_lo i j = 1 := fun c => if_pos c
      have c0 : ∀ c : ¬ (a_lo j < a_lo i ∨ (a_lo j = a_lo i ∧ j < i)), jp_in a_lo i j = 0 := fun c => if_neg c
      refine br_f (nI_ge hj (by omega)) ⟨hv2, hv, ?_⟩
      rw [cj, ci]
      refine br_c (fun z => ?_) (fun z => ⟨hv2, hv, br_c (fun y => pk_le i j (fun w => ?_) (fun w => ?_)) (fun y => ?_)⟩)
      · refine ⟨hv, hv, ?_⟩
        rw [ci]
        exact nm_e (nm_r (nI_1 j) (K' _ (add (c1 (Or.inl z)) _ rfl)))
      · exact nm_r (nI_1 j) (K' _ (skip (c0 fun c => by rcases c with c | c; exact z c; omega)))
      · refine ⟨hv, hv, ?_⟩
        rw [ci]
        exact nm_e (nm_r (nI_1 j) (K' _ (add (c1 (Or.inr ⟨y, w⟩)) _ rfl)))
      · exact nm_r (nI_1 j) (K' _ (skip (c0 fun c => by rcases c with c | c; exact z c; exact y c.1)))
end
end
section
/-! mirror -/
def jm_sw (i j a b : Nat) : Prop := (a < i ∧ b < i) ∨ (a = i ∧ b < j) ∨ (b = i ∧ a < j)
def jm_I (n : Nat) (pred : Nat → Int32) (i j : Nat) (p : Nat → Int32) : Prop := ∀ a b, a < n → b < n → (jm_sw i j a b → bt (p a) b = bt (pred b) a) ∧ (¬ jm_sw i j a b → bt (p a) b = bt (pred a) b)
theorem jm_step {n i j : Nat} {pred p : Nat → Int32} (hn : n ≤ 8) (hi : i < n) (hj : j < i) (I : jm_I n pred i j p) {x4 : Int32}
    (e4 : x4 = if (bt (p i) j ^^ bt (p j) i) = true then 1 else 0) :
    jm_I n pred i (j + 1) (upd (upd p i (p i ^^^ (x4 <<< (nI j &&& 31)))) j (upd p i (p i ^^^ (x4 <<< (nI j &&& 31))) j ^^^ (x4 <<< (nI i &&& 31)))) := by
  have hij : bt (p i) j = bt (pred i) j := (I i j hi (by omega)).2 (fun z => by unfold jm_sw at z; omega)
  have hji : bt (p j) i = bt (pred j) i := (I j i (by omega) hi).2 (fun z => by unfold jm_sw at z; omega)
  intro a b ha hb
  rw [e4]
  by_cases za : a = j
  · subst za
    rw [pk_us, pk_un (by omega), b_xor, jb_shlif (by omega) (by omega)]
    by_cases zb : b = i
    · subst zb
      rw [decide_eq_true rfl, Bool.and_true, hij, hji]
      refine ⟨fun _ => ?_, fun z => absurd (Or.inr (Or.inr ⟨rfl, by omega⟩)) z⟩
      cases bt (pred a) b <;> cases bt (pred b) a <;> rfl
    · rw [decide_eq_false zb, Bool.and_false, Bool.xor_false]
      have h := I a b ha hb
      exact ⟨fun z => h.1 (by unfold jm_sw at z ⊢; omega), fun z => h.2 (fun y => z (by unfold jm_sw at y ⊢; omega))⟩
  · rw [pk_un za]
    by_cases zi : a = i
    · subst zi
      rw [pk_us, b_xor, jb_shlif (by omega) (by omega)]
      by_cases zb : b = j
      · subst zb
        rw [decide_eq_true rfl, Bool.and_true, hij, hji]
        refine ⟨fun _ => ?_, fun z => absurd (Or.inr (Or.inl ⟨rfl, by omega⟩)) z⟩
        cases bt (pred a) b <;> cases bt (pred b) a <;> rfl
      · rw [decide_eq_false zb, Bool.and_false, Bool.xor_false]
        have h := I a b ha hb
        exact ⟨fun z => h.1 (by unfold jm_sw at z ⊢; omega), fun z => h.2 (fun y => z (by unfold jm_sw at y ⊢; omega))⟩
    · rw [pk_un zi]
      have h := I a b ha hb
      exact ⟨fun z => h.1 (by unfold jm_sw at z ⊢; omega), fun z => h.2 (fun y => z (by unfold jm_sw at y ⊢; omega))⟩
section
variable {f_machines f_firstHorizon f_horizon f_jobs f_depth f_recorded f_wantA f_wantB f_moved f_failed f_level f_pickA f_pickB f_inTree : Int32} {a_releaseOf a_dueOf a_jobOf a_machineOf a_durationOf a_entryA a_entryB a_noted a_wantFrom a_wantTo a_lo a_hi a_pred a_savedLo a_savedHi a_savedPred a_savedA a_savedB a_raised a_cut a_place a_sum a_ect : Nat → Int32}
theorem jx_mirror {post : SX → Prop} {n : Nat} (hn : n ≤ 8) (h : ∀ lo' hi' pred', js_M n a_lo a_hi a_pred lo' hi' pred' → post (f_machines, f_firstHorizon, f_horizon, f_jobs, nI n, f_depth, f_recorded, f_wantA, f_wantB, f_moved, f_failed, f_level, f_pickA, f_pickB, f_inTree, a_releaseOf, a_dueOf, a_jobOf, a_machineOf, a_durationOf, a_entryA, a_entryB, a_noted, a_wantFrom, a_wantTo, lo', hi', pred', a_savedLo, a_savedHi, a_savedPred, a_savedA, a_savedB, a_raised, a_cut, a_place, a_sum, a_ect)) : (wpX_mirror post (f_machines, f_firstHorizon, f_horizon, f_jobs, nI n, f_depth, f_recorded, f_wantA, f_wantB, f_moved, f_failed, f_level, f_pickA, f_pickB, f_inTree, a_releaseOf, a_dueOf, a_jobOf, a_machineOf, a_durationOf, a_entryA, a_entryB, a_noted, a_wantFrom, a_wantTo, a_lo, a_hi, a_pred, a_savedLo, a_savedHi, a_savedPred, a_savedA, a_savedB, a_raised, a_cut, a_place, a_sum, a_ect)) := by
  show ∃ n2 : Nat, (wX_mirror_2 post f_machines f_firstHorizon f_horizon f_jobs (nI n) f_depth f_recorded f_wantA f_wantB f_moved f_failed f_level f_pickA f_pickB f_inTree n2 0 a_releaseOf a_dueOf a_jobOf a_machineOf a_durationOf a_entryA a_entryB a_noted a_wantFrom a_wantTo a_lo a_hi a_pred a_savedLo a_savedHi a_savedPred a_savedA a_savedB a_raised a_cut a_place a_sum a_ect)
  refine loop_0 (σ := (Nat → Int32) × (Nat → Int32) × (Nat → Int32)) (fun m i s => (wX_mirror_2 post f_machines f_firstHorizon f_horizon f_jobs (nI n) f_depth f_recorded f_wantA f_wantB f_moved f_failed f_level f_pickA f_pickB f_inTree m (nI i) a_releaseOf a_dueOf a_jobOf a_machineOf a_durationOf a_entryA a_entryB a_noted a_wantFrom a_wantTo s.1 s.2.1 s.2.2 a_savedLo a_savedHi a_savedPred a_savedA a_savedB a_raised a_cut a_place a_sum a_ect))
    (fun i s => (∀ a, a < n → (a < i → s.1 a = -(a_hi a) ∧ s.2.1 a = -(a_lo a)) ∧ (i ≤ a → s.1 a = a_lo a ∧ s.2.1 a = a_hi a)) ∧ jm_I n a_pred i 0 s.2.2) n (a_lo, a_hi, a_pred)
    ⟨fun a _ => ⟨fun h => by omega, fun _ => ⟨rfl, rfl⟩⟩, fun a b _ _ => ⟨fun z => by unfold jm_sw at z; omega, fun _ => rfl⟩⟩ ?_ ?_
  · intro m s hs
    exact br_t (nI_le (Nat.le_refl _) (by omega)) (h s.1 s.2.1 s.2.2 (fun a ha => ⟨((hs.1 a ha).1 ha).1, ((hs.1 a ha).1 ha).2, fun b hb => (hs.2 a b ha hb).1 (Or.inl ⟨ha, hb⟩)⟩))
  · intro m i s hi hs K
    have hv : vp_in (nI i) 8 := vp_in_nI (by omega) (by omega)
    have ci : (nI i).toNatClampNeg = i := nI_clamp (by omega)
    refine br_f (nI_ge hi (by omega)) ⟨hv, nm_e ⟨hv, hv, nm_e ⟨hv, nm_e ?_⟩⟩⟩
    rw [ci]
    refine loop_0 (σ := Nat → Int32) (fun m' j p => (wX_mirror_40 post (wX_mirror_2 post f_machines f_firstHorizon f_horizon f_jobs (nI n) f_depth f_recorded f_wantA f_wantB f_moved f_failed f_level f_pickA f_pickB f_inTree m) (nI i) f_machines f_firstHorizon f_horizon f_jobs (nI n) f_depth f_recorded f_wantA f_wantB f_moved f_failed f_level f_pickA f_pickB f_inTree m' (nI j) a_releaseOf a_dueOf a_jobOf a_machineOf a_durationOf a_entryA a_entryB a_noted a_wantFrom a_wantTo (upd s.1 i (-(s.2.1 i))) (upd s.2.1 i (-(s.1 i))) p a_savedLo a_savedHi a_savedPred a_savedA a_savedB a_raised a_cut a_place a_sum a_ect))
      (fun j p => jm_I n a_pred i j p) i s.2.2 hs.2 ?_ ?_
    · intro m' p hp
      refine br_t (nI_le (Nat.le_refl _) (by omega)) (nm_r (nI_1 i) (K (upd s.1 i (-(s.2.1 i)), upd s.2.1 i (-(s.1 i)), p) ⟨fun a ha => ?_, fun a b ha hb => ?_⟩))
      · show (a < i + 1 → upd s.1 i (-(s.2.1 i)) a = _ ∧ upd s.2.1 i (-(s.1 i)) a = _) ∧ (i + 1 ≤ a → upd s.1 i (-(s.2.1 i)) a = _ ∧ upd s.2.1 i (-(s.1 i)) a = _)
        by_cases z : a = i
        · subst z
          have q := (hs.1 a ha).2 (Nat.le_refl _)
          rw [pk_us, pk_us, q.1, q.2]
          exact ⟨fun _ => ⟨rfl, rfl⟩, fun y => by omega⟩
        · rw [pk_un z, pk_un z]
          exact ⟨fun y => (hs.1 a ha).1 (by omega), fun y => (hs.1 a ha).2 (by omega)⟩
      · have q := hp a b ha hb
        by_cases zz : a = i ∧ b = i
        · rw [zz.1, zz.2] at q ⊢
          have := q.2 (fun y => by unfold jm_sw at y; omega)
          exact ⟨fun _ => this, fun _ => this⟩
        · exact ⟨fun y => q.1 (by unfold jm_sw at y ⊢; omega), fun y => q.2 (fun x => y (by unfold jm_sw at x ⊢; omega))⟩
    · intro m' j p hj hp K'
      have hv2 : vp_in (nI j) 8 := vp_in_nI (by omega) (by omega)
      have cj : (nI j).toNatClampNeg = j := nI_clamp (by omega)
      refine br_f (nI_ge hj (by omega)) ⟨hv, hv2, ?_⟩
      rw [ci, cj]
      refine nm_r (jb_flip (by omega) (by omega) _ _) ⟨hv, hv, nm_e ⟨hv2, hv2, nm_e (nm_r (nI_1 j) (K' _ (jm_step hn hi hj hp rfl)))⟩⟩
theorem jx_closeOrder {post : SX → Prop} {n : Nat} (hn : n ≤ 8) (hd : js_d n a_durationOf) (hf : f_failed = 0 ∨ f_failed = 1)
    (h : ∀ pred' fl', js_T n a_machineOf a_durationOf a_lo a_hi a_pred f_moved f_failed a_lo a_hi pred' f_moved fl' → post (f_machines, f_firstHorizon, f_horizon, f_jobs, nI n, f_depth, f_recorded, f_wantA, f_wantB, f_moved, fl', f_level, f_pickA, f_pickB, f_inTree, a_releaseOf, a_dueOf, a_jobOf, a_machineOf, a_durationOf, a_entryA, a_entryB, a_noted, a_wantFrom, a_wantTo, a_lo, a_hi, pred', a_savedLo, a_savedHi, a_savedPred, a_savedA, a_savedB, a_raised, a_cut, a_place, a_sum, a_ect)) : (wpX_closeOrder post (f_machines, f_firstHorizon, f_horizon, f_jobs, nI n, f_depth, f_recorded, f_wantA, f_wantB, f_moved, f_failed, f_level, f_pickA, f_pickB, f_inTree, a_releaseOf, a_dueOf, a_jobOf, a_machineOf, a_durationOf, a_entryA, a_entryB, a_noted, a_wantFrom, a_wantTo, a_lo, a_hi, a_pred, a_savedLo, a_savedHi, a_savedPred, a_savedA, a_savedB, a_raised, a_cut, a_place, a_sum, a_ect)) := by
  show ∃ n2 : Nat, (wX_closeOrder_2 post f_machines f_firstHorizon f_horizon f_jobs (nI n) f_depth f_recorded f_wantA f_wantB f_moved f_failed f_level f_pickA f_pickB f_inTree n2 0 a_releaseOf a_dueOf a_jobOf a_machineOf a_durationOf a_entryA a_entryB a_noted a_wantFrom a_wantTo a_lo a_hi a_pred a_savedLo a_savedHi a_savedPred a_savedA a_savedB a_raised a_cut a_place a_sum a_ect)
  refine loop_0 (σ := Nat → Int32) (fun m i p => (wX_closeOrder_2 post f_machines f_firstHorizon f_horizon f_jobs (nI n) f_depth f_recorded f_wantA f_wantB f_moved f_failed f_level f_pickA f_pickB f_inTree m (nI i) a_releaseOf a_dueOf a_jobOf a_machineOf a_durationOf a_entryA a_entryB a_noted a_wantFrom a_wantTo a_lo a_hi p a_savedLo a_savedHi a_savedPred a_savedA a_savedB a_raised a_cut a_place a_sum a_ect))
    (fun _ p => js_T n a_machineOf a_durationOf a_lo a_hi a_pred f_moved f_failed a_lo a_hi p f_moved f_failed) n a_pred js_T_rf ?_ ?_
  · intro m p hp
    refine br_t (nI_le (Nat.le_refl _) (by omega)) ?_
    refine loop_0 (σ := Int32) (fun m' i z => (wX_closeOrder_62 post f_machines f_firstHorizon f_horizon f_jobs (nI n) f_depth f_recorded f_wantA f_wantB f_moved f_level f_pickA f_pickB f_inTree a_releaseOf a_dueOf a_jobOf a_machineOf a_durationOf a_entryA a_entryB a_noted a_wantFrom a_wantTo a_lo a_hi p a_savedLo a_savedHi a_savedPred a_savedA a_savedB a_raised a_cut a_place a_sum a_ect m' (nI i) z))
      (fun _ z => js_T n a_machineOf a_durationOf a_lo a_hi a_pred f_moved f_failed a_lo a_hi p f_moved z) n f_failed hp ?_ ?_
    · intro m' z hz
      exact br_t (nI_le (Nat.le_refl _) (by omega)) (h p z hz)
    · intro m' i z hi hz K
      have hv : vp_in (nI i) 8 := vp_in_nI (by omega) (by omega)
      have ci : (nI i).toNatClampNeg = i := nI_clamp (by omega)
      have hb : z = 0 ∨ z = 1 := jf_c hf hz.1
      refine br_f (nI_ge hi (by omega)) ⟨hv, ?_⟩
      rw [ci]
      refine br_c (fun y => nm_r (jf_0 hb) ⟨jf_n hb, jf_f hb, nm_r (nI_1 i) (K z hz)⟩) (fun y => nm_r (jf_1 hb) ⟨rfl, rfl, nm_r (nI_1 i) (K 1 ?_)⟩)
      refine js_T_fail hz (Or.inr rfl) (fun _ _ _ _ s hD hC hC' => ?_)
      have q : bt (p i) i = true := ts_nf fun x => y ((jb_test (by omega) _).mpr x)
      have := hC'.2 i i hi hi q
      have := hd i hi
      omega
  · intro m k p hk hp K
    have hv : vp_in (nI k) 8 := vp_in_nI (by omega) (by omega)
    have ck : (nI k).toNatClampNeg = k := nI_clamp (by omega)
    refine br_f (nI_ge hk (by omega)) ?_
    refine loop_0 (σ := Nat → Int32) (fun m' i p => (wX_closeOrder_12 post (wX_closeOrder_2 post f_machines f_firstHorizon f_horizon f_jobs (nI n) f_depth f_recorded f_wantA f_wantB f_moved f_failed f_level f_pickA f_pickB f_inTree m) (nI k) f_machines f_firstHorizon f_horizon f_jobs (nI n) f_depth f_recorded f_wantA f_wantB f_moved f_failed f_level f_pickA f_pickB f_inTree m' (nI i) a_releaseOf a_dueOf a_jobOf a_machineOf a_durationOf a_entryA a_entryB a_noted a_wantFrom a_wantTo a_lo a_hi p a_savedLo a_savedHi a_savedPred a_savedA a_savedB a_raised a_cut a_place a_sum a_ect))
      (fun _ p => js_T n a_machineOf a_durationOf a_lo a_hi a_pred f_moved f_failed a_lo a_hi p f_moved f_failed) n p hp ?_ ?_
    · intro m' q hq
      exact br_t (nI_le (Nat.le_refl _) (by omega)) (nm_r (nI_1 k) (K q hq))
    · intro m' i q hi hq K'
      have hv2 : vp_in (nI i) 8 := vp_in_nI (by omega) (by omega)
      have ci : (nI i).toNatClampNeg = i := nI_clamp (by omega)
      refine br_f (nI_ge hi (by omega)) ⟨hv2, ?_⟩
      rw [ci, ck]
      refine br_c (fun y => nm_r (nI_1 i) (K' q hq)) (fun y => ⟨hv2, hv, hv2, nm_e (nm_r (nI_1 i) (K' _ ?_))⟩)
      have b : bt (q i) k = true := ts_nf fun x => y ((jb_test (by omega) _).mpr x)
      refine js_T_or hi hq (fun _ _ _ s hD hC hC' a ha hb => ?_) (Or.inl rfl)
      have x1 := hC'.2 a k ha hk hb
      have x2 := hC'.2 k i hk hi b
      have x3 := hd k hk
      omega
end
end
section
/-! the filters of one pass: base state (L, H, P, v, f) -/
def js_J (n : Nat) (M d L H P : Nat → Int32) (v f : Int32) (pred : Nat → Int32) (mv fl : Int32) (ra cu : Nat → Int32) : Prop :=
  js_T n M d L H P v f L H pred mv fl ∧ js_Q n L H P L H pred mv ∧
  (f = 0 → js_R n d L H → (∀ a, a < n → -1000 ≤ (ra a).toInt ∧ (ra a).toInt ≤ 1000) ∧ ∀ s, js_D n M d s → js_C n d L H P s → ∀ a, a < n → (ra a).toInt ≤ s a ∧ s a + (d a).toInt ≤ (cu a).toInt)
theorem jt_mx_le {x y : Int32} {t : Int} (h1 : x.toInt ≤ t) (h2 : y.toInt ≤ t) : (jt_mx x y).toInt ≤ t := by unfold jt_mx; split <;> assumption
theorem jt_mx_ge1 (x y : Int32) : x.toInt ≤ (jt_mx x y).toInt := by
  unfold jt_mx
  split
  · rename_i z; exact ja_le.mp z
  · exact Int.le_refl _
theorem jt_mx_ge2 (x y : Int32) : y.toInt ≤ (jt_mx x y).toInt := by
  unfold jt_mx
  split
  · exact Int.le_refl _
  · rename_i z; have := mt ja_le.mpr z; omega
theorem jt_mn_ge {x y : Int32} {t : Int} (h1 : t ≤ x.toInt) (h2 : t ≤ y.toInt) : t ≤ (jt_mn x y).toInt := by unfold jt_mn; split <;> assumption
theorem jt_mn_le1 (x y : Int32) : (jt_mn x y).toInt ≤ x.toInt := by
  unfold jt_mn
  split
  · rename_i z; exact ja_le.mp z
  · exact Int.le_refl _
theorem jt_mn_le2 (x y : Int32) : (jt_mn x y).toInt ≤ y.toInt := by
  unfold jt_mn
  split
  · exact Int.le_refl _
  · rename_i z; have := mt ja_le.mpr z; omega
theorem js_J_put {n : Nat} {M d L H P : Nat → Int32} {v f : Int32} {pred : Nat → Int32} {mv fl : Int32} {ra cu : Nat → Int32} {op : Nat} {set en mv' : Int32}
    (J : js_J n M d L H P v f pred mv fl ra cu) (hn : n ≤ 8) (hop : op < n) (hset : ∀ i, i < 32 → bt set i = true → i < n)
    (hs : f = 0 → js_R n d L H → ∀ s, js_D n M d s → js_C n d L H P s → js_C n d L H pred s → (∀ a, a < n → bt set a = true → s a + (d a).toInt ≤ s op) ∧ en.toInt ≤ s op)
    (hfl : f = 0 → js_R n d L H → ∀ s, js_D n M d s → js_C n d L H P s → js_C n d L H pred s)
    (he : f = 0 → js_R n d L H → -1000 ≤ en.toInt ∧ en.toInt ≤ 1000)
    (hm : (mv' = mv ∧ ∀ i, i < 32 → bt set i = true → bt (pred op) i = true) ∨ (mv' = 1 ∧ ¬ ∀ i, i < 32 → bt set i = true → bt (pred op) i = true)) :
    js_J n M d L H P v f (upd pred op (pred op ||| set)) mv' fl (upd ra op (jt_mx (ra op) en)) cu := by
  obtain ⟨t, q, u⟩ := J
  refine ⟨js_T_or hop t (fun hf _ hR s hD hC hC' => (hs hf hR s hD hC hC').1) ?_, fun hz a ha => ⟨rfl, rfl, fun b hb => ?_⟩, fun hf hR => ⟨fun a ha => ?_, fun s hD hC a ha => ?_⟩⟩
  · rcases hm with ⟨e, _⟩ | ⟨e, c⟩
    · exact Or.inl e
    · refine Or.inr ⟨e, Classical.byContradiction fun z => c fun i hi hb => Classical.byContradiction fun y => z ⟨i, hset i hi hb, hb, ts_nt y⟩⟩
  · rcases hm with ⟨e, c⟩ | ⟨e, _⟩
    · have q' := (q (e ▸ hz) a ha).2.2 b hb
      by_cases z : a = op
      · subst z
        rw [pk_us, b_or, ← q']
        cases h : bt set b with
        | false => rw [Bool.or_false]
        | true => rw [c b (by omega) h]; rfl
      · rw [pk_un z]; exact q'
    · rw [e] at hz; exact absurd hz ja_10
  · by_cases z : a = op
    · subst z
      rw [pk_us]
      have := (u hf hR).1 a ha
      have := he hf hR
      exact ⟨Int.le_trans (by omega) (jt_mx_ge1 _ _), jt_mx_le (by omega) (by omega)⟩
    · rw [pk_un z]; exact (u hf hR).1 a ha
  · have h1 := (u hf hR).2 s hD hC a ha
    by_cases z : a = op
    · subst z
      rw [pk_us]
      exact ⟨jt_mx_le h1.1 (hs hf hR s hD hC (hfl hf hR s hD hC)).2, h1.2⟩
    · rw [pk_un z]; exact h1
theorem js_J_cut {n : Nat} {M d L H P : Nat → Int32} {v f : Int32} {pred : Nat → Int32} {mv fl : Int32} {ra cu : Nat → Int32} {op : Nat} {la : Int32}
    (J : js_J n M d L H P v f pred mv fl ra cu) (hs : f = 0 → js_R n d L H → ∀ s, js_D n M d s → js_C n d L H P s → s op + (d op).toInt ≤ la.toInt) :
    js_J n M d L H P v f pred mv fl ra (upd cu op (jt_mn (cu op) la)) := by
  obtain ⟨t, q, u⟩ := J
  refine ⟨t, q, fun hf hR => ⟨(u hf hR).1, fun s hD hC a ha => ?_⟩⟩
  have h1 := (u hf hR).2 s hD hC a ha
  by_cases z : a = op
  · subst z
    rw [pk_us]
    exact ⟨h1.1, jt_mn_ge h1.2 (hs hf hR s hD hC)⟩
  · rw [pk_un z]; exact h1
theorem js_J_C {n : Nat} {M d L H P : Nat → Int32} {v f : Int32} {pred : Nat → Int32} {mv fl : Int32} {ra cu : Nat → Int32} (J : js_J n M d L H P v f pred mv fl ra cu) :
    f = 0 → js_R n d L H → ∀ s, js_D n M d s → js_C n d L H P s → js_C n d L H pred s := fun hf hR s hD hC => ((J.1.2.2 hf hR).1 s hD hC).2
theorem js_R_C {n : Nat} {d L H P : Nat → Int32} {s : Nat → Int} (hd : js_d n d) (hR : js_R n d L H) (hC : js_C n d L H P s) : ∀ a, a < n → -60 ≤ s a ∧ s a ≤ 60 := fun a ha => by
  have := hR a ha; have := hC.1 a ha; have := hd a ha; omega
section
variable {f_machines f_firstHorizon f_horizon f_jobs f_depth f_recorded f_wantA f_wantB f_moved f_failed f_level f_pickA f_pickB f_inTree : Int32} {a_releaseOf a_dueOf a_jobOf a_machineOf a_durationOf a_entryA a_entryB a_noted a_wantFrom a_wantTo a_lo a_hi a_pred a_savedLo a_savedHi a_savedPred a_savedA a_savedB a_raised a_cut a_place a_sum a_ect : Nat → Int32}
theorem jx_findEdges {post : SX → Prop} {n p : Nat} {P : Nat → Int32} {v f : Int32} (hn : n ≤ 8) (hp : p < n) (hd : js_d n a_durationOf) (hR : js_R n a_durationOf a_lo a_hi) (hPl : jt_P n a_lo a_place)
    (hm : f_moved = 0 ∨ f_moved = 1) (hv : v = 0 ∨ v = 1) (hf : f_failed = 0 ∨ f_failed = 1) (J : js_J n a_machineOf a_durationOf a_lo a_hi P v f a_pred f_moved f_failed a_raised a_cut)
    (h : ∀ pred mv fl ra inT sum ect, js_J n a_machineOf a_durationOf a_lo a_hi P v f pred mv fl ra a_cut → post (f_machines, f_firstHorizon, f_horizon, f_jobs, nI n, f_depth, f_recorded, f_wantA, f_wantB, mv, fl, f_level, f_pickA, f_pickB, inT, a_releaseOf, a_dueOf, a_jobOf, a_machineOf, a_durationOf, a_entryA, a_entryB, a_noted, a_wantFrom, a_wantTo, a_lo, a_hi, pred, a_savedLo, a_savedHi, a_savedPred, a_savedA, a_savedB, ra, a_cut, a_place, sum, ect)) : (wpX_findEdges post (f_machines, f_firstHorizon, f_horizon, f_jobs, nI n, f_depth, f_recorded, f_wantA, f_wantB, f_moved, f_failed, f_level, f_pickA, f_pickB, f_inTree, a_releaseOf, a_dueOf, a_jobOf, a_machineOf, a_durationOf, a_entryA, a_entryB, a_noted, a_wantFrom, a_wantTo, a_lo, a_hi, a_pred, a_savedLo, a_savedHi, a_savedPred, a_savedA, a_savedB, a_raised, a_cut, a_place, a_sum, a_ect) (nI p)) := by
  have vp : vp_in (nI p) 8 := vp_in_nI (by omega) (by omega)
  have cp : (nI p).toNatClampNeg = p := nI_clamp (by omega)
  unfold wpX_findEdges
  dsimp only
  refine jx_clearTree fun sum0 ect0 hs0 he0 => ?_
  refine loop_0 (σ := Int32 × (Nat → Int32) × (Nat → Int32)) (fun m i s => (wX_findEdges_6 post (nI p) m (nI i) f_machines f_firstHorizon f_horizon f_jobs (nI n) f_depth f_recorded f_wantA f_wantB f_moved f_failed f_level f_pickA f_pickB s.1 a_releaseOf a_dueOf a_jobOf a_machineOf a_durationOf a_entryA a_entryB a_noted a_wantFrom a_wantTo a_lo a_hi a_pred a_savedLo a_savedHi a_savedPred a_savedA a_savedB a_raised a_cut a_place s.2.1 s.2.2))
    (fun i s => jt_K n a_durationOf a_lo a_place s.1 s.2.1 s.2.2 ∧ ∀ j, j < 32 → bt s.1 j = true → j < i ∧ a_machineOf j = a_machineOf p ∧ (a_hi j).toInt ≤ (a_hi p).toInt) n (0, sum0, ect0)
    ⟨jx_clearK hs0 he0, fun j _ hb => by rw [b_0] at hb; exact absurd hb (by decide)⟩ ?_ ?_
  · -- the set is in the tree
    rintro m ⟨S, sum1, ect1⟩ ⟨hK, hb⟩
    have hb' : ∀ j, j < 32 → bt S j = true → j < n ∧ a_machineOf j = a_machineOf p ∧ (a_hi j).toInt ≤ (a_hi p).toInt := hb
    have hK' : jt_K n a_durationOf a_lo a_place S sum1 ect1 := hK
    have eR := (jt_root hd hR hK').2
    have F2 : ∀ s, js_D n a_machineOf a_durationOf s → js_C n a_durationOf a_lo a_hi P s → ∀ T, -800 ≤ T → (∀ a, a < n → bt S a = true → s a + (a_durationOf a).toInt ≤ T) → (ect1 1).toInt ≤ T := by
      intro s hD hC T hT hend
      refine jt_ect hd hR hK' hPl hT (fun a ha q => ⟨(hC.1 a ha).1, hend a ha q⟩) (fun a b ha hb2 hne qa qb => ?_)
      exact hD a b ha hb2 hne ((hb' a (by omega) qa).2.1.trans (hb' b (by omega) qb).2.1.symm)
    have F1 : ∀ s, js_D n a_machineOf a_durationOf s → js_C n a_durationOf a_lo a_hi P s → (ect1 1).toInt ≤ (a_hi p).toInt := by
      intro s hD hC
      refine F2 s hD hC _ (by have := hR p hp; have := hd p hp; omega) (fun a ha q => ?_)
      have := (hb' a (by omega) q).2.2
      have := (hC.1 a ha).2
      omega
    have go : ∀ fl', js_J n a_machineOf a_durationOf a_lo a_hi P v f a_pred f_moved fl' a_raised a_cut → ∃ n94 : Nat, (wX_findEdges_94 post (nI p) (ect1 1) S n94 0 f_machines f_firstHorizon f_horizon f_jobs (nI n) f_depth f_recorded f_wantA f_wantB f_moved fl' f_level f_pickA f_pickB S a_releaseOf a_dueOf a_jobOf a_machineOf a_durationOf a_entryA a_entryB a_noted a_wantFrom a_wantTo a_lo a_hi a_pred a_savedLo a_savedHi a_savedPred a_savedA a_savedB a_raised a_cut a_place sum1 ect1) := by
      intro fl' J'
      refine loop_0 (σ := Int32 × Int32 × (Nat → Int32) × (Nat → Int32) × (Nat → Int32) × (Nat → Int32)) (fun m i s => (wX_findEdges_94 post (nI p) (ect1 1) S m (nI i) f_machines f_firstHorizon f_horizon f_jobs (nI n) f_depth f_recorded f_wantA f_wantB s.1 fl' f_level f_pickA f_pickB s.2.1 a_releaseOf a_dueOf a_jobOf a_machineOf a_durationOf a_entryA a_entryB a_noted a_wantFrom a_wantTo a_lo a_hi s.2.2.1 a_savedLo a_savedHi a_savedPred a_savedA a_savedB s.2.2.2.1 a_cut a_place s.2.2.2.2.1 s.2.2.2.2.2))
        (fun i s => js_J n a_machineOf a_durationOf a_lo a_hi P v f s.2.2.1 s.1 fl' s.2.2.2.1 a_cut ∧ jt_K n a_durationOf a_lo a_place s.2.1 s.2.2.2.2.1 s.2.2.2.2.2 ∧ ∀ j, j < 32 → bt s.2.1 j = bt S j) n (f_moved, S, a_pred, a_raised, sum1, ect1)
        ⟨J', hK', fun _ _ => rfl⟩ ?_ ?_
      · rintro m ⟨mv, inT, pred, ra, sum2, ect2⟩ ⟨I1, I2, I3⟩
        exact br_t (nI_le (Nat.le_refl _) (by omega)) (h pred mv fl' ra inT sum2 ect2 I1)
      · rintro m b ⟨mv, inT, pred, ra, sum2, ect2⟩ hbn ⟨I1, I2, I3⟩ K
        have I1 : js_J n a_machineOf a_durationOf a_lo a_hi P v f pred mv fl' ra a_cut := I1
        have I2 : jt_K n a_durationOf a_lo a_place inT sum2 ect2 := I2
        have I3 : ∀ j, j < 32 → bt inT j = bt S j := I3
        have vb : vp_in (nI b) 8 := vp_in_nI (by omega) (by omega)
        have cb : (nI b).toNatClampNeg = b := nI_clamp (by omega)
        have hm2 : mv = 0 ∨ mv = 1 := jf_c hv I1.1.2.1
        have skip := nm_r (P := fun z => (wX_findEdges_94 post (nI p) (ect1 1) S m z f_machines f_firstHorizon f_horizon f_jobs (nI n) f_depth f_recorded f_wantA f_wantB mv fl' f_level f_pickA f_pickB inT a_releaseOf a_dueOf a_jobOf a_machineOf a_durationOf a_entryA a_entryB a_noted a_wantFrom a_wantTo a_lo a_hi pred a_savedLo a_savedHi a_savedPred a_savedA a_savedB ra a_cut a_place sum2 ect2)) (nI_1 b) (K (mv, inT, pred, ra, sum2, ect2) ⟨I1, I2, I3⟩)
        refine br_f (nI_ge hbn (by omega)) (jx_rivals (by omega) (by omega) (fun hne hM => ?_) (fun _ => br_t rfl skip))
        refine br_f ja_10 (And.intro vb (And.intro vp ?_))
        rw [cb, cp]
        refine br_c (fun z => ?_) (fun _ => skip)
        refine jx_toggle hn hbn hd hPl I2 (fun inT3 sum3 ect3 K3 B3 => ?_)
        refine And.intro vp ?_
        have nb : bt S b = false := ts_nt fun q => by
          have := (hb' b (by omega) q).2.2
          have := ja_lt.mp z
          omega
        have B3' : ∀ j, j < 32 → bt inT3 j = (bt S j ^^ decide (j = b)) := fun j hj => by rw [B3 j hj, I3 j hj]
        have out : ∀ mv4 pred4 ra4, js_J n a_machineOf a_durationOf a_lo a_hi P v f pred4 mv4 fl' ra4 a_cut →
            (wX_findEdges_161 post (wX_findEdges_94 post (nI p) (ect1 1) S m) (nI p) (ect1 1) S (nI b) f_machines f_firstHorizon f_horizon f_jobs (nI n) f_depth f_recorded f_wantA f_wantB mv4 fl' f_level f_pickA f_pickB inT3 a_releaseOf a_dueOf a_jobOf a_machineOf a_durationOf a_entryA a_entryB a_noted a_wantFrom a_wantTo a_lo a_hi pred4 a_savedLo a_savedHi a_savedPred a_savedA a_savedB ra4 a_cut a_place sum3 ect3) := by
          intro mv4 pred4 ra4 J4
          refine jx_toggle hn hbn hd hPl K3 (fun inT5 sum5 ect5 K5 B5 => ?_)
          refine nm_r (nI_1 b) (K (mv4, inT5, pred4, ra4, sum5, ect5) ⟨J4, K5, fun j hj => ?_⟩)
          show bt inT5 j = bt S j
          rw [B5 j hj, B3' j hj]
          cases bt S j <;> cases decide (j = b) <;> rfl
        refine br_c (fun _ => out mv pred ra I1) (fun w => ?_)
        refine jx_putAfter (by omega) hm2 (fun mv4 hm4 => out mv4 _ _ ?_)
        have w' : (a_hi p).toInt < (ect3 1).toInt := by
          have := mt ja_le.mpr w
          omega
        refine js_J_put I1 hn hbn (fun i hi q => (hb' i hi q).1) (fun hf0 hR0 s hD hC hC' => ?_) (js_J_C I1) (fun _ _ => by omega) hm4
        have after : ∀ a, a < n → bt S a = true → s a + (a_durationOf a).toInt ≤ s b := by
          intro a ha qa
          have hab : a ≠ b := fun e => by rw [e, nb] at qa; exact absurd qa (by decide)
          rcases hD a b ha hbn hab ((hb' a (by omega) qa).2.1.trans hM.symm) with y | y
          · exact y
          · exfalso
            have := jt_ect hd hR K3 hPl (s := s) (T := (a_hi p).toInt) (by have := hR p hp; have := hd p hp; omega) (fun c hc qc => ⟨(hC.1 c hc).1, ?_⟩) (fun c e hc he hce qc qe => ?_)
            · omega
            · rw [B3' c (by omega)] at qc
              by_cases zc : c = b
              · subst zc
                have := (hC.1 a ha).2
                have := (hb' a (by omega) qa).2.2
                have := hd a ha
                omega
              · rw [decide_eq_false zc, Bool.xor_false] at qc
                have := (hC.1 c hc).2
                have := (hb' c (by omega) qc).2.2
                omega
            · have mc : ∀ x, x < n → bt inT3 x = true → a_machineOf x = a_machineOf p := fun x hx qx => by
                rw [B3' x (by omega)] at qx
                by_cases zx : x = b
                · rw [zx]; exact hM
                · rw [decide_eq_false zx, Bool.xor_false] at qx
                  exact (hb' x (by omega) qx).2.1
              exact hD c e hc he hce ((mc c hc qc).trans (mc e he qe).symm)
        refine ⟨after, F2 s hD hC _ (by have := js_R_C hd hR hC b hbn; omega) after⟩
    refine br_t (nI_le (Nat.le_refl _) (by omega)) (nm_e (And.intro vp ?_))
    rw [cp]
    refine br_c (fun z => nm_r (jf_0 hf) ⟨jf_n hf, jf_f hf, go _ J⟩) (fun z => nm_r (jf_1 hf) ⟨rfl, rfl, go _ ⟨js_T_fail J.1 (Or.inr rfl) (fun _ _ _ _ s hD hC _ => ?_), J.2⟩⟩)
    exact z (ja_le.mpr (F1 s hD hC))
  · rintro m i ⟨S, sum1, ect1⟩ hi ⟨hK, hb⟩ K
    have hb : ∀ j, j < 32 → bt S j = true → j < i ∧ a_machineOf j = a_machineOf p ∧ (a_hi j).toInt ≤ (a_hi p).toInt := hb
    have hK : jt_K n a_durationOf a_lo a_place S sum1 ect1 := hK
    have vi : vp_in (nI i) 8 := vp_in_nI (by omega) (by omega)
    have ci : (nI i).toNatClampNeg = i := nI_clamp (by omega)
    have skip := nm_r (P := fun z => (wX_findEdges_6 post (nI p) m z f_machines f_firstHorizon f_horizon f_jobs (nI n) f_depth f_recorded f_wantA f_wantB f_moved f_failed f_level f_pickA f_pickB S a_releaseOf a_dueOf a_jobOf a_machineOf a_durationOf a_entryA a_entryB a_noted a_wantFrom a_wantTo a_lo a_hi a_pred a_savedLo a_savedHi a_savedPred a_savedA a_savedB a_raised a_cut a_place sum1 ect1)) (nI_1 i) (K (S, sum1, ect1) ⟨hK, fun j hj q => by have := hb j hj q; exact ⟨by omega, this.2⟩⟩)
    refine br_f (nI_ge hi (by omega)) (And.intro vi (And.intro vp ?_))
    rw [ci, cp]
    refine br_c (fun hM => And.intro vi (And.intro vp (br_c (fun _ => skip) (fun z => ?_)))) (fun _ => skip)
    refine jx_toggle hn hi hd hPl hK (fun inT3 sum3 ect3 K3 B3 => ?_)
    refine nm_r (nI_1 i) (K (inT3, sum3, ect3) ⟨K3, fun j hj q => ?_⟩)
    have q' : bt inT3 j = true := q
    rw [B3 j hj] at q'
    by_cases zj : j = i
    · subst zj
      refine ⟨by omega, hM, ?_⟩
      have := mt ja_lt.mpr z
      omega
    · rw [decide_eq_false zj, Bool.xor_false] at q'
      have := hb j hj q'
      exact ⟨by omega, this.2⟩
end
end
section
section
variable {f_machines f_firstHorizon f_horizon f_jobs f_depth f_recorded f_wantA f_wantB f_moved f_failed f_level f_pickA f_pickB f_inTree : Int32} {a_releaseOf a_dueOf a_jobOf a_machineOf a_durationOf a_entryA a_entryB a_noted a_wantFrom a_wantTo a_lo a_hi a_pred a_savedLo a_savedHi a_savedPred a_savedA a_savedB a_raised a_cut a_place a_sum a_ect : Nat → Int32}
theorem jx_detect {post : SX → Prop} {n p : Nat} {P : Nat → Int32} {v f : Int32} (hn : n ≤ 8) (hp : p < n) (hd : js_d n a_durationOf) (hR : js_R n a_durationOf a_lo a_hi) (hPl : jt_P n a_lo a_place)
    (hm : f_moved = 0 ∨ f_moved = 1) (J : js_J n a_machineOf a_durationOf a_lo a_hi P v f a_pred f_moved f_failed a_raised a_cut)
    (h : ∀ pred mv ra inT sum ect, js_J n a_machineOf a_durationOf a_lo a_hi P v f pred mv f_failed ra a_cut → post (f_machines, f_firstHorizon, f_horizon, f_jobs, nI n, f_depth, f_recorded, f_wantA, f_wantB, mv, f_failed, f_level, f_pickA, f_pickB, inT, a_releaseOf, a_dueOf, a_jobOf, a_machineOf, a_durationOf, a_entryA, a_entryB, a_noted, a_wantFrom, a_wantTo, a_lo, a_hi, pred, a_savedLo, a_savedHi, a_savedPred, a_savedA, a_savedB, ra, a_cut, a_place, sum, ect)) : (wpX_detect post (f_machines, f_firstHorizon, f_horizon, f_jobs, nI n, f_depth, f_recorded, f_wantA, f_wantB, f_moved, f_failed, f_level, f_pickA, f_pickB, f_inTree, a_releaseOf, a_dueOf, a_jobOf, a_machineOf, a_durationOf, a_entryA, a_entryB, a_noted, a_wantFrom, a_wantTo, a_lo, a_hi, a_pred, a_savedLo, a_savedHi, a_savedPred, a_savedA, a_savedB, a_raised, a_cut, a_place, a_sum, a_ect) (nI p)) := by
  have vp : vp_in (nI p) 8 := vp_in_nI (by omega) (by omega)
  have cp : (nI p).toNatClampNeg = p := nI_clamp (by omega)
  unfold wpX_detect
  dsimp only
  refine jx_clearTree fun sum0 ect0 hs0 he0 => ?_
  refine loop_0 (σ := Int32 × (Nat → Int32) × (Nat → Int32)) (fun m i s => (wX_detect_6 post (nI p) m (nI i) f_machines f_firstHorizon f_horizon f_jobs (nI n) f_depth f_recorded f_wantA f_wantB f_moved f_failed f_level f_pickA f_pickB s.1 a_releaseOf a_dueOf a_jobOf a_machineOf a_durationOf a_entryA a_entryB a_noted a_wantFrom a_wantTo a_lo a_hi a_pred a_savedLo a_savedHi a_savedPred a_savedA a_savedB a_raised a_cut a_place s.2.1 s.2.2))
    (fun i s => jt_K n a_durationOf a_lo a_place s.1 s.2.1 s.2.2 ∧ ∀ j, j < 32 → bt s.1 j = true → j < i ∧ j ≠ p ∧ a_machineOf j = a_machineOf p ∧ (¬ a_lo p + a_durationOf p ≤ a_hi j - a_durationOf j ∨ bt (a_pred p) j = true)) n (0, sum0, ect0)
    ⟨jx_clearK hs0 he0, fun j _ hb => by rw [b_0] at hb; exact absurd hb (by decide)⟩ ?_ ?_
  · rintro m ⟨S, sum1, ect1⟩ ⟨hK, hb⟩
    show (wX_detect_6 post (nI p) (m + 1) (nI n) f_machines f_firstHorizon f_horizon f_jobs (nI n) f_depth f_recorded f_wantA f_wantB f_moved f_failed f_level f_pickA f_pickB S a_releaseOf a_dueOf a_jobOf a_machineOf a_durationOf a_entryA a_entryB a_noted a_wantFrom a_wantTo a_lo a_hi a_pred a_savedLo a_savedHi a_savedPred a_savedA a_savedB a_raised a_cut a_place sum1 ect1)
    have hb : ∀ j, j < 32 → bt S j = true → j < n ∧ j ≠ p ∧ a_machineOf j = a_machineOf p ∧ (¬ a_lo p + a_durationOf p ≤ a_hi j - a_durationOf j ∨ bt (a_pred p) j = true) := hb
    have hK : jt_K n a_durationOf a_lo a_place S sum1 ect1 := hK
    have eR := (jt_root hd hR hK).2
    refine br_t (nI_le (Nat.le_refl _) (by omega)) (jx_putAfter (by omega) hm (fun mv4 hm4 => h _ mv4 _ S sum1 ect1 ?_))
    refine js_J_put J hn hp (fun i hi q => (hb i hi q).1) (fun hf0 hR0 s hD hC hC' => ?_) (js_J_C J) (fun _ _ => by omega) hm4
    have after : ∀ a, a < n → bt S a = true → s a + (a_durationOf a).toInt ≤ s p := by
      intro a ha qa
      obtain ⟨_, hne, hM, hor⟩ := hb a (by omega) qa
      rcases hor with z | z
      · rcases hD a p ha hp hne hM with y | y
        · exact y
        · exfalso
          apply z
          have x1 := hR a ha
          have x2 := hR p hp
          have x3 := hd a ha
          have x4 := hd p hp
          have x5 := hC.1 a ha
          have x6 := hC.1 p hp
          rw [ja_le, ja_add (by omega) (by omega), ja_sub (by omega) (by omega)]
          omega
      · exact hC'.2 a p ha hp z
    refine ⟨after, ?_⟩
    refine jt_ect hd hR hK hPl (by have := js_R_C hd hR hC p hp; omega) (fun a ha q => ⟨(hC.1 a ha).1, after a ha q⟩) (fun a b ha hb2 hne qa qb => ?_)
    exact hD a b ha hb2 hne ((hb a (by omega) qa).2.2.1.trans (hb b (by omega) qb).2.2.1.symm)
  · rintro m i ⟨S, sum1, ect1⟩ hi ⟨hK, hb⟩ K
    show (wX_detect_6 post (nI p) (m + 1) (nI i) f_machines f_firstHorizon f_horizon f_jobs (nI n) f_depth f_recorded f_wantA f_wantB f_moved f_failed f_level f_pickA f_pickB S a_releaseOf a_dueOf a_jobOf a_machineOf a_durationOf a_entryA a_entryB a_noted a_wantFrom a_wantTo a_lo a_hi a_pred a_savedLo a_savedHi a_savedPred a_savedA a_savedB a_raised a_cut a_place sum1 ect1)
    have hb : ∀ j, j < 32 → bt S j = true → j < i ∧ j ≠ p ∧ a_machineOf j = a_machineOf p ∧ (¬ a_lo p + a_durationOf p ≤ a_hi j - a_durationOf j ∨ bt (a_pred p) j = true) := hb
    have hK : jt_K n a_durationOf a_lo a_place S sum1 ect1 := hK
    have vi : vp_in (nI i) 8 := vp_in_nI (by omega) (by omega)
    have ci : (nI i).toNatClampNeg = i := nI_clamp (by omega)
    have skip := nm_r (P := fun z => (wX_detect_6 post (nI p) m z f_machines f_firstHorizon f_horizon f_jobs (nI n) f_depth f_recorded f_wantA f_wantB f_moved f_failed f_level f_pickA f_pickB S a_releaseOf a_dueOf a_jobOf a_machineOf a_durationOf a_entryA a_entryB a_noted a_wantFrom a_wantTo a_lo a_hi a_pred a_savedLo a_savedHi a_savedPred a_savedA a_savedB a_raised a_cut a_place sum1 ect1)) (nI_1 i) (K (S, sum1, ect1) ⟨hK, fun j hj q => by have := hb j hj q; exact ⟨by omega, this.2⟩⟩)
    have put : i ≠ p → a_machineOf i = a_machineOf p → (¬ a_lo p + a_durationOf p ≤ a_hi i - a_durationOf i ∨ bt (a_pred p) i = true) → (wX_detect_75 post (wX_detect_6 post (nI p) m) (nI p) (nI i) f_machines f_firstHorizon f_horizon f_jobs (nI n) f_depth f_recorded f_wantA f_wantB f_moved f_failed f_level f_pickA f_pickB S a_releaseOf a_dueOf a_jobOf a_machineOf a_durationOf a_entryA a_entryB a_noted a_wantFrom a_wantTo a_lo a_hi a_pred a_savedLo a_savedHi a_savedPred a_savedA a_savedB a_raised a_cut a_place sum1 ect1) := by
      intro hne hM hor
      refine jx_toggle hn hi hd hPl hK (fun inT3 sum3 ect3 K3 B3 => ?_)
      refine nm_r (nI_1 i) (K (inT3, sum3, ect3) ⟨K3, fun j hj q => ?_⟩)
      have q' : bt inT3 j = true := q
      rw [B3 j hj] at q'
      by_cases zj : j = i
      · subst zj
        exact ⟨by omega, hne, hM, hor⟩
      · rw [decide_eq_false zj, Bool.xor_false] at q'
        have := hb j hj q'
        exact ⟨by omega, this.2⟩
    refine br_f (nI_ge hi (by omega)) (And.intro vp (And.intro vp (And.intro vi (And.intro vi ?_))))
    rw [ci, cp]
    refine br_c (fun z => ?_) (fun z => ?_)
    · refine jx_rivals (by omega) (by omega) (fun hne hM => ?_) (fun _ => br_t rfl skip)
      refine br_f ja_10 (br_t rfl (And.intro vp ?_))
      rw [cp]
      exact br_c (fun _ => skip) (fun y => put hne hM (Or.inr (ts_nf fun x => y ((jb_test (by omega) _).mpr x))))
    · refine jx_rivals (by omega) (by omega) (fun hne hM => ?_) (fun _ => br_t rfl skip)
      exact br_f ja_10 (br_f ja_10 (put hne hM (Or.inl z)))
theorem jx_notLast {post : SX → Prop} {n p : Nat} {P : Nat → Int32} {v f : Int32} (hn : n ≤ 8) (hp : p < n) (hd : js_d n a_durationOf) (hR : js_R n a_durationOf a_lo a_hi) (hPl : jt_P n a_lo a_place)
    (J : js_J n a_machineOf a_durationOf a_lo a_hi P v f a_pred f_moved f_failed a_raised a_cut)
    (h : ∀ cu inT sum ect, js_J n a_machineOf a_durationOf a_lo a_hi P v f a_pred f_moved f_failed a_raised cu → post (f_machines, f_firstHorizon, f_horizon, f_jobs, nI n, f_depth, f_recorded, f_wantA, f_wantB, f_moved, f_failed, f_level, f_pickA, f_pickB, inT, a_releaseOf, a_dueOf, a_jobOf, a_machineOf, a_durationOf, a_entryA, a_entryB, a_noted, a_wantFrom, a_wantTo, a_lo, a_hi, a_pred, a_savedLo, a_savedHi, a_savedPred, a_savedA, a_savedB, a_raised, cu, a_place, sum, ect)) : (wpX_notLast post (f_machines, f_firstHorizon, f_horizon, f_jobs, nI n, f_depth, f_recorded, f_wantA, f_wantB, f_moved, f_failed, f_level, f_pickA, f_pickB, f_inTree, a_releaseOf, a_dueOf, a_jobOf, a_machineOf, a_durationOf, a_entryA, a_entryB, a_noted, a_wantFrom, a_wantTo, a_lo, a_hi, a_pred, a_savedLo, a_savedHi, a_savedPred, a_savedA, a_savedB, a_raised, a_cut, a_place, a_sum, a_ect) (nI p)) := by
  have vp : vp_in (nI p) 8 := vp_in_nI (by omega) (by omega)
  have cp : (nI p).toNatClampNeg = p := nI_clamp (by omega)
  unfold wpX_notLast
  dsimp only
  refine jx_clearTree fun sum0 ect0 hs0 he0 => ?_
  refine loop_0 (σ := Int32 × Int32 × (Nat → Int32) × (Nat → Int32)) (fun m i s => (wX_notLast_10 post (nI p) m s.1 (nI i) f_machines f_firstHorizon f_horizon f_jobs (nI n) f_depth f_recorded f_wantA f_wantB f_moved f_failed f_level f_pickA f_pickB s.2.1 a_releaseOf a_dueOf a_jobOf a_machineOf a_durationOf a_entryA a_entryB a_noted a_wantFrom a_wantTo a_lo a_hi a_pred a_savedLo a_savedHi a_savedPred a_savedA a_savedB a_raised a_cut a_place s.2.2.1 s.2.2.2))
    (fun i s => jt_K n a_durationOf a_lo a_place s.2.1 s.2.2.1 s.2.2.2 ∧ ∀ j, j < 32 → bt s.2.1 j = true → j < i ∧ j ≠ p ∧ a_machineOf j = a_machineOf p ∧ (a_hi j).toInt - (a_durationOf j).toInt ≤ s.1.toInt) n (-1000, 0, sum0, ect0)
    ⟨jx_clearK hs0 he0, fun j _ hb => by rw [b_0] at hb; exact absurd hb (by decide)⟩ ?_ ?_
  · rintro m ⟨la, S, sum1, ect1⟩ ⟨hK, hb⟩
    show (wX_notLast_10 post (nI p) (m + 1) la (nI n) f_machines f_firstHorizon f_horizon f_jobs (nI n) f_depth f_recorded f_wantA f_wantB f_moved f_failed f_level f_pickA f_pickB S a_releaseOf a_dueOf a_jobOf a_machineOf a_durationOf a_entryA a_entryB a_noted a_wantFrom a_wantTo a_lo a_hi a_pred a_savedLo a_savedHi a_savedPred a_savedA a_savedB a_raised a_cut a_place sum1 ect1)
    have hb : ∀ j, j < 32 → bt S j = true → j < n ∧ j ≠ p ∧ a_machineOf j = a_machineOf p ∧ (a_hi j).toInt - (a_durationOf j).toInt ≤ la.toInt := hb
    have hK : jt_K n a_durationOf a_lo a_place S sum1 ect1 := hK
    refine br_t (nI_le (Nat.le_refl _) (by omega)) (And.intro vp (And.intro vp ?_))
    rw [cp]
    refine br_c (fun _ => h a_cut S sum1 ect1 J) (fun z => And.intro vp (jx_lesser (And.intro vp (nm_e ?_))))
    refine h _ S sum1 ect1 (js_J_cut J fun hf0 hR0 s hD hC => ?_)
    have x2 := hR p hp
    have x4 := hd p hp
    have x6 := hC.1 p hp
    rw [ja_le, ja_sub (by omega) (by omega)] at z
    apply Classical.byContradiction
    intro hlate
    apply z
    have : (ect1 1).toInt ≤ s p := by
      refine jt_ect hd hR hK hPl (by have := js_R_C hd hR hC p hp; omega) (fun a ha q => ⟨(hC.1 a ha).1, ?_⟩) (fun a b ha hb2 hne qa qb => ?_)
      · obtain ⟨_, hne, hM, hl⟩ := hb a (by omega) q
        rcases hD a p ha hp hne hM with y | y
        · exact y
        · have := hC.1 a ha
          omega
      · exact hD a b ha hb2 hne ((hb a (by omega) qa).2.2.1.trans (hb b (by omega) qb).2.2.1.symm)
    omega
  · rintro m i ⟨la, S, sum1, ect1⟩ hi ⟨hK, hb⟩ K
    show (wX_notLast_10 post (nI p) (m + 1) la (nI i) f_machines f_firstHorizon f_horizon f_jobs (nI n) f_depth f_recorded f_wantA f_wantB f_moved f_failed f_level f_pickA f_pickB S a_releaseOf a_dueOf a_jobOf a_machineOf a_durationOf a_entryA a_entryB a_noted a_wantFrom a_wantTo a_lo a_hi a_pred a_savedLo a_savedHi a_savedPred a_savedA a_savedB a_raised a_cut a_place sum1 ect1)
    have hb : ∀ j, j < 32 → bt S j = true → j < i ∧ j ≠ p ∧ a_machineOf j = a_machineOf p ∧ (a_hi j).toInt - (a_durationOf j).toInt ≤ la.toInt := hb
    have hK : jt_K n a_durationOf a_lo a_place S sum1 ect1 := hK
    have vi : vp_in (nI i) 8 := vp_in_nI (by omega) (by omega)
    have ci : (nI i).toNatClampNeg = i := nI_clamp (by omega)
    have skip := nm_r (P := fun z => (wX_notLast_10 post (nI p) m la z f_machines f_firstHorizon f_horizon f_jobs (nI n) f_depth f_recorded f_wantA f_wantB f_moved f_failed f_level f_pickA f_pickB S a_releaseOf a_dueOf a_jobOf a_machineOf a_durationOf a_entryA a_entryB a_noted a_wantFrom a_wantTo a_lo a_hi a_pred a_savedLo a_savedHi a_savedPred a_savedA a_savedB a_raised a_cut a_place sum1 ect1)) (nI_1 i) (K (la, S, sum1, ect1) ⟨hK, fun j hj q => by have := hb j hj q; exact ⟨by omega, this.2⟩⟩)
    refine br_f (nI_ge hi (by omega)) (jx_rivals (by omega) (by omega) (fun hne hM => ?_) (fun _ => br_t rfl skip))
    refine br_f ja_10 (And.intro vi (And.intro vi (And.intro vp ?_)))
    rw [ci, cp]
    refine br_c (fun z => ?_) (fun _ => skip)
    refine jx_toggle hn hi hd hPl hK (fun inT3 sum3 ect3 K3 B3 => ?_)
    refine And.intro vi (And.intro vi (jx_greater ?_))
    refine nm_r (nI_1 i) (K (jt_mx la (a_hi i - a_durationOf i), inT3, sum3, ect3) ⟨K3, fun j hj q => ?_⟩)
    have q' : bt inT3 j = true := q
    rw [B3 j hj] at q'
    show j < i + 1 ∧ j ≠ p ∧ a_machineOf j = a_machineOf p ∧ (a_hi j).toInt - (a_durationOf j).toInt ≤ (jt_mx la (a_hi i - a_durationOf i)).toInt
    have x1 := jt_mx_ge1 la (a_hi i - a_durationOf i)
    have x2 := jt_mx_ge2 la (a_hi i - a_durationOf i)
    by_cases zj : j = i
    · subst zj
      refine ⟨by omega, hne, hM, ?_⟩
      have y1 := hR j hi
      have y2 := hd j hi
      rw [ja_sub (by omega) (by omega)] at x2
      exact x2
    · rw [decide_eq_false zj, Bool.xor_false] at q'
      have := hb j hj q'
      exact ⟨by omega, this.2.1, this.2.2.1, by omega⟩
end
end
section
/-! one pass and its turn -/
theorem js_Q_tr {n : Nat} {lo hi pred lo1 hi1 pred1 lo2 hi2 pred2 : Nat → Int32} {mv1 mv2 : Int32} (a : js_Q n lo hi pred lo1 hi1 pred1 mv1) (b : js_Q n lo1 hi1 pred1 lo2 hi2 pred2 mv2) (h : mv2 = mv1 ∨ mv2 = 1) : js_Q n lo hi pred lo2 hi2 pred2 mv2 := by
  intro hz
  have h1 : mv1 = 0 := by
    rcases h with h | h
    · rw [← h]; exact hz
    · rw [h] at hz; exact absurd hz ja_10
  intro c hc
  have x := a h1 c hc
  have y := b hz c hc
  exact ⟨y.1.trans x.1, y.2.1.trans x.2.1, fun e he => (y.2.2 e he).trans (x.2.2 e he)⟩
def js_A (n : Nat) (d lo hi pred : Nat → Int32) (mv fl : Int32) (i j : Nat) : Prop := mv = 0 → fl = 0 → js_R n d lo hi → ∀ a b, a < n → b < n → (b < i ∨ (b = i ∧ a < j)) → bt (pred b) a = true → (lo a).toInt + (d a).toInt ≤ (lo b).toInt
def js_U (n : Nat) (M d lo hi pred : Nat → Int32) (mv fl : Int32) (lo' hi' pred' : Nat → Int32) (mv' fl' : Int32) : Prop := ∃ lo1 hi1 pred1, js_T n M d lo hi pred mv fl lo1 hi1 pred1 mv' fl' ∧ js_M n lo1 hi1 pred1 lo' hi' pred' ∧ js_Q n lo hi pred lo1 hi1 pred1 mv' ∧ js_A n d lo hi pred mv' fl' n 0
theorem js_fl0 {a b : Int32} (h : b = a ∨ b = 1) (z : b = 0) : a = 0 := by
  rcases h with h | h
  · rw [← h]; exact z
  · rw [h] at z; exact absurd z ja_10
section
variable {f_machines f_firstHorizon f_horizon f_jobs f_depth f_recorded f_wantA f_wantB f_moved f_failed f_level f_pickA f_pickB f_inTree : Int32} {a_releaseOf a_dueOf a_jobOf a_machineOf a_durationOf a_entryA a_entryB a_noted a_wantFrom a_wantTo a_lo a_hi a_pred a_savedLo a_savedHi a_savedPred a_savedA a_savedB a_raised a_cut a_place a_sum a_ect : Nat → Int32}
theorem jx_ft113 {post : SX → Prop} {n : Nat} {L H P : Nat → Int32} {v f : Int32} (hn : n ≤ 8) (hd : js_d n a_durationOf) (hv : v = 0 ∨ v = 1) (hf : f = 0 ∨ f = 1)
    (J : js_J n a_machineOf a_durationOf L H P v f a_pred f_moved f_failed a_raised a_cut) (eL : a_lo = L) (eH : a_hi = H)
    (h : ∀ lo1 hi1 lo' hi' pred' mv' fl', js_T n a_machineOf a_durationOf L H P v f lo1 hi1 a_pred mv' fl' → js_Q n L H P lo1 hi1 a_pred mv' → js_M n lo1 hi1 a_pred lo' hi' pred' → post (f_machines, f_firstHorizon, f_horizon, f_jobs, nI n, f_depth, f_recorded, f_wantA, f_wantB, mv', fl', f_level, f_pickA, f_pickB, f_inTree, a_releaseOf, a_dueOf, a_jobOf, a_machineOf, a_durationOf, a_entryA, a_entryB, a_noted, a_wantFrom, a_wantTo, lo', hi', pred', a_savedLo, a_savedHi, a_savedPred, a_savedA, a_savedB, a_raised, a_cut, a_place, a_sum, a_ect)) :
    ∃ n113 : Nat, (wX_filterAndTurn_113 post n113 0 f_machines f_firstHorizon f_horizon f_jobs (nI n) f_depth f_recorded f_wantA f_wantB f_moved f_failed f_level f_pickA f_pickB f_inTree a_releaseOf a_dueOf a_jobOf a_machineOf a_durationOf a_entryA a_entryB a_noted a_wantFrom a_wantTo a_lo a_hi a_pred a_savedLo a_savedHi a_savedPred a_savedA a_savedB a_raised a_cut a_place a_sum a_ect) := by
  subst eL eH
  refine loop_0 (σ := Int32 × Int32 × (Nat → Int32) × (Nat → Int32)) (fun m i s => (wX_filterAndTurn_113 post m (nI i) f_machines f_firstHorizon f_horizon f_jobs (nI n) f_depth f_recorded f_wantA f_wantB s.1 s.2.1 f_level f_pickA f_pickB f_inTree a_releaseOf a_dueOf a_jobOf a_machineOf a_durationOf a_entryA a_entryB a_noted a_wantFrom a_wantTo s.2.2.1 s.2.2.2 a_pred a_savedLo a_savedHi a_savedPred a_savedA a_savedB a_raised a_cut a_place a_sum a_ect))
    (fun _ s => js_T n a_machineOf a_durationOf a_lo a_hi P v f s.2.2.1 s.2.2.2 a_pred s.1 s.2.1 ∧ js_Q n a_lo a_hi P s.2.2.1 s.2.2.2 a_pred s.1) n (f_moved, f_failed, a_lo, a_hi) ⟨J.1, J.2.1⟩ ?_ ?_
  · rintro m ⟨mv, fl, lo, hi⟩ ⟨t, q⟩
    exact br_t (nI_le (Nat.le_refl _) (by omega)) (jx_mirror hn (fun lo' hi' pred' hM => h lo hi lo' hi' pred' mv fl t q hM))
  · rintro m i ⟨mv, fl, lo, hi⟩ hi' ⟨t, q⟩ K
    show (wX_filterAndTurn_113 post (m + 1) (nI i) f_machines f_firstHorizon f_horizon f_jobs (nI n) f_depth f_recorded f_wantA f_wantB mv fl f_level f_pickA f_pickB f_inTree a_releaseOf a_dueOf a_jobOf a_machineOf a_durationOf a_entryA a_entryB a_noted a_wantFrom a_wantTo lo hi a_pred a_savedLo a_savedHi a_savedPred a_savedA a_savedB a_raised a_cut a_place a_sum a_ect)
    have vi : vp_in (nI i) 8 := vp_in_nI (by omega) (by omega)
    have ci : (nI i).toNatClampNeg = i := nI_clamp (by omega)
    refine br_f (nI_ge hi' (by omega)) (And.intro vi (And.intro vi ?_))
    rw [ci]
    refine jx_narrow (by omega) (jf_c hv t.2.1) (jf_c hf t.1) (fun lo' hi'' mv' fl' N => ?_)
    refine nm_r (nI_1 i) (K (mv', fl', lo', hi'') ⟨js_T_narrow hd hi' t N (fun hf0 _ hR => ?_), js_Q_narrow q N⟩)
    have u := J.2.2 hf0 hR
    have u1 := u.1 i hi'
    exact ⟨⟨by omega, by omega⟩, fun s hD hC => u.2 s hD hC i hi'⟩
theorem jx_ft75 {post : SX → Prop} {n : Nat} {v f : Int32} (hn : n ≤ 8) (hd : js_d n a_durationOf) (hv : v = 0 ∨ v = 1) (hf : f = 0 ∨ f = 1) (hPl : jt_P n a_lo a_place) (hR : f = 0 → js_R n a_durationOf a_lo a_hi)
    (hra : ∀ a, a < n → a_raised a = a_lo a ∧ a_cut a = a_hi a) (ev : f_moved = v) (ef : f_failed = f)
    (h : ∀ lo1 hi1 pred1 lo' hi' pred' mv' fl' ra cu inT sum ect, js_T n a_machineOf a_durationOf a_lo a_hi a_pred v f lo1 hi1 pred1 mv' fl' → js_Q n a_lo a_hi a_pred lo1 hi1 pred1 mv' → js_M n lo1 hi1 pred1 lo' hi' pred' → post (f_machines, f_firstHorizon, f_horizon, f_jobs, nI n, f_depth, f_recorded, f_wantA, f_wantB, mv', fl', f_level, f_pickA, f_pickB, inT, a_releaseOf, a_dueOf, a_jobOf, a_machineOf, a_durationOf, a_entryA, a_entryB, a_noted, a_wantFrom, a_wantTo, lo', hi', pred', a_savedLo, a_savedHi, a_savedPred, a_savedA, a_savedB, ra, cu, a_place, sum, ect)) :
    ∃ n75 : Nat, (wX_filterAndTurn_75 post n75 0 f_machines f_firstHorizon f_horizon f_jobs (nI n) f_depth f_recorded f_wantA f_wantB f_moved f_failed f_level f_pickA f_pickB f_inTree a_releaseOf a_dueOf a_jobOf a_machineOf a_durationOf a_entryA a_entryB a_noted a_wantFrom a_wantTo a_lo a_hi a_pred a_savedLo a_savedHi a_savedPred a_savedA a_savedB a_raised a_cut a_place a_sum a_ect) := by
  subst ev ef
  refine loop_0 (σ := Int32 × Int32 × Int32 × (Nat → Int32) × (Nat → Int32) × (Nat → Int32) × (Nat → Int32) × (Nat → Int32)) (fun m i s => (wX_filterAndTurn_75 post m (nI i) f_machines f_firstHorizon f_horizon f_jobs (nI n) f_depth f_recorded f_wantA f_wantB s.1 s.2.1 f_level f_pickA f_pickB s.2.2.1 a_releaseOf a_dueOf a_jobOf a_machineOf a_durationOf a_entryA a_entryB a_noted a_wantFrom a_wantTo a_lo a_hi s.2.2.2.1 a_savedLo a_savedHi a_savedPred a_savedA a_savedB s.2.2.2.2.1 s.2.2.2.2.2.1 a_place s.2.2.2.2.2.2.1 s.2.2.2.2.2.2.2))
    (fun _ s => js_J n a_machineOf a_durationOf a_lo a_hi a_pred f_moved f_failed s.2.2.2.1 s.1 s.2.1 s.2.2.2.2.1 s.2.2.2.2.2.1) n (f_moved, f_failed, f_inTree, a_pred, a_raised, a_cut, a_sum, a_ect)
    ⟨js_T_rf, js_Q_rf, fun hf0 hR0 => ⟨fun a ha => ?_, fun s hD hC a ha => ?_⟩⟩ ?_ ?_
  · show -1000 ≤ (a_raised a).toInt ∧ (a_raised a).toInt ≤ 1000
    rw [(hra a ha).1]
    have := hR0 a ha; have := hd a ha
    omega
  · show (a_raised a).toInt ≤ s a ∧ s a + (a_durationOf a).toInt ≤ (a_cut a).toInt
    rw [(hra a ha).1, (hra a ha).2]
    exact hC.1 a ha
  · rintro m ⟨mv, fl, inT, pred, ra, cu, sum, ect⟩ J
    exact br_t (nI_le (Nat.le_refl _) (by omega)) (jx_ft113 hn hd hv hf J rfl rfl (fun lo1 hi1 lo' hi' pred' mv' fl' t q M => h lo1 hi1 pred lo' hi' pred' mv' fl' ra cu inT sum ect t q M))
  · rintro m i ⟨mv, fl, inT, pred, ra, cu, sum, ect⟩ hi J K
    have J : js_J n a_machineOf a_durationOf a_lo a_hi a_pred f_moved f_failed pred mv fl ra cu := J
    refine br_f (nI_ge hi (by omega)) (br_c (fun z => ?_) (fun z => ?_))
    · have z' : fl = 0 := z
      have hR1 := hR (js_fl0 J.1.1 z')
      refine jx_findEdges hn hi hd hR1 hPl (jf_c hv J.1.2.1) hv (jf_c hf J.1.1) J (fun pred2 mv2 fl2 ra2 inT2 sum2 ect2 J2 => ?_)
      refine jx_detect hn hi hd hR1 hPl (jf_c hv J2.1.2.1) J2 (fun pred3 mv3 ra3 inT3 sum3 ect3 J3 => ?_)
      refine jx_notLast hn hi hd hR1 hPl J3 (fun cu4 inT4 sum4 ect4 J4 => ?_)
      exact nm_r (nI_1 i) (K (mv3, fl2, inT4, pred3, ra3, cu4, sum4, ect4) J4)
    · exact jx_ft113 hn hd hv hf J rfl rfl (fun lo1 hi1 lo' hi' pred' mv' fl' t q M => h lo1 hi1 pred lo' hi' pred' mv' fl' ra cu inT sum ect t q M)
theorem jx_filterAndTurn {post : SX → Prop} {n : Nat} (hn : n ≤ 8) (hd : js_d n a_durationOf) (hv : f_moved = 0 ∨ f_moved = 1) (hf : f_failed = 0 ∨ f_failed = 1) (hR : f_failed = 0 → js_R n a_durationOf a_lo a_hi)
    (h : ∀ lo' hi' pred' mv' fl' ra cu pl inT sum ect, js_U n a_machineOf a_durationOf a_lo a_hi a_pred f_moved f_failed lo' hi' pred' mv' fl' → post (f_machines, f_firstHorizon, f_horizon, f_jobs, nI n, f_depth, f_recorded, f_wantA, f_wantB, mv', fl', f_level, f_pickA, f_pickB, inT, a_releaseOf, a_dueOf, a_jobOf, a_machineOf, a_durationOf, a_entryA, a_entryB, a_noted, a_wantFrom, a_wantTo, lo', hi', pred', a_savedLo, a_savedHi, a_savedPred, a_savedA, a_savedB, ra, cu, pl, sum, ect)) : (wpX_filterAndTurn post (f_machines, f_firstHorizon, f_horizon, f_jobs, nI n, f_depth, f_recorded, f_wantA, f_wantB, f_moved, f_failed, f_level, f_pickA, f_pickB, f_inTree, a_releaseOf, a_dueOf, a_jobOf, a_machineOf, a_durationOf, a_entryA, a_entryB, a_noted, a_wantFrom, a_wantTo, a_lo, a_hi, a_pred, a_savedLo, a_savedHi, a_savedPred, a_savedA, a_savedB, a_raised, a_cut, a_place, a_sum, a_ect)) := by
  show ∃ n2 : Nat, (wX_filterAndTurn_2 post n2 0 f_machines f_firstHorizon f_horizon f_jobs (nI n) f_depth f_recorded f_wantA f_wantB f_moved f_failed f_level f_pickA f_pickB f_inTree a_releaseOf a_dueOf a_jobOf a_machineOf a_durationOf a_entryA a_entryB a_noted a_wantFrom a_wantTo a_lo a_hi a_pred a_savedLo a_savedHi a_savedPred a_savedA a_savedB a_raised a_cut a_place a_sum a_ect)
  refine loop_0 (σ := Int32 × Int32 × (Nat → Int32) × (Nat → Int32)) (fun m i s => (wX_filterAndTurn_2 post m (nI i) f_machines f_firstHorizon f_horizon f_jobs (nI n) f_depth f_recorded f_wantA f_wantB s.1 s.2.1 f_level f_pickA f_pickB f_inTree a_releaseOf a_dueOf a_jobOf a_machineOf a_durationOf a_entryA a_entryB a_noted a_wantFrom a_wantTo s.2.2.1 s.2.2.2 a_pred a_savedLo a_savedHi a_savedPred a_savedA a_savedB a_raised a_cut a_place a_sum a_ect))
    (fun i s => js_T n a_machineOf a_durationOf a_lo a_hi a_pred f_moved f_failed s.2.2.1 s.2.2.2 a_pred s.1 s.2.1 ∧ js_Q n a_lo a_hi a_pred s.2.2.1 s.2.2.2 a_pred s.1 ∧ js_A n a_durationOf a_lo a_hi a_pred s.1 s.2.1 i 0) n (f_moved, f_failed, a_lo, a_hi) ⟨js_T_rf, js_Q_rf, fun _ _ _ a b _ _ z => by omega⟩ ?_ ?_
  · rintro m ⟨mv, fl, lo, hi⟩ ⟨t, q, A⟩
    have t : js_T n a_machineOf a_durationOf a_lo a_hi a_pred f_moved f_failed lo hi a_pred mv fl := t
    refine br_t (nI_le (Nat.le_refl _) (by omega)) (jx_placeLeaves hn (fun ra cu pl hra hPl => ?_))
    refine jx_ft75 hn hd (jf_c hv t.2.1) (jf_c hf t.1) hPl (fun z => ?_) hra rfl rfl (fun lo1 hi1 pred1 lo' hi' pred' mv' fl' ra' cu' inT sum ect t' q' M' => ?_)
    · have z0 := js_fl0 t.1 z
      exact ((t.2.2 z0 (hR z0)).2 z).1
    · refine h lo' hi' pred' mv' fl' ra' cu' pl inT sum ect ⟨lo1, hi1, pred1, js_T_tr t t', M', js_Q_tr q q' t'.2.1, fun e1 e2 => ?_⟩
      exact A (js_fl0 t'.2.1 e1) (js_fl0 t'.1 e2)
  · rintro m b ⟨mv, fl, lo, hi⟩ hb ⟨t, q, A⟩ K
    have vb : vp_in (nI b) 8 := vp_in_nI (by omega) (by omega)
    have cb : (nI b).toNatClampNeg = b := nI_clamp (by omega)
    refine br_f (nI_ge hb (by omega)) ?_
    refine loop_0 (σ := Int32 × Int32 × (Nat → Int32) × (Nat → Int32)) (fun m' i s => (wX_filterAndTurn_12 post (wX_filterAndTurn_2 post m) (nI b) m' (nI i) f_machines f_firstHorizon f_horizon f_jobs (nI n) f_depth f_recorded f_wantA f_wantB s.1 s.2.1 f_level f_pickA f_pickB f_inTree a_releaseOf a_dueOf a_jobOf a_machineOf a_durationOf a_entryA a_entryB a_noted a_wantFrom a_wantTo s.2.2.1 s.2.2.2 a_pred a_savedLo a_savedHi a_savedPred a_savedA a_savedB a_raised a_cut a_place a_sum a_ect))
      (fun i s => js_T n a_machineOf a_durationOf a_lo a_hi a_pred f_moved f_failed s.2.2.1 s.2.2.2 a_pred s.1 s.2.1 ∧ js_Q n a_lo a_hi a_pred s.2.2.1 s.2.2.2 a_pred s.1 ∧ js_A n a_durationOf a_lo a_hi a_pred s.1 s.2.1 b i) n (mv, fl, lo, hi) ⟨t, q, A⟩ ?_ ?_
    · rintro m' ⟨mv, fl, lo, hi⟩ ⟨t, q, A⟩
      exact br_t (nI_le (Nat.le_refl _) (by omega)) (nm_r (nI_1 b) (K (mv, fl, lo, hi) ⟨t, q, fun e1 e2 e3 x y hx hy z => A e1 e2 e3 x y hx hy (by omega)⟩))
    · rintro m' a ⟨mv, fl, lo, hi⟩ ha ⟨t, q, A⟩ K'
      show (wX_filterAndTurn_12 post (wX_filterAndTurn_2 post m) (nI b) (m' + 1) (nI a) f_machines f_firstHorizon f_horizon f_jobs (nI n) f_depth f_recorded f_wantA f_wantB mv fl f_level f_pickA f_pickB f_inTree a_releaseOf a_dueOf a_jobOf a_machineOf a_durationOf a_entryA a_entryB a_noted a_wantFrom a_wantTo lo hi a_pred a_savedLo a_savedHi a_savedPred a_savedA a_savedB a_raised a_cut a_place a_sum a_ect)
      have t : js_T n a_machineOf a_durationOf a_lo a_hi a_pred f_moved f_failed lo hi a_pred mv fl := t
      have q : js_Q n a_lo a_hi a_pred lo hi a_pred mv := q
      have A : js_A n a_durationOf a_lo a_hi a_pred mv fl b a := A
      have va : vp_in (nI a) 8 := vp_in_nI (by omega) (by omega)
      have ca : (nI a).toNatClampNeg = a := nI_clamp (by omega)
      refine br_f (nI_ge ha (by omega)) (And.intro vb ?_)
      rw [cb, ca]
      refine br_c (fun z => nm_r (nI_1 a) (K' (mv, fl, lo, hi) ⟨t, q, fun e1 e2 e3 x y hx hy w hbit => ?_⟩)) (fun z => And.intro va (And.intro va (And.intro vb ?_)))
      · by_cases c : y = b ∧ x = a
        · have := (jb_test (by omega) _).mp z
          rw [c.1, c.2, this] at hbit
          exact absurd hbit (by decide)
        · exact A e1 e2 e3 x y hx hy (by omega) hbit
      · have hbit : bt (a_pred b) a = true := ts_nf fun x => z ((jb_test (by omega) _).mpr x)
        refine jx_narrow (by omega) (jf_c hv t.2.1) (jf_c hf t.1) (fun lo' hi' mv' fl' N => ?_)
        refine nm_r (nI_1 a) (K' (mv', fl', lo', hi') ⟨js_T_narrow hd hb t N (fun hf0 hfl hR0 => ?_), js_Q_narrow q N, fun e1 e2 e3 x y hx hy w hxy => ?_⟩)
        · have R1 := ((t.2.2 hf0 hR0).2 hfl).1
          have r1 := R1 a ha
          have d1 := hd a ha
          rw [ja_add (by omega) (by omega)]
          refine ⟨by omega, fun s hD hC => ?_⟩
          have C1 := ((t.2.2 hf0 hR0).1 s hD hC).2
          have := C1.1 a ha
          have := C1.1 b hb
          have := C1.2 a b ha hb hbit
          omega
        · have e1' : mv' = 0 := e1
          have e2' : fl' = 0 := e2
          have hfl : fl = 0 := by
            rcases N.2.2.2 with ⟨e, _⟩ | ⟨e, _⟩
            · rw [← e]; exact e2'
            · rw [e] at e2'; exact absurd e2' ja_10
          rcases N.2.2.1 with ⟨e, c1, _⟩ | ⟨e, _⟩
          · have hmv : mv = 0 := by rw [← e]; exact e1'
            by_cases c : y = b ∧ x = a
            · have r1 := e3 a ha
              have d1 := hd a ha
              rw [(q hmv a ha).1, (q hmv b hb).1, ja_le, ja_add (by omega) (by omega)] at c1
              rw [c.1, c.2]; exact c1
            · exact A hmv hfl e3 x y hx hy (by omega) hxy
          · rw [e] at e1'; exact absurd e1' ja_10
end
end
section
/-! propagate -/
def js_X (n : Nat) (d lo hi pred : Nat → Int32) : Prop := ∀ a b, a < n → b < n → bt (pred b) a = true → (lo a).toInt + (d a).toInt ≤ (lo b).toInt ∧ (hi a).toInt ≤ (hi b).toInt - (d b).toInt
def js_S (n : Nat) (M d lo hi pred : Nat → Int32) (fl : Int32) (lo' hi' pred' : Nat → Int32) (fl' : Int32) : Prop :=
  (fl' = fl ∨ fl' = 1) ∧ (fl = 0 → js_R n d lo hi → (∀ s, js_D n M d s → js_C n d lo hi pred s → fl' = 0 ∧ js_C n d lo' hi' pred' s) ∧ (fl' = 0 → js_R n d lo' hi' ∧ js_G n lo hi pred lo' hi' pred'))
theorem js_S_T {n : Nat} {M d lo hi pred lo' hi' pred' : Nat → Int32} {mv fl mv' fl' : Int32} (h : js_T n M d lo hi pred mv fl lo' hi' pred' mv' fl') : js_S n M d lo hi pred fl lo' hi' pred' fl' :=
  ⟨h.1, fun a b => ⟨(h.2.2 a b).1, fun c => ⟨((h.2.2 a b).2 c).1, ((h.2.2 a b).2 c).2.1⟩⟩⟩
theorem js_S_rf {n : Nat} {M d lo hi pred : Nat → Int32} {fl : Int32} : js_S n M d lo hi pred fl lo hi pred fl := js_S_T (mv := 0) js_T_rf
theorem js_S_tr {n : Nat} {M d lo hi pred lo' hi' pred' lo'' hi'' pred'' : Nat → Int32} {fl fl' fl'' : Int32}
    (h : js_S n M d lo hi pred fl lo' hi' pred' fl') (k : js_S n M d lo' hi' pred' fl' lo'' hi'' pred'' fl'') : js_S n M d lo hi pred fl lo'' hi'' pred'' fl'' := by
  obtain ⟨h1, h3⟩ := h
  obtain ⟨k1, k3⟩ := k
  refine ⟨?_, fun hf hR => ⟨fun s hD hC => ?_, fun hf'' => ?_⟩⟩
  · rcases k1 with k1 | k1
    · rw [k1]; exact h1
    · exact Or.inr k1
  · obtain ⟨hf', hC'⟩ := (h3 hf hR).1 s hD hC
    exact (k3 hf' ((h3 hf hR).2 hf').1).1 s hD hC'
  · have hf' : fl' = 0 := js_fl0 k1 hf''
    obtain ⟨a1, a2⟩ := (h3 hf hR).2 hf'
    obtain ⟨b1, b2⟩ := (k3 hf' a1).2 hf''
    exact ⟨b1, js_G_tr a2 b2⟩
theorem ja_nn (x : Int32) : -(-x) = x := Int32.neg_neg
theorem js_round {n : Nat} {M d lo hi pred lo1 hi1 pred1 lo2 hi2 pred2 lo3 hi3 pred3 : Nat → Int32} {mv fl fl1 mv2 fl2 mv3 fl3 : Int32} (hd : js_d n d)
    (t : js_T n M d lo hi pred mv fl lo1 hi1 pred1 mv fl1) (u1 : js_U n M d lo1 hi1 pred1 mv fl1 lo2 hi2 pred2 mv2 fl2) (u2 : js_U n M d lo2 hi2 pred2 mv2 fl2 lo3 hi3 pred3 mv3 fl3) :
    js_T n M d lo hi pred mv fl lo3 hi3 pred3 mv3 fl3 ∧ (fl = 0 → js_R n d lo hi → mv3 = 0 → fl3 = 0 → js_X n d lo3 hi3 pred3) := by
  obtain ⟨loa, hia, preda, ta, ma, qa, Aa⟩ := u1
  obtain ⟨lob, hib, predb, tb, mb, qb, Ab⟩ := u2
  have t3 := js_T_mir hd ma tb mb
  refine ⟨js_T_tr t (js_T_tr ta t3), fun hf hR hz hf3 => ?_⟩
  have z2 : mv2 = 0 := js_fl0 tb.2.1 hz
  have f2 : fl2 = 0 := js_fl0 tb.1 hf3
  have f1 : fl1 = 0 := js_fl0 ta.1 f2
  have R1 := ((t.2.2 hf hR).2 f1).1
  have Ra := ((ta.2.2 f1 R1).2 f2).1
  have R2 := js_M_R hd ma Ra
  have A1 := Aa z2 f2 R1
  have A2 := Ab hz hf3 R2
  have q1 := qa z2
  have q2 := qb hz
  have el : ∀ a, a < n → lo3 a = lo1 a := fun a ha => by rw [(mb a ha).1, (q2 a ha).2.1, (ma a ha).2.1, ja_nn, (q1 a ha).1]
  have eh : ∀ a, a < n → hi3 a = hi1 a := fun a ha => by rw [(mb a ha).2.1, (q2 a ha).1, (ma a ha).1, ja_nn, (q1 a ha).2.1]
  have eb : ∀ a b, a < n → b < n → bt (pred3 a) b = bt (pred1 a) b := fun a b ha hb => by rw [(mb a ha).2.2 b hb, (q2 b hb).2.2 a ha, (ma b hb).2.2 a ha, (q1 a ha).2.2 b hb]
  intro a b ha hb hbit
  rw [eb b a hb ha] at hbit
  rw [el a ha, el b hb, eh a ha, eh b hb]
  refine ⟨A1 a b ha hb (Or.inl hb) hbit, ?_⟩
  have h2 : bt (pred2 a) b = true := by rw [(ma a ha).2.2 b hb, (q1 b hb).2.2 a ha]; exact hbit
  have := A2 b a hb ha (Or.inl ha) h2
  have x1 := js_M_t hd ma Ra a ha
  have x2 := js_M_t hd ma Ra b hb
  rw [(q1 a ha).2.1] at x1
  rw [(q1 b hb).2.1] at x2
  omega
section
variable {f_machines f_firstHorizon f_horizon f_jobs f_depth f_recorded f_wantA f_wantB f_level f_pickA f_pickB : Int32} {a_releaseOf a_dueOf a_jobOf a_machineOf a_durationOf a_entryA a_entryB a_noted a_wantFrom a_wantTo a_savedLo a_savedHi a_savedPred a_savedA a_savedB : Nat → Int32}
theorem jx_prop7 {post : Int32 → SX → Prop} {n : Nat} {L H P : Nat → Int32} {f : Int32} (hn : n ≤ 8) (hd : js_d n a_durationOf) (hf : f = 0 ∨ f = 1) (hR : f = 0 → js_R n a_durationOf L H)
    (h : ∀ r lo hi pred mv fl ra cu pl inT sum ect, js_S n a_machineOf a_durationOf L H P f lo hi pred fl → (fl = 0 → js_X n a_durationOf lo hi pred) → ((r = 1 ∧ fl = 0) ∨ (r = 0 ∧ fl = 1)) → post r (f_machines, f_firstHorizon, f_horizon, f_jobs, nI n, f_depth, f_recorded, f_wantA, f_wantB, mv, fl, f_level, f_pickA, f_pickB, inT, a_releaseOf, a_dueOf, a_jobOf, a_machineOf, a_durationOf, a_entryA, a_entryB, a_noted, a_wantFrom, a_wantTo, lo, hi, pred, a_savedLo, a_savedHi, a_savedPred, a_savedA, a_savedB, ra, cu, pl, sum, ect)) :
    ∀ (N x : Nat) (lo hi pred : Nat → Int32) (mv fl : Int32) (ra cu pl : Nat → Int32) (inT : Int32) (sum ect : Nat → Int32), x ≤ 1000 → 1 ≤ N → (mv = 0 ∨ mv = 1) →
      js_S n a_machineOf a_durationOf L H P f lo hi pred fl → (mv = 0 → fl = 0 → js_X n a_durationOf lo hi pred) → (mv = 1 → fl = 0 → js_F n lo hi pred + x < 1000 ∧ js_F n lo hi pred + 2 ≤ N) →
      (wX_propagate_7 post N (nI x) f_machines f_firstHorizon f_horizon f_jobs (nI n) f_depth f_recorded f_wantA f_wantB mv fl f_level f_pickA f_pickB inT a_releaseOf a_dueOf a_jobOf a_machineOf a_durationOf a_entryA a_entryB a_noted a_wantFrom a_wantTo lo hi pred a_savedLo a_savedHi a_savedPred a_savedA a_savedB ra cu pl sum ect) := by
  intro N
  induction N with
  | zero => intro x lo hi pred mv fl ra cu pl inT sum ect _ h1; omega
  | succ N ih =>
    intro x lo hi pred mv fl ra cu pl inT sum ect hx _ hm S X B
    have hb : fl = 0 ∨ fl = 1 := jf_c hf S.1
    have out : (fl = 0 → js_X n a_durationOf lo hi pred) → (wX_propagate_51 post f_machines f_firstHorizon f_horizon f_jobs (nI n) f_depth f_recorded f_wantA f_wantB mv fl f_level f_pickA f_pickB inT a_releaseOf a_dueOf a_jobOf a_machineOf a_durationOf a_entryA a_entryB a_noted a_wantFrom a_wantTo lo hi pred a_savedLo a_savedHi a_savedPred a_savedA a_savedB ra cu pl sum ect) := by
      intro X'
      refine br_c (fun z => h 1 lo hi pred mv fl ra cu pl inT sum ect S X' (Or.inl ⟨rfl, z⟩)) (fun z => h 0 lo hi pred mv fl ra cu pl inT sum ect S X' (Or.inr ⟨rfl, ?_⟩))
      rcases hb with e | e
      · exact absurd e z
      · exact e
    rcases hb with e0 | e0
    · rcases hm with m0 | m1
      · refine br_c (fun _ => out (X m0)) (fun _ => br_t m0 (out (X m0)))
      · have b := B m1 e0
        refine br_f (nI_ge (b := 1000) (by omega) (by omega)) (br_f (by rw [m1]; exact ja_10) (br_t e0 ?_))
        have f0 : f = 0 := js_fl0 S.1 e0
        have R0 := ((S.2 f0 (hR f0)).2 e0).1
        refine jx_closeOrder hn hd (Or.inl e0) (fun pred1 fl1 t1 => ?_)
        have R1 : fl1 = 0 → js_R n a_durationOf lo hi := fun _ => R0
        refine jx_filterAndTurn hn hd (Or.inl rfl) (jf_c (Or.inl e0) t1.1) R1 (fun lo2 hi2 pred2 mv2 fl2 ra2 cu2 pl2 inT2 sum2 ect2 u1 => ?_)
        have R2 : fl2 = 0 → js_R n a_durationOf lo2 hi2 := fun z => by
          obtain ⟨loa, hia, preda, ta, ma, _⟩ := u1
          exact js_M_R hd ma ((ta.2.2 (js_fl0 ta.1 z) R0).2 z).1
        have fb : ∃ mvx flx, (mv2 = mvx ∨ mv2 = 1) ∧ (mvx = 0 ∨ mvx = 1) ∧ (fl2 = flx ∨ fl2 = 1) ∧ (flx = 0 ∨ flx = 1) := by
          obtain ⟨loa, hia, preda, ta, _⟩ := u1
          exact ⟨0, fl1, ta.2.1, Or.inl rfl, ta.1, jf_c (Or.inl e0) t1.1⟩
        obtain ⟨mvx, flx, w1, w2, w3, w4⟩ := fb
        refine jx_filterAndTurn hn hd (jf_c w2 w1) (jf_c w4 w3) R2 (fun lo3 hi3 pred3 mv3 fl3 ra3 cu3 pl3 inT3 sum3 ect3 u2 => ?_)
        obtain ⟨T, XX⟩ := js_round hd t1 u1 u2
        refine nm_r (nI_1 x) (ih (x + 1) lo3 hi3 pred3 mv3 fl3 ra3 cu3 pl3 inT3 sum3 ect3 (by omega) (by omega) (jf_c (Or.inl rfl) T.2.1) (js_S_tr S (js_S_T T)) (fun c1 c2 => XX e0 R0 c1 c2) (fun c1 c2 => ?_))
        rcases ((T.2.2 e0 R0).2 c2).2.2 with y | y
        · rw [c1] at y; exact absurd y ja_10
        · omega
    · have X' : fl = 0 → js_X n a_durationOf lo hi pred := fun z => by rw [e0] at z; exact absurd z ja_10
      refine br_c (fun _ => out X') (fun _ => br_c (fun _ => out X') (fun _ => br_f (by rw [e0]; exact ja_10) (out X')))
end
section
variable {f_machines f_firstHorizon f_horizon f_jobs f_depth f_recorded f_wantA f_wantB f_moved f_failed f_level f_pickA f_pickB f_inTree : Int32} {a_releaseOf a_dueOf a_jobOf a_machineOf a_durationOf a_entryA a_entryB a_noted a_wantFrom a_wantTo a_lo a_hi a_pred a_savedLo a_savedHi a_savedPred a_savedA a_savedB a_raised a_cut a_place a_sum a_ect : Nat → Int32}
theorem jx_propagate {post : Int32 → SX → Prop} {n : Nat} (hn : n ≤ 8) (hd : js_d n a_durationOf) (hf : f_failed = 0 ∨ f_failed = 1) (hR : f_failed = 0 → js_R n a_durationOf a_lo a_hi) (hF : f_failed = 0 → js_F n a_lo a_hi a_pred < 1000)
    (h : ∀ r lo hi pred mv fl ra cu pl inT sum ect, js_S n a_machineOf a_durationOf a_lo a_hi a_pred f_failed lo hi pred fl → (fl = 0 → js_X n a_durationOf lo hi pred) → ((r = 1 ∧ fl = 0) ∨ (r = 0 ∧ fl = 1)) → post r (f_machines, f_firstHorizon, f_horizon, f_jobs, nI n, f_depth, f_recorded, f_wantA, f_wantB, mv, fl, f_level, f_pickA, f_pickB, inT, a_releaseOf, a_dueOf, a_jobOf, a_machineOf, a_durationOf, a_entryA, a_entryB, a_noted, a_wantFrom, a_wantTo, lo, hi, pred, a_savedLo, a_savedHi, a_savedPred, a_savedA, a_savedB, ra, cu, pl, sum, ect)) : (wpX_propagate post (f_machines, f_firstHorizon, f_horizon, f_jobs, nI n, f_depth, f_recorded, f_wantA, f_wantB, f_moved, f_failed, f_level, f_pickA, f_pickB, f_inTree, a_releaseOf, a_dueOf, a_jobOf, a_machineOf, a_durationOf, a_entryA, a_entryB, a_noted, a_wantFrom, a_wantTo, a_lo, a_hi, a_pred, a_savedLo, a_savedHi, a_savedPred, a_savedA, a_savedB, a_raised, a_cut, a_place, a_sum, a_ect)) := by
  show ∃ n7 : Nat, (wX_propagate_7 post n7 0 f_machines f_firstHorizon f_horizon f_jobs (nI n) f_depth f_recorded f_wantA f_wantB 1 f_failed f_level f_pickA f_pickB f_inTree a_releaseOf a_dueOf a_jobOf a_machineOf a_durationOf a_entryA a_entryB a_noted a_wantFrom a_wantTo a_lo a_hi a_pred a_savedLo a_savedHi a_savedPred a_savedA a_savedB a_raised a_cut a_place a_sum a_ect)
  refine ⟨js_F n a_lo a_hi a_pred + 2, jx_prop7 hn hd hf hR h _ 0 a_lo a_hi a_pred 1 f_failed a_raised a_cut a_place f_inTree a_sum a_ect (by omega) (by omega) (Or.inr rfl) js_S_rf (fun z => absurd z ja_10) (fun _ z => ?_)⟩
  have := hF z
  omega
end
end
section
/-! load -/
def jl_B (dp : Nat) (jobOf entryA entryB : Nat → Int32) (a b : Nat) : Prop := (a < b ∧ jobOf a = jobOf b) ∨ (∃ e, e < dp ∧ entryA e = nI a ∧ entryB e = nI b)
def jl_W (n : Nat) (d rel due jobOf from' to' : Nat → Int32) (cap : Int32) (lo hi : Nat → Int32) (fl : Int32) : Prop :=
  (∀ a, a < n → lo a = jt_mx (rel (jobOf a).toNatClampNeg) (from' a) ∧ hi a = jt_mn (jt_mn (due (jobOf a).toNatClampNeg) cap) (to' a + d a)) ∧
  ((fl = 0 ∧ ∀ a, a < n → lo a + d a ≤ hi a) ∨ (fl = 1 ∧ ¬ ∀ a, a < n → lo a + d a ≤ hi a))
theorem jl_W_cg {n : Nat} {d rel due jobOf from' to' : Nat → Int32} {cap : Int32} {lo hi : Nat → Int32} {fl fl' : Int32} {l h : Int32} (W : jl_W n d rel due jobOf from' to' cap lo hi fl)
    (el : l = jt_mx (rel (jobOf n).toNatClampNeg) (from' n)) (eh : h = jt_mn (jt_mn (due (jobOf n).toNatClampNeg) cap) (to' n + d n))
    (ef : (l + d n ≤ h ∧ fl' = fl) ∨ (¬ l + d n ≤ h ∧ fl' = 1)) : jl_W (n + 1) d rel due jobOf from' to' cap (upd lo n l) (upd hi n h) fl' := by
  have lt : ∀ a, a < n → upd lo n l a = lo a ∧ upd hi n h a = hi a := fun a ha => ⟨pk_un (by omega), pk_un (by omega)⟩
  refine ⟨fun a ha => ?_, ?_⟩
  · by_cases z : a = n
    · subst z; rw [pk_us, pk_us]; exact ⟨el, eh⟩
    · rw [(lt a (by omega)).1, (lt a (by omega)).2]; exact W.1 a (by omega)
  · rcases ef with ⟨c, e⟩ | ⟨c, e⟩
    · rcases W.2 with ⟨w1, w2⟩ | ⟨w1, w2⟩
      · refine Or.inl ⟨e.trans w1, fun a ha => ?_⟩
        by_cases z : a = n
        · subst z; rw [pk_us, pk_us]; exact c
        · rw [(lt a (by omega)).1, (lt a (by omega)).2]; exact w2 a (by omega)
      · refine Or.inr ⟨e.trans w1, fun q => w2 fun a ha => ?_⟩
        have := q a (by omega)
        rw [(lt a ha).1, (lt a ha).2] at this; exact this
    · refine Or.inr ⟨e, fun q => c ?_⟩
      have := q n (by omega)
      rw [pk_us, pk_us] at this; exact this
section
variable {f_machines f_firstHorizon f_horizon f_jobs f_recorded f_wantA f_wantB f_moved f_failed f_level f_pickA f_pickB f_inTree : Int32} {a_releaseOf a_dueOf a_jobOf a_machineOf a_durationOf a_entryA a_entryB a_noted a_wantFrom a_wantTo a_lo a_hi a_pred a_savedLo a_savedHi a_savedPred a_savedA a_savedB a_raised a_cut a_place a_sum a_ect : Nat → Int32}
theorem jx_load189 {post : SX → Prop} {n dp : Nat} (hn : n ≤ 8) (hdp : dp ≤ 12) (hT : ∀ e, e < dp → a_entryA e = -5 ∨ ∃ a b, a < n ∧ b < n ∧ a_entryA e = nI a ∧ a_entryB e = nI b)
    (hW : f_wantA = -5 ∨ ∃ a b, a < n ∧ b < n ∧ f_wantA = nI a ∧ f_wantB = nI b) (hp : ∀ a b, a < n → b < n → (bt (a_pred b) a = true ↔ a < b ∧ a_jobOf a = a_jobOf b))
    (h : ∀ pred, (∀ a b, a < n → b < n → (bt (pred b) a = true ↔ (jl_B dp a_jobOf a_entryA a_entryB a b ∨ (f_wantA = nI a ∧ f_wantB = nI b)))) → post (f_machines, f_firstHorizon, f_horizon, f_jobs, nI n, nI dp, f_recorded, f_wantA, f_wantB, f_moved, f_failed, f_level, f_pickA, f_pickB, f_inTree, a_releaseOf, a_dueOf, a_jobOf, a_machineOf, a_durationOf, a_entryA, a_entryB, a_noted, a_wantFrom, a_wantTo, a_lo, a_hi, pred, a_savedLo, a_savedHi, a_savedPred, a_savedA, a_savedB, a_raised, a_cut, a_place, a_sum, a_ect)) :
    ∃ n189 : Nat, (wX_load_189 post f_machines f_firstHorizon f_horizon f_jobs (nI n) (nI dp) f_recorded f_wantA f_wantB f_moved f_failed f_level f_pickA f_pickB f_inTree n189 0 a_releaseOf a_dueOf a_jobOf a_machineOf a_durationOf a_entryA a_entryB a_noted a_wantFrom a_wantTo a_lo a_hi a_pred a_savedLo a_savedHi a_savedPred a_savedA a_savedB a_raised a_cut a_place a_sum a_ect) := by
  have n5 : ∀ a, a < 8 → ¬ nI a = -5 := by decide +kernel
  refine loop_0 (σ := Nat → Int32) (fun m i p => (wX_load_189 post f_machines f_firstHorizon f_horizon f_jobs (nI n) (nI dp) f_recorded f_wantA f_wantB f_moved f_failed f_level f_pickA f_pickB f_inTree m (nI i) a_releaseOf a_dueOf a_jobOf a_machineOf a_durationOf a_entryA a_entryB a_noted a_wantFrom a_wantTo a_lo a_hi p a_savedLo a_savedHi a_savedPred a_savedA a_savedB a_raised a_cut a_place a_sum a_ect))
    (fun i p => ∀ a b, a < n → b < n → (bt (p b) a = true ↔ jl_B i a_jobOf a_entryA a_entryB a b)) dp a_pred (fun a b ha hb => (hp a b ha hb).trans ⟨Or.inl, fun q => by rcases q with q | ⟨e, he, _⟩; exact q; omega⟩) ?_ ?_
  · intro m p hp'
    refine br_t (nI_le (Nat.le_refl _) (by omega)) (br_c (fun z => h p fun a b ha hb => ?_) (fun z => ?_))
    · refine (hp' a b ha hb).trans ⟨Or.inl, fun q => ?_⟩
      rcases q with q | q
      · exact q
      · exact absurd (q.1.symm.trans z) (n5 a (by omega))
    · rcases hW with y | ⟨x, y, hx, hy, e1, e2⟩
      · exact absurd y z
      · have vy : vp_in f_wantB 8 := by rw [e2]; exact vp_in_nI (by omega) (by omega)
        have cy : f_wantB.toNatClampNeg = y := by rw [e2]; exact nI_clamp (by omega)
        refine And.intro vy (And.intro vy (nm_e (h _ fun a b ha hb => ?_)))
        rw [cy, e1, e2, nI_eq (by omega) (by omega), nI_eq (by omega) (by omega)]
        by_cases zb : b = y
        · subst zb
          rw [pk_us, jb_set (by omega) (by omega), Bool.or_eq_true, decide_eq_true_eq, hp' a b ha hb]
          exact ⟨fun q => q.elim Or.inl (fun w => Or.inr ⟨w.symm, rfl⟩), fun q => q.elim Or.inl (fun w => Or.inr w.1.symm)⟩
        · rw [pk_un zb, hp' a b ha hb]
          exact ⟨Or.inl, fun q => q.elim id (fun w => absurd w.2.symm zb)⟩
  · intro m e p he hp' K
    have ve : vp_in (nI e) 12 := vp_in_nI (by omega) (by omega)
    have ce : (nI e).toNatClampNeg = e := nI_clamp (by omega)
    have up : ∀ a b, jl_B (e + 1) a_jobOf a_entryA a_entryB a b ↔ (jl_B e a_jobOf a_entryA a_entryB a b ∨ (a_entryA e = nI a ∧ a_entryB e = nI b)) := by
      intro a b
      constructor
      · rintro (q | ⟨e', he', q⟩)
        · exact Or.inl (Or.inl q)
        · by_cases z : e' = e
          · subst z; exact Or.inr q
          · exact Or.inl (Or.inr ⟨e', by omega, q⟩)
      · rintro ((q | ⟨e', he', q⟩) | q)
        · exact Or.inl q
        · exact Or.inr ⟨e', by omega, q⟩
        · exact Or.inr ⟨e, by omega, q⟩
    refine br_f (nI_ge he (by omega)) (And.intro ve ?_)
    rw [ce]
    refine br_c (fun z => nm_r (nI_1 e) (K p fun a b ha hb => ?_)) (fun z => ?_)
    · rw [up, hp' a b ha hb]
      exact ⟨Or.inl, fun q => q.elim id (fun w => absurd (w.1.symm.trans z) (n5 a (by omega)))⟩
    · rcases hT e he with y | ⟨x, y, hx, hy, e1, e2⟩
      · exact absurd y z
      · have vy : vp_in (a_entryB e) 8 := by rw [e2]; exact vp_in_nI (by omega) (by omega)
        have cy : (a_entryB e).toNatClampNeg = y := by rw [e2]; exact nI_clamp (by omega)
        refine And.intro ve (And.intro vy (And.intro ve (And.intro vy (nm_e (nm_r (nI_1 e) (K _ fun a b ha hb => ?_))))))
        rw [up, cy, e1, e2, nI_eq (by omega) (by omega), nI_eq (by omega) (by omega)]
        by_cases zb : b = y
        · subst zb
          rw [pk_us, jb_set (by omega) (by omega), Bool.or_eq_true, decide_eq_true_eq, hp' a b ha hb]
          exact ⟨fun q => q.elim Or.inl (fun w => Or.inr ⟨w.symm, rfl⟩), fun q => q.elim Or.inl (fun w => Or.inr w.1.symm)⟩
        · rw [pk_un zb, hp' a b ha hb]
          exact ⟨Or.inl, fun q => q.elim id (fun w => absurd w.2.symm zb)⟩
theorem jx_load {post : SX → Prop} {n dp : Nat} {cap : Int32} (hn : n ≤ 8) (hdp : dp ≤ 12) (hT : ∀ e, e < dp → a_entryA e = -5 ∨ ∃ a b, a < n ∧ b < n ∧ a_entryA e = nI a ∧ a_entryB e = nI b)
    (hW : f_wantA = -5 ∨ ∃ a b, a < n ∧ b < n ∧ f_wantA = nI a ∧ f_wantB = nI b) (hj : ∀ a, a < n → ∃ j, j < 4 ∧ a_jobOf a = nI j)
    (h : ∀ lo hi pred fl, jl_W n a_durationOf a_releaseOf a_dueOf a_jobOf a_wantFrom a_wantTo cap lo hi fl → (∀ a b, a < n → b < n → (bt (pred b) a = true ↔ (jl_B dp a_jobOf a_entryA a_entryB a b ∨ (f_wantA = nI a ∧ f_wantB = nI b)))) → post (f_machines, f_firstHorizon, f_horizon, f_jobs, nI n, nI dp, f_recorded, f_wantA, f_wantB, f_moved, fl, 0, f_pickA, f_pickB, f_inTree, a_releaseOf, a_dueOf, a_jobOf, a_machineOf, a_durationOf, a_entryA, a_entryB, a_noted, a_wantFrom, a_wantTo, lo, hi, pred, a_savedLo, a_savedHi, a_savedPred, a_savedA, a_savedB, a_raised, a_cut, a_place, a_sum, a_ect)) : (wpX_load post (f_machines, f_firstHorizon, f_horizon, f_jobs, nI n, nI dp, f_recorded, f_wantA, f_wantB, f_moved, f_failed, f_level, f_pickA, f_pickB, f_inTree, a_releaseOf, a_dueOf, a_jobOf, a_machineOf, a_durationOf, a_entryA, a_entryB, a_noted, a_wantFrom, a_wantTo, a_lo, a_hi, a_pred, a_savedLo, a_savedHi, a_savedPred, a_savedA, a_savedB, a_raised, a_cut, a_place, a_sum, a_ect) cap) := by
  show ∃ n12 : Nat, (wX_load_12 post cap f_machines f_firstHorizon f_horizon f_jobs (nI n) (nI dp) f_recorded f_wantA f_wantB f_moved 0 f_pickA f_pickB f_inTree n12 0 0 a_releaseOf a_dueOf a_jobOf a_machineOf a_durationOf a_entryA a_entryB a_noted a_wantFrom a_wantTo a_lo a_hi a_pred a_savedLo a_savedHi a_savedPred a_savedA a_savedB a_raised a_cut a_place a_sum a_ect)
  refine loop_0 (σ := Int32 × (Nat → Int32) × (Nat → Int32) × (Nat → Int32)) (fun m i s => (wX_load_12 post cap f_machines f_firstHorizon f_horizon f_jobs (nI n) (nI dp) f_recorded f_wantA f_wantB f_moved 0 f_pickA f_pickB f_inTree m (nI i) s.1 a_releaseOf a_dueOf a_jobOf a_machineOf a_durationOf a_entryA a_entryB a_noted a_wantFrom a_wantTo s.2.1 s.2.2.1 s.2.2.2 a_savedLo a_savedHi a_savedPred a_savedA a_savedB a_raised a_cut a_place a_sum a_ect))
    (fun i s => jl_W i a_durationOf a_releaseOf a_dueOf a_jobOf a_wantFrom a_wantTo cap s.2.1 s.2.2.1 s.1 ∧ ∀ b, b < i → ∀ a, a < 32 → (bt (s.2.2.2 b) a = true ↔ a < b ∧ a_jobOf a = a_jobOf b)) n (0, a_lo, a_hi, a_pred)
    ⟨⟨fun a ha => by omega, Or.inl ⟨rfl, fun a ha => by omega⟩⟩, fun b hb => by omega⟩ ?_ ?_
  · rintro m ⟨fl, lo, hi, pred⟩ ⟨W, B⟩
    exact br_t (nI_le (Nat.le_refl _) (by omega)) (jx_load189 hn hdp hT hW (fun a b ha hb => B b hb a (by omega)) (fun pred' B' => h lo hi pred' fl W B'))
  · rintro m i ⟨fl, lo, hi, pred⟩ hi' ⟨W, B⟩ K
    show (wX_load_12 post cap f_machines f_firstHorizon f_horizon f_jobs (nI n) (nI dp) f_recorded f_wantA f_wantB f_moved 0 f_pickA f_pickB f_inTree (m + 1) (nI i) fl a_releaseOf a_dueOf a_jobOf a_machineOf a_durationOf a_entryA a_entryB a_noted a_wantFrom a_wantTo lo hi pred a_savedLo a_savedHi a_savedPred a_savedA a_savedB a_raised a_cut a_place a_sum a_ect)
    have W : jl_W i a_durationOf a_releaseOf a_dueOf a_jobOf a_wantFrom a_wantTo cap lo hi fl := W
    have vi : vp_in (nI i) 8 := vp_in_nI (by omega) (by omega)
    have ci : (nI i).toNatClampNeg = i := nI_clamp (by omega)
    obtain ⟨j, hj4, ej⟩ := hj i hi'
    have vj : vp_in (a_jobOf i) 4 := by rw [ej]; exact vp_in_nI hj4 (by omega)
    have hb : fl = 0 ∨ fl = 1 := by rcases W.2 with ⟨w, _⟩ | ⟨w, _⟩; exact Or.inl w; exact Or.inr w
    have inner : ∀ l hh fl', jl_W (i + 1) a_durationOf a_releaseOf a_dueOf a_jobOf a_wantFrom a_wantTo cap l hh fl' →
        ∃ n143 : Nat, (wX_load_143 post (wX_load_12 post cap f_machines f_firstHorizon f_horizon f_jobs (nI n) (nI dp) f_recorded f_wantA f_wantB f_moved 0 f_pickA f_pickB f_inTree m) cap (nI i) f_machines f_firstHorizon f_horizon f_jobs (nI n) (nI dp) f_recorded f_wantA f_wantB f_moved fl' 0 f_pickA f_pickB f_inTree n143 0 a_releaseOf a_dueOf a_jobOf a_machineOf a_durationOf a_entryA a_entryB a_noted a_wantFrom a_wantTo l hh (upd pred i 0) a_savedLo a_savedHi a_savedPred a_savedA a_savedB a_raised a_cut a_place a_sum a_ect) := by
      intro l hh fl' W'
      refine loop_0 (σ := Nat → Int32) (fun m' a p => (wX_load_143 post (wX_load_12 post cap f_machines f_firstHorizon f_horizon f_jobs (nI n) (nI dp) f_recorded f_wantA f_wantB f_moved 0 f_pickA f_pickB f_inTree m) cap (nI i) f_machines f_firstHorizon f_horizon f_jobs (nI n) (nI dp) f_recorded f_wantA f_wantB f_moved fl' 0 f_pickA f_pickB f_inTree m' (nI a) a_releaseOf a_dueOf a_jobOf a_machineOf a_durationOf a_entryA a_entryB a_noted a_wantFrom a_wantTo l hh p a_savedLo a_savedHi a_savedPred a_savedA a_savedB a_raised a_cut a_place a_sum a_ect))
        (fun a p => (∀ x, x < 32 → (bt (p i) x = true ↔ x < a ∧ a_jobOf x = a_jobOf i)) ∧ ∀ b, b ≠ i → p b = pred b) i (upd pred i 0) ⟨fun x _ => by rw [pk_us, b_0]; exact ⟨fun q => absurd q (by decide), fun q => by omega⟩, fun b hb => pk_un hb⟩ ?_ ?_
      · intro m' p hp
        refine br_t (nI_le (Nat.le_refl _) (by omega)) (nm_r (nI_1 i) (K (fl', l, hh, p) ⟨W', fun b hb a ha => ?_⟩))
        show bt (p b) a = true ↔ _
        by_cases z : b = i
        · subst z; exact hp.1 a ha
        · rw [hp.2 b z]; exact B b (by omega) a ha
      · intro m' a p ha hp K'
        have va : vp_in (nI a) 8 := vp_in_nI (by omega) (by omega)
        have ca : (nI a).toNatClampNeg = a := nI_clamp (by omega)
        refine br_f (nI_ge ha (by omega)) (And.intro va (And.intro vi ?_))
        rw [ca, ci]
        refine br_c (fun z => And.intro vi (And.intro vi (nm_e (nm_r (nI_1 a) (K' _ ⟨fun x hx => ?_, fun b hb => ?_⟩))))) (fun z => nm_r (nI_1 a) (K' p ⟨fun x hx => ?_, hp.2⟩))
        · rw [pk_us, jb_set (by omega) hx, Bool.or_eq_true, decide_eq_true_eq, hp.1 x hx]
          constructor
          · rintro (q | q)
            · exact ⟨by omega, q.2⟩
            · subst q; exact ⟨by omega, z⟩
          · intro q
            by_cases w : x = a
            · exact Or.inr w
            · exact Or.inl ⟨by omega, q.2⟩
        · rw [pk_un hb]; exact hp.2 b hb
        · rw [hp.1 x hx]
          constructor
          · intro q; exact ⟨by omega, q.2⟩
          · intro q
            refine ⟨?_, q.2⟩
            by_cases w : x = a
            · subst w; exact absurd q.2 z
            · omega
    refine br_f (nI_ge hi' (by omega)) (And.intro vi (nm_e ?_))
    rw [ci]
    refine And.intro vi (And.intro vj (And.intro vi (jx_greater (And.intro vi (nm_e (And.intro vi (And.intro vj (jx_lesser (And.intro vi (nm_e (And.intro vi (And.intro vi (And.intro vi ?_))))))))))))) 
    rw [pk_us]
    refine jx_lesser (And.intro vi ?_)
    have eu : ∀ (x y : Int32), upd (upd hi i x) i y = upd hi i y := fun x y => by
      funext q
      by_cases z : q = i
      · subst z; rw [pk_us, pk_us]
      · rw [pk_un z, pk_un z, pk_un z]
    rw [eu]
    refine nm_e (And.intro vi (And.intro vi (And.intro vi ?_)))
    rw [pk_us, pk_us]
    refine br_c (fun z => nm_r (jf_0 hb) ⟨jf_n hb, jf_f hb, inner _ _ _ (jl_W_cg W rfl rfl (Or.inl ⟨z, rfl⟩))⟩) (fun z => nm_r (jf_1 hb) ⟨rfl, rfl, inner _ _ _ (jl_W_cg W rfl rfl (Or.inr ⟨z, rfl⟩))⟩)
end
end
section
/-! clash, choosePair, branch, retreat, alignRest -/
def jc_c (M d lo : Nat → Int32) (a b : Nat) : Prop := (a ≠ b ∧ M a = M b) ∧ ¬ lo b + d b ≤ lo a ∧ ¬ lo a + d a ≤ lo b
theorem jl_ix {l op : Nat} : nI l * 8 + nI op = nI (l * 8 + op) := by
  have : nI l * 8 = nI (l * 8) := pk_mul l 8
  rw [this, nI_add]
section
variable {f_machines f_firstHorizon f_horizon f_jobs f_depth f_recorded f_wantA f_wantB f_moved f_failed f_level f_pickA f_pickB f_inTree : Int32} {a_releaseOf a_dueOf a_jobOf a_machineOf a_durationOf a_entryA a_entryB a_noted a_wantFrom a_wantTo a_lo a_hi a_pred a_savedLo a_savedHi a_savedPred a_savedA a_savedB a_raised a_cut a_place a_sum a_ect : Nat → Int32}
theorem jx_clash {post : Int32 → Prop} {n a b : Nat} (ha : a < 8) (hb : b < 8) (h1 : jc_c a_machineOf a_durationOf a_lo a b → post 1) (h0 : ¬ jc_c a_machineOf a_durationOf a_lo a b → post 0) : (wpX_clash post (f_machines, f_firstHorizon, f_horizon, f_jobs, nI n, f_depth, f_recorded, f_wantA, f_wantB, f_moved, f_failed, f_level, f_pickA, f_pickB, f_inTree, a_releaseOf, a_dueOf, a_jobOf, a_machineOf, a_durationOf, a_entryA, a_entryB, a_noted, a_wantFrom, a_wantTo, a_lo, a_hi, a_pred, a_savedLo, a_savedHi, a_savedPred, a_savedA, a_savedB, a_raised, a_cut, a_place, a_sum, a_ect) (nI a) (nI b)) := by
  have va : vp_in (nI a) 8 := vp_in_nI ha (by omega)
  have vb : vp_in (nI b) 8 := vp_in_nI hb (by omega)
  have ca : (nI a).toNatClampNeg = a := nI_clamp (by omega)
  have cb : (nI b).toNatClampNeg = b := nI_clamp (by omega)
  unfold wpX_clash
  dsimp only
  refine jx_rivals ha hb (fun hne hM => br_f ja_10 (And.intro va (And.intro vb (And.intro vb ?_)))) (fun z => br_t rfl (h0 fun y => z y.1))
  rw [ca, cb]
  refine br_c (fun z => h0 fun y => y.2.1 z) (fun z => And.intro vb (And.intro va (And.intro va (br_c (fun y => h0 fun x => x.2.2 y) (fun y => h1 ⟨⟨hne, hM⟩, z, y⟩)))))
theorem jx_choosePair {post : Int32 → SX → Prop} {n : Nat} (hn : n ≤ 8) (hd : js_d n a_durationOf) (hR : js_R n a_durationOf a_lo a_hi)
    (h0 : ∀ pA pB, (∀ a b, a < n → b < n → ¬ jc_c a_machineOf a_durationOf a_lo a b) → post 0 (f_machines, f_firstHorizon, f_horizon, f_jobs, nI n, f_depth, f_recorded, f_wantA, f_wantB, f_moved, f_failed, f_level, pA, pB, f_inTree, a_releaseOf, a_dueOf, a_jobOf, a_machineOf, a_durationOf, a_entryA, a_entryB, a_noted, a_wantFrom, a_wantTo, a_lo, a_hi, a_pred, a_savedLo, a_savedHi, a_savedPred, a_savedA, a_savedB, a_raised, a_cut, a_place, a_sum, a_ect))
    (h1 : ∀ a b, a < n → b < n → jc_c a_machineOf a_durationOf a_lo a b → post 1 (f_machines, f_firstHorizon, f_horizon, f_jobs, nI n, f_depth, f_recorded, f_wantA, f_wantB, f_moved, f_failed, f_level, nI b, nI a, f_inTree, a_releaseOf, a_dueOf, a_jobOf, a_machineOf, a_durationOf, a_entryA, a_entryB, a_noted, a_wantFrom, a_wantTo, a_lo, a_hi, a_pred, a_savedLo, a_savedHi, a_savedPred, a_savedA, a_savedB, a_raised, a_cut, a_place, a_sum, a_ect)) : (wpX_choosePair post (f_machines, f_firstHorizon, f_horizon, f_jobs, nI n, f_depth, f_recorded, f_wantA, f_wantB, f_moved, f_failed, f_level, f_pickA, f_pickB, f_inTree, a_releaseOf, a_dueOf, a_jobOf, a_machineOf, a_durationOf, a_entryA, a_entryB, a_noted, a_wantFrom, a_wantTo, a_lo, a_hi, a_pred, a_savedLo, a_savedHi, a_savedPred, a_savedA, a_savedB, a_raised, a_cut, a_place, a_sum, a_ect)) := by
  show ∃ n6 : Nat, (wX_choosePair_6 post f_machines f_firstHorizon f_horizon f_jobs (nI n) f_depth f_recorded f_wantA f_wantB f_moved f_failed f_level f_inTree a_releaseOf a_dueOf a_jobOf a_machineOf a_durationOf a_entryA a_entryB a_noted a_wantFrom a_wantTo a_lo a_hi a_pred a_savedLo a_savedHi a_savedPred a_savedA a_savedB a_raised a_cut a_place a_sum a_ect n6 1000 0 f_pickA f_pickB)
  refine loop_0 (σ := Int32 × Int32 × Int32) (fun m i s => (wX_choosePair_6 post f_machines f_firstHorizon f_horizon f_jobs (nI n) f_depth f_recorded f_wantA f_wantB f_moved f_failed f_level f_inTree a_releaseOf a_dueOf a_jobOf a_machineOf a_durationOf a_entryA a_entryB a_noted a_wantFrom a_wantTo a_lo a_hi a_pred a_savedLo a_savedHi a_savedPred a_savedA a_savedB a_raised a_cut a_place a_sum a_ect m s.1 (nI i) s.2.1 s.2.2))
    (fun i s => (s.1 = 1000 ∧ ∀ a b, a < i → b < n → ¬ jc_c a_machineOf a_durationOf a_lo a b) ∨ (s.1.toInt < 1000 ∧ ∃ a b, a < n ∧ b < n ∧ jc_c a_machineOf a_durationOf a_lo a b ∧ s.2.1 = nI b ∧ s.2.2 = nI a)) n (1000, f_pickA, f_pickB)
    (Or.inl ⟨rfl, fun a b ha => by omega⟩) ?_ ?_
  · rintro m ⟨t, pA, pB⟩ I
    refine br_t (nI_le (Nat.le_refl _) (by omega)) (br_c (fun z => ?_) (fun z => ?_))
    · rcases I with ⟨_, I⟩ | ⟨I, _⟩
      · exact h0 pA pB I
      · have := ja_le.mp z
        rw [ja_1000] at this
        have I : t.toInt < 1000 := I
        exact absurd this (Int.not_le.mpr I)
    · rcases I with ⟨I, _⟩ | ⟨_, a, b, ha, hb, c, e1, e2⟩
      · have I : t = 1000 := I
        exact absurd (show (1000 : Int32) ≤ t by rw [I]; decide) z
      · have e1 : pA = nI b := e1
        have e2 : pB = nI a := e2
        subst e1 e2
        exact h1 a b ha hb c
  · rintro m a ⟨t, pA, pB⟩ ha I K
    have va : vp_in (nI a) 8 := vp_in_nI (by omega) (by omega)
    have ca : (nI a).toNatClampNeg = a := nI_clamp (by omega)
    refine br_f (nI_ge ha (by omega)) ?_
    refine loop_0 (σ := Int32 × Int32 × Int32) (fun m' i s => (wX_choosePair_16 post (wX_choosePair_6 post f_machines f_firstHorizon f_horizon f_jobs (nI n) f_depth f_recorded f_wantA f_wantB f_moved f_failed f_level f_inTree a_releaseOf a_dueOf a_jobOf a_machineOf a_durationOf a_entryA a_entryB a_noted a_wantFrom a_wantTo a_lo a_hi a_pred a_savedLo a_savedHi a_savedPred a_savedA a_savedB a_raised a_cut a_place a_sum a_ect m) (nI a) f_machines f_firstHorizon f_horizon f_jobs (nI n) f_depth f_recorded f_wantA f_wantB f_moved f_failed f_level f_inTree a_releaseOf a_dueOf a_jobOf a_machineOf a_durationOf a_entryA a_entryB a_noted a_wantFrom a_wantTo a_lo a_hi a_pred a_savedLo a_savedHi a_savedPred a_savedA a_savedB a_raised a_cut a_place a_sum a_ect m' s.1 (nI i) s.2.1 s.2.2))
      (fun i s => (s.1 = 1000 ∧ ∀ x b, (x < a ∧ b < n) ∨ (x = a ∧ b < i) → ¬ jc_c a_machineOf a_durationOf a_lo x b) ∨ (s.1.toInt < 1000 ∧ ∃ a b, a < n ∧ b < n ∧ jc_c a_machineOf a_durationOf a_lo a b ∧ s.2.1 = nI b ∧ s.2.2 = nI a)) n (t, pA, pB)
      (by rcases I with ⟨i1, i2⟩ | I
          · exact Or.inl ⟨i1, fun x b q => by
              rcases q with q | q
              · exact i2 x b q.1 q.2
              · omega⟩
          · exact Or.inr I) ?_ ?_
    · rintro m' ⟨t, pA, pB⟩ I
      refine br_t (nI_le (Nat.le_refl _) (by omega)) (nm_r (nI_1 a) (K (t, pA, pB) ?_))
      rcases I with ⟨i1, i2⟩ | I
      · exact Or.inl ⟨i1, fun x b q1 q2 => i2 x b (by omega)⟩
      · exact Or.inr I
    · rintro m' b ⟨t, pA, pB⟩ hb I K'
      show (wX_choosePair_16 post (wX_choosePair_6 post f_machines f_firstHorizon f_horizon f_jobs (nI n) f_depth f_recorded f_wantA f_wantB f_moved f_failed f_level f_inTree a_releaseOf a_dueOf a_jobOf a_machineOf a_durationOf a_entryA a_entryB a_noted a_wantFrom a_wantTo a_lo a_hi a_pred a_savedLo a_savedHi a_savedPred a_savedA a_savedB a_raised a_cut a_place a_sum a_ect m) (nI a) f_machines f_firstHorizon f_horizon f_jobs (nI n) f_depth f_recorded f_wantA f_wantB f_moved f_failed f_level f_inTree a_releaseOf a_dueOf a_jobOf a_machineOf a_durationOf a_entryA a_entryB a_noted a_wantFrom a_wantTo a_lo a_hi a_pred a_savedLo a_savedHi a_savedPred a_savedA a_savedB a_raised a_cut a_place a_sum a_ect (m' + 1) t (nI b) pA pB)
      have vb : vp_in (nI b) 8 := vp_in_nI (by omega) (by omega)
      have cb : (nI b).toNatClampNeg = b := nI_clamp (by omega)
      have skip : (¬ jc_c a_machineOf a_durationOf a_lo a b ∨ ¬ t = 1000) → ∀ z, z = nI b + 1 → (wX_choosePair_16 post (wX_choosePair_6 post f_machines f_firstHorizon f_horizon f_jobs (nI n) f_depth f_recorded f_wantA f_wantB f_moved f_failed f_level f_inTree a_releaseOf a_dueOf a_jobOf a_machineOf a_durationOf a_entryA a_entryB a_noted a_wantFrom a_wantTo a_lo a_hi a_pred a_savedLo a_savedHi a_savedPred a_savedA a_savedB a_raised a_cut a_place a_sum a_ect m) (nI a) f_machines f_firstHorizon f_horizon f_jobs (nI n) f_depth f_recorded f_wantA f_wantB f_moved f_failed f_level f_inTree a_releaseOf a_dueOf a_jobOf a_machineOf a_durationOf a_entryA a_entryB a_noted a_wantFrom a_wantTo a_lo a_hi a_pred a_savedLo a_savedHi a_savedPred a_savedA a_savedB a_raised a_cut a_place a_sum a_ect m' t z pA pB) := by
        intro hc
        refine nm_r (nI_1 b) (K' (t, pA, pB) ?_)
        rcases I with ⟨i1, i2⟩ | I
        · rcases hc with hc | hc
          · refine Or.inl ⟨i1, fun x y q => ?_⟩
            by_cases w : x = a ∧ y = b
            · rw [w.1, w.2]; exact hc
            · exact i2 x y (by omega)
          · exact absurd i1 hc
        · exact Or.inr I
      have r1 := hR a ha
      have r2 := hR b hb
      have d1 := hd a ha
      have d2 := hd b hb
      have er : (((a_hi b - a_lo a) - a_durationOf a) - a_durationOf b).toInt = (a_hi b).toInt - (a_lo a).toInt - (a_durationOf a).toInt - (a_durationOf b).toInt := by
        have e1 : (a_hi b - a_lo a).toInt = (a_hi b).toInt - (a_lo a).toInt := ja_sub (by omega) (by omega)
        have e2 : ((a_hi b - a_lo a) - a_durationOf a).toInt = (a_hi b).toInt - (a_lo a).toInt - (a_durationOf a).toInt := by rw [ja_sub (by omega) (by omega), e1]
        rw [ja_sub (by omega) (by omega), e2]
      refine br_f (nI_ge hb (by omega)) (And.intro vb (And.intro va (And.intro va (And.intro vb ?_))))
      rw [ca, cb]
      refine nm_e (br_c (fun z => skip (Or.inr fun e => ?_)) (fun z => ?_))
      · rw [e] at z
        have := ja_le.mp z
        rw [ja_1000, er] at this
        omega
      · refine jx_clash (by omega) (by omega) (fun c => br_f ja_10 (nm_r (nI_1 b) (K' (_, nI b, nI a) (Or.inr ⟨?_, a, b, ha, hb, c, rfl, rfl⟩)))) (fun c => br_t rfl (skip (Or.inl c)))
        show (((a_hi b - a_lo a) - a_durationOf a) - a_durationOf b).toInt < 1000
        rw [er]; omega
theorem jx_branch {post : SX → Prop} {n l a b : Nat} (hn : n ≤ 8) (hl : l < 32) (ha : a < n) (hb : b < n)
    (h : ∀ sL sH sP, (∀ x, x < l * 8 → sL x = a_savedLo x ∧ sH x = a_savedHi x ∧ sP x = a_savedPred x) → (∀ o, o < n → sL (l * 8 + o) = a_lo o ∧ sH (l * 8 + o) = a_hi o ∧ sP (l * 8 + o) = a_pred o) →
      post (f_machines, f_firstHorizon, f_horizon, f_jobs, nI n, f_depth, f_recorded, f_wantA, f_wantB, f_moved, f_failed, nI (l + 1), nI a, nI b, f_inTree, a_releaseOf, a_dueOf, a_jobOf, a_machineOf, a_durationOf, a_entryA, a_entryB, a_noted, a_wantFrom, a_wantTo, a_lo, a_hi, upd a_pred b (a_pred b ||| ((1 : Int32) <<< (nI a &&& 31))), sL, sH, sP, upd a_savedA l (nI a), upd a_savedB l (nI b), a_raised, a_cut, a_place, a_sum, a_ect)) :
    (wpX_branch post (f_machines, f_firstHorizon, f_horizon, f_jobs, nI n, f_depth, f_recorded, f_wantA, f_wantB, f_moved, f_failed, nI l, nI a, nI b, f_inTree, a_releaseOf, a_dueOf, a_jobOf, a_machineOf, a_durationOf, a_entryA, a_entryB, a_noted, a_wantFrom, a_wantTo, a_lo, a_hi, a_pred, a_savedLo, a_savedHi, a_savedPred, a_savedA, a_savedB, a_raised, a_cut, a_place, a_sum, a_ect)) := by
  have vl : vp_in (nI l) 32 := vp_in_nI hl (by omega)
  have cl : (nI l).toNatClampNeg = l := nI_clamp (by omega)
  have vb : vp_in (nI b) 8 := vp_in_nI (by omega) (by omega)
  have cb : (nI b).toNatClampNeg = b := nI_clamp (by omega)
  have step : ∀ (s src t : Nat → Int32) (i : Nat), (∀ x, x < l * 8 → t x = s x) ∧ (∀ o, o < i → t (l * 8 + o) = src o) → (∀ x, x < l * 8 → upd t (l * 8 + i) (src i) x = s x) ∧ (∀ o, o < i + 1 → upd t (l * 8 + i) (src i) (l * 8 + o) = src o) := by
    intro s src t i q
    refine ⟨fun x hx => by rw [pk_un (by omega)]; exact q.1 x hx, fun o ho => ?_⟩
    by_cases z : o = i
    · subst z; exact pk_us
    · rw [pk_un (by omega)]; exact q.2 o (by omega)
  unfold wpX_branch
  dsimp only
  rw [cl]
  refine And.intro vl (nm_e (And.intro vl (nm_e ?_)))
  refine loop_0 (σ := Nat → Int32) (fun m i s => (wX_branch_28 post f_machines f_firstHorizon f_horizon f_jobs (nI n) f_depth f_recorded f_wantA f_wantB f_moved f_failed (nI l) (nI a) (nI b) f_inTree m (nI i) a_releaseOf a_dueOf a_jobOf a_machineOf a_durationOf a_entryA a_entryB a_noted a_wantFrom a_wantTo a_lo a_hi a_pred s a_savedHi a_savedPred (upd a_savedA l (nI a)) (upd a_savedB l (nI b)) a_raised a_cut a_place a_sum a_ect)) (fun i s => (∀ x, x < l * 8 → s x = a_savedLo x) ∧ (∀ o, o < i → s (l * 8 + o) = a_lo o)) n a_savedLo ⟨fun _ _ => rfl, fun o ho => by omega⟩ ?_ ?_
  · intro m sL hL
    refine br_t (nI_le (Nat.le_refl _) (by omega)) ?_
    refine loop_0 (σ := Nat → Int32) (fun m i s => (wX_branch_64 post f_machines f_firstHorizon f_horizon f_jobs (nI n) f_depth f_recorded f_wantA f_wantB f_moved f_failed (nI l) (nI a) (nI b) f_inTree m (nI i) a_releaseOf a_dueOf a_jobOf a_machineOf a_durationOf a_entryA a_entryB a_noted a_wantFrom a_wantTo a_lo a_hi a_pred sL s a_savedPred (upd a_savedA l (nI a)) (upd a_savedB l (nI b)) a_raised a_cut a_place a_sum a_ect)) (fun i s => (∀ x, x < l * 8 → s x = a_savedHi x) ∧ (∀ o, o < i → s (l * 8 + o) = a_hi o)) n a_savedHi ⟨fun _ _ => rfl, fun o ho => by omega⟩ ?_ ?_
    · intro m sH hH
      refine br_t (nI_le (Nat.le_refl _) (by omega)) ?_
      refine loop_0 (σ := Nat → Int32) (fun m i s => (wX_branch_100 post f_machines f_firstHorizon f_horizon f_jobs (nI n) f_depth f_recorded f_wantA f_wantB f_moved f_failed (nI l) (nI a) (nI b) f_inTree m (nI i) a_releaseOf a_dueOf a_jobOf a_machineOf a_durationOf a_entryA a_entryB a_noted a_wantFrom a_wantTo a_lo a_hi a_pred sL sH s (upd a_savedA l (nI a)) (upd a_savedB l (nI b)) a_raised a_cut a_place a_sum a_ect)) (fun i s => (∀ x, x < l * 8 → s x = a_savedPred x) ∧ (∀ o, o < i → s (l * 8 + o) = a_pred o)) n a_savedPred ⟨fun _ _ => rfl, fun o ho => by omega⟩ ?_ ?_
      · intro m sP hP
        refine br_t (nI_le (Nat.le_refl _) (by omega)) (nm_r (nI_1 l) (And.intro vb (And.intro vb ?_)))
        rw [cb]
        exact nm_e (h sL sH sP (fun x hx => ⟨hL.1 x hx, hH.1 x hx, hP.1 x hx⟩) (fun o ho => ⟨hL.2 o ho, hH.2 o ho, hP.2 o ho⟩))
      · intro m i s hi hs K
        refine br_f (nI_ge hi (by omega)) (And.intro (vp_in_nI (by omega) (by omega)) ?_)
        rw [jl_ix, nI_clamp (by omega), nI_clamp (by omega)]
        exact And.intro (vp_in_nI (by omega) (by omega)) (nm_e (nm_r (nI_1 i) (K _ (step _ _ _ _ hs))))
    · intro m i s hi hs K
      refine br_f (nI_ge hi (by omega)) (And.intro (vp_in_nI (by omega) (by omega)) ?_)
      rw [jl_ix, nI_clamp (by omega), nI_clamp (by omega)]
      exact And.intro (vp_in_nI (by omega) (by omega)) (nm_e (nm_r (nI_1 i) (K _ (step _ _ _ _ hs))))
  · intro m i s hi hs K
    refine br_f (nI_ge hi (by omega)) (And.intro (vp_in_nI (by omega) (by omega)) ?_)
    rw [jl_ix, nI_clamp (by omega), nI_clamp (by omega)]
    exact And.intro (vp_in_nI (by omega) (by omega)) (nm_e (nm_r (nI_1 i) (K _ (step _ _ _ _ hs))))
theorem jx_retreat {post : SX → Prop} {n l A B : Nat} (hn : n ≤ 8) (hl : l < 32) (hA : A < n) (hB : B < n) (eA : a_savedA l = nI A) (eB : a_savedB l = nI B)
    (h : ∀ lo hi p, (∀ o, o < n → lo o = a_savedLo (l * 8 + o) ∧ hi o = a_savedHi (l * 8 + o) ∧ p o = a_savedPred (l * 8 + o)) →
      post (f_machines, f_firstHorizon, f_horizon, f_jobs, nI n, f_depth, f_recorded, f_wantA, f_wantB, f_moved, 0, nI l, f_pickA, f_pickB, f_inTree, a_releaseOf, a_dueOf, a_jobOf, a_machineOf, a_durationOf, a_entryA, a_entryB, a_noted, a_wantFrom, a_wantTo, lo, hi, upd p A (p A ||| ((1 : Int32) <<< (nI B &&& 31))), a_savedLo, a_savedHi, a_savedPred, a_savedA, a_savedB, a_raised, a_cut, a_place, a_sum, a_ect)) :
    (wpX_retreat post (f_machines, f_firstHorizon, f_horizon, f_jobs, nI n, f_depth, f_recorded, f_wantA, f_wantB, f_moved, f_failed, nI (l + 1), f_pickA, f_pickB, f_inTree, a_releaseOf, a_dueOf, a_jobOf, a_machineOf, a_durationOf, a_entryA, a_entryB, a_noted, a_wantFrom, a_wantTo, a_lo, a_hi, a_pred, a_savedLo, a_savedHi, a_savedPred, a_savedA, a_savedB, a_raised, a_cut, a_place, a_sum, a_ect)) := by
  have vl : vp_in (nI l) 32 := vp_in_nI hl (by omega)
  have cl : (nI l).toNatClampNeg = l := nI_clamp (by omega)
  have vA : vp_in (nI A) 8 := vp_in_nI (by omega) (by omega)
  have cA : (nI A).toNatClampNeg = A := nI_clamp (by omega)
  have step : ∀ (src t : Nat → Int32) (i : Nat), (∀ o, o < i → t o = src (l * 8 + o)) → (∀ o, o < i + 1 → upd t i (src (l * 8 + i)) o = src (l * 8 + o)) := by
    intro src t i q o ho
    by_cases z : o = i
    · subst z; exact pk_us
    · rw [pk_un (by omega)]; exact q o (by omega)
  unfold wpX_retreat
  dsimp only
  refine nm_r (nI_pred l) ?_
  refine loop_0 (σ := Nat → Int32) (fun m i s => (wX_retreat_17 post f_machines f_firstHorizon f_horizon f_jobs (nI n) f_depth f_recorded f_wantA f_wantB f_moved 0 (nI l) f_pickA f_pickB f_inTree m (nI i) a_releaseOf a_dueOf a_jobOf a_machineOf a_durationOf a_entryA a_entryB a_noted a_wantFrom a_wantTo s a_hi a_pred a_savedLo a_savedHi a_savedPred a_savedA a_savedB a_raised a_cut a_place a_sum a_ect)) (fun i s => ∀ o, o < i → s o = a_savedLo (l * 8 + o)) n a_lo (fun o ho => by omega) ?_ ?_
  · intro m lo hlo
    refine br_t (nI_le (Nat.le_refl _) (by omega)) ?_
    refine loop_0 (σ := Nat → Int32) (fun m i s => (wX_retreat_53 post f_machines f_firstHorizon f_horizon f_jobs (nI n) f_depth f_recorded f_wantA f_wantB f_moved 0 (nI l) f_pickA f_pickB f_inTree m (nI i) a_releaseOf a_dueOf a_jobOf a_machineOf a_durationOf a_entryA a_entryB a_noted a_wantFrom a_wantTo lo s a_pred a_savedLo a_savedHi a_savedPred a_savedA a_savedB a_raised a_cut a_place a_sum a_ect)) (fun i s => ∀ o, o < i → s o = a_savedHi (l * 8 + o)) n a_hi (fun o ho => by omega) ?_ ?_
    · intro m hi hhi
      refine br_t (nI_le (Nat.le_refl _) (by omega)) ?_
      refine loop_0 (σ := Nat → Int32) (fun m i s => (wX_retreat_89 post f_machines f_firstHorizon f_horizon f_jobs (nI n) f_depth f_recorded f_wantA f_wantB f_moved 0 (nI l) f_pickA f_pickB f_inTree m (nI i) a_releaseOf a_dueOf a_jobOf a_machineOf a_durationOf a_entryA a_entryB a_noted a_wantFrom a_wantTo lo hi s a_savedLo a_savedHi a_savedPred a_savedA a_savedB a_raised a_cut a_place a_sum a_ect)) (fun i s => ∀ o, o < i → s o = a_savedPred (l * 8 + o)) n a_pred (fun o ho => by omega) ?_ ?_
      · intro m p hp
        refine br_t (nI_le (Nat.le_refl _) (by omega)) (And.intro vl ?_)
        rw [cl, eA, eB, cA]
        exact And.intro vA (And.intro vl (And.intro vA (nm_e (h lo hi p (fun o ho => ⟨hlo o ho, hhi o ho, hp o ho⟩)))))
      · intro m i s hi' hs K
        refine br_f (nI_ge hi' (by omega)) ?_
        rw [jl_ix, nI_clamp (by omega), nI_clamp (by omega)]
        exact And.intro (vp_in_nI (by omega) (by omega)) (And.intro (vp_in_nI (by omega) (by omega)) (nm_e (nm_r (nI_1 i) (K _ (step _ _ _ hs)))))
    · intro m i s hi' hs K
      refine br_f (nI_ge hi' (by omega)) ?_
      rw [jl_ix, nI_clamp (by omega), nI_clamp (by omega)]
      exact And.intro (vp_in_nI (by omega) (by omega)) (And.intro (vp_in_nI (by omega) (by omega)) (nm_e (nm_r (nI_1 i) (K _ (step _ _ _ hs)))))
  · intro m i s hi' hs K
    refine br_f (nI_ge hi' (by omega)) ?_
    rw [jl_ix, nI_clamp (by omega), nI_clamp (by omega)]
    exact And.intro (vp_in_nI (by omega) (by omega)) (And.intro (vp_in_nI (by omega) (by omega)) (nm_e (nm_r (nI_1 i) (K _ (step _ _ _ hs)))))
/-- the bits that alignRest adds -/
theorem jx_alignRest {post : Int32 → SX → Prop} {n : Nat} (hn : n ≤ 8)
    (h : ∀ pred, (∀ a b, a < n → b < n → (bt (pred b) a = true ↔ (bt (a_pred b) a = true ∨ ((a ≠ b ∧ a_machineOf a = a_machineOf b) ∧ a_lo a + a_durationOf a ≤ a_lo b)))) →
      (wpX_propagate (fun r u => narrow .boolean (.int r) = .int r ∧ post r u) (f_machines, f_firstHorizon, f_horizon, f_jobs, nI n, f_depth, f_recorded, f_wantA, f_wantB, f_moved, f_failed, f_level, f_pickA, f_pickB, f_inTree, a_releaseOf, a_dueOf, a_jobOf, a_machineOf, a_durationOf, a_entryA, a_entryB, a_noted, a_wantFrom, a_wantTo, a_lo, a_hi, pred, a_savedLo, a_savedHi, a_savedPred, a_savedA, a_savedB, a_raised, a_cut, a_place, a_sum, a_ect))) :
    (wpX_alignRest post (f_machines, f_firstHorizon, f_horizon, f_jobs, nI n, f_depth, f_recorded, f_wantA, f_wantB, f_moved, f_failed, f_level, f_pickA, f_pickB, f_inTree, a_releaseOf, a_dueOf, a_jobOf, a_machineOf, a_durationOf, a_entryA, a_entryB, a_noted, a_wantFrom, a_wantTo, a_lo, a_hi, a_pred, a_savedLo, a_savedHi, a_savedPred, a_savedA, a_savedB, a_raised, a_cut, a_place, a_sum, a_ect)) := by
  show ∃ n2 : Nat, (wX_alignRest_2 post f_machines f_firstHorizon f_horizon f_jobs (nI n) f_depth f_recorded f_wantA f_wantB f_moved f_failed f_level f_pickA f_pickB f_inTree n2 0 a_releaseOf a_dueOf a_jobOf a_machineOf a_durationOf a_entryA a_entryB a_noted a_wantFrom a_wantTo a_lo a_hi a_pred a_savedLo a_savedHi a_savedPred a_savedA a_savedB a_raised a_cut a_place a_sum a_ect)
  refine loop_0 (σ := Nat → Int32) (fun m i p => (wX_alignRest_2 post f_machines f_firstHorizon f_horizon f_jobs (nI n) f_depth f_recorded f_wantA f_wantB f_moved f_failed f_level f_pickA f_pickB f_inTree m (nI i) a_releaseOf a_dueOf a_jobOf a_machineOf a_durationOf a_entryA a_entryB a_noted a_wantFrom a_wantTo a_lo a_hi p a_savedLo a_savedHi a_savedPred a_savedA a_savedB a_raised a_cut a_place a_sum a_ect))
    (fun i p => ∀ a b, a < n → b < n → (bt (p b) a = true ↔ (bt (a_pred b) a = true ∨ (a < i ∧ (a ≠ b ∧ a_machineOf a = a_machineOf b) ∧ a_lo a + a_durationOf a ≤ a_lo b)))) n a_pred (fun a b _ _ => ⟨Or.inl, fun q => by rcases q with q | q; exact q; omega⟩) ?_ ?_
  · intro m p hp
    refine br_t (nI_le (Nat.le_refl _) (by omega)) ?_
    exact h p (fun a b ha hb => (hp a b ha hb).trans ⟨fun q => q.elim Or.inl (fun w => Or.inr w.2), fun q => q.elim Or.inl (fun w => Or.inr ⟨ha, w⟩)⟩)
  · intro m a p ha hp K
    have va : vp_in (nI a) 8 := vp_in_nI (by omega) (by omega)
    have ca : (nI a).toNatClampNeg = a := nI_clamp (by omega)
    refine br_f (nI_ge ha (by omega)) ?_
    refine loop_0 (σ := Nat → Int32) (fun m' j p => (wX_alignRest_12 post (wX_alignRest_2 post f_machines f_firstHorizon f_horizon f_jobs (nI n) f_depth f_recorded f_wantA f_wantB f_moved f_failed f_level f_pickA f_pickB f_inTree m) (nI a) f_machines f_firstHorizon f_horizon f_jobs (nI n) f_depth f_recorded f_wantA f_wantB f_moved f_failed f_level f_pickA f_pickB f_inTree m' (nI j) a_releaseOf a_dueOf a_jobOf a_machineOf a_durationOf a_entryA a_entryB a_noted a_wantFrom a_wantTo a_lo a_hi p a_savedLo a_savedHi a_savedPred a_savedA a_savedB a_raised a_cut a_place a_sum a_ect))
      (fun j p => ∀ x b, x < n → b < n → (bt (p b) x = true ↔ (bt (a_pred b) x = true ∨ ((x < a ∨ (x = a ∧ b < j)) ∧ (x ≠ b ∧ a_machineOf x = a_machineOf b) ∧ a_lo x + a_durationOf x ≤ a_lo b)))) n p
      (fun x b hx hb => (hp x b hx hb).trans ⟨fun q => q.elim Or.inl (fun w => Or.inr ⟨Or.inl w.1, w.2⟩), fun q => q.elim Or.inl (fun w => Or.inr ⟨by omega, w.2⟩)⟩) ?_ ?_
    · intro m' p hp
      refine br_t (nI_le (Nat.le_refl _) (by omega)) (nm_r (nI_1 a) (K p fun x b hx hb => (hp x b hx hb).trans ⟨fun q => q.elim Or.inl (fun w => Or.inr ⟨by omega, w.2⟩), fun q => q.elim Or.inl (fun w => Or.inr ⟨by omega, w.2⟩)⟩))
    · intro m' b p hb hp K'
      have vb : vp_in (nI b) 8 := vp_in_nI (by omega) (by omega)
      have cb : (nI b).toNatClampNeg = b := nI_clamp (by omega)
      have skip : ¬ ((a ≠ b ∧ a_machineOf a = a_machineOf b) ∧ a_lo a + a_durationOf a ≤ a_lo b) → ∀ z, z = nI b + 1 → (wX_alignRest_12 post (wX_alignRest_2 post f_machines f_firstHorizon f_horizon f_jobs (nI n) f_depth f_recorded f_wantA f_wantB f_moved f_failed f_level f_pickA f_pickB f_inTree m) (nI a) f_machines f_firstHorizon f_horizon f_jobs (nI n) f_depth f_recorded f_wantA f_wantB f_moved f_failed f_level f_pickA f_pickB f_inTree m' z a_releaseOf a_dueOf a_jobOf a_machineOf a_durationOf a_entryA a_entryB a_noted a_wantFrom a_wantTo a_lo a_hi p a_savedLo a_savedHi a_savedPred a_savedA a_savedB a_raised a_cut a_place a_sum a_ect) := by
        intro hc
        refine nm_r (nI_1 b) (K' p fun x y hx hy => (hp x y hx hy).trans ⟨fun q => q.elim Or.inl (fun w => Or.inr ⟨by omega, w.2⟩), fun q => q.elim Or.inl (fun w => ?_)⟩)
        by_cases c : x = a ∧ y = b
        · have w2 := w.2
          rw [c.1, c.2] at w2
          exact absurd w2 hc
        · exact Or.inr ⟨by omega, w.2⟩
      refine br_f (nI_ge hb (by omega)) (jx_rivals (by omega) (by omega) (fun hne hM => br_f ja_10 (And.intro va (And.intro va (And.intro vb ?_)))) (fun z => br_t rfl (skip fun y => z y.1)))
      rw [ca, cb]
      refine br_c (fun z => skip fun y => Int32.not_lt.mpr y.2 z) (fun z => And.intro vb (And.intro vb (nm_e (nm_r (nI_1 b) (K' _ fun x y hx hy => ?_)))))
      have z' := Int32.not_lt.mp z
      by_cases zy : y = b
      · subst zy
        rw [pk_us, jb_set (by omega) (by omega), Bool.or_eq_true, decide_eq_true_eq, hp x y hx hy]
        constructor
        · rintro ((q | q) | q)
          · exact Or.inl q
          · exact Or.inr ⟨by omega, q.2⟩
          · subst q; exact Or.inr ⟨Or.inr ⟨rfl, by omega⟩, ⟨hne, hM⟩, z'⟩
        · rintro (q | q)
          · exact Or.inl (Or.inl q)
          · by_cases w : x = a
            · exact Or.inr w
            · exact Or.inl (Or.inr ⟨by omega, q.2⟩)
      · rw [pk_un zy, hp x y hx hy]
        exact ⟨fun q => q.elim Or.inl (fun w => Or.inr ⟨by omega, w.2⟩), fun q => q.elim Or.inl (fun w => Or.inr ⟨by omega, w.2⟩)⟩
end
end
section
/-! words of job numbers, and their lines of ops -/
def jw_ud (Q : Nat → List Nat) (j : Nat) (l : List Nat) : Nat → List Nat := fun i => if i = j then l else Q i
theorem jw_ud_s {Q : Nat → List Nat} {j : Nat} {l : List Nat} : jw_ud Q j l j = l := if_pos rfl
theorem jw_ud_n {Q : Nat → List Nat} {j i : Nat} {l : List Nat} (h : i ≠ j) : jw_ud Q j l i = Q i := if_neg h
def jw_dc (c : Nat → Nat) (j : Nat) : Nat → Nat := fun i => if i = j then c i - 1 else c i
theorem jw_dc_s {c : Nat → Nat} {j : Nat} : jw_dc c j j = c j - 1 := if_pos rfl
theorem jw_dc_n {c : Nat → Nat} {j i : Nat} (h : i ≠ j) : jw_dc c j i = c i := if_neg h
def jw_line : (Nat → List Nat) → List Nat → List Nat
  | _, [] => []
  | Q, j :: w => (Q j).headD 0 :: jw_line (jw_ud Q j (Q j).tail) w
def jw_bl (k : (Nat → Nat) → List (List Nat)) (c : Nat → Nat) (j : Nat) : List (List Nat) := if c j = 0 then [] else (k (jw_dc c j)).map (fun w => j :: w)
def jw_ws : Nat → (Nat → Nat) → List (List Nat)
  | 0, _ => [[]]
  | k + 1, c => jw_bl (jw_ws k) c 0 ++ (jw_bl (jw_ws k) c 1 ++ (jw_bl (jw_ws k) c 2 ++ jw_bl (jw_ws k) c 3))
theorem jw_len_ud (Q : Nat → List Nat) (j : Nat) : (fun i => (jw_ud Q j (Q j).tail i).length) = jw_dc (fun i => (Q i).length) j := by
  funext i
  by_cases z : i = j
  · subst z
    rw [jw_ud_s, jw_dc_s, List.length_tail]
  · rw [jw_ud_n z, jw_dc_n z]
theorem jw_mem_ws {k : Nat} {c : Nat → Nat} {w : List Nat} : w ∈ jw_ws (k + 1) c ↔ ∃ j, j < 4 ∧ c j ≠ 0 ∧ ∃ w', w' ∈ jw_ws k (jw_dc c j) ∧ w = j :: w' := by
  have bl : ∀ j, w ∈ jw_bl (jw_ws k) c j ↔ (c j ≠ 0 ∧ ∃ w', w' ∈ jw_ws k (jw_dc c j) ∧ w = j :: w') := by
    intro j
    unfold jw_bl
    by_cases z : c j = 0
    · rw [if_pos z]; simp [z]
    · rw [if_neg z, List.mem_map]
      exact ⟨fun ⟨w', a, b⟩ => ⟨z, w', a, b.symm⟩, fun ⟨_, w', a, b⟩ => ⟨w', a, b.symm⟩⟩
  show w ∈ jw_bl (jw_ws k) c 0 ++ (jw_bl (jw_ws k) c 1 ++ (jw_bl (jw_ws k) c 2 ++ jw_bl (jw_ws k) c 3)) ↔ _
  rw [List.mem_append, List.mem_append, List.mem_append, bl, bl, bl, bl]
  constructor
  · rintro (h | h | h | h)
    · exact ⟨0, by omega, h⟩
    · exact ⟨1, by omega, h⟩
    · exact ⟨2, by omega, h⟩
    · exact ⟨3, by omega, h⟩
  · rintro ⟨j, hj, h⟩
    match j, hj, h with
    | 0, _, h => exact Or.inl h
    | 1, _, h => exact Or.inr (Or.inl h)
    | 2, _, h => exact Or.inr (Or.inr (Or.inl h))
    | 3, _, h => exact Or.inr (Or.inr (Or.inr h))
theorem jw_wlen : ∀ {k : Nat} {c : Nat → Nat} {w : List Nat}, w ∈ jw_ws k c → w.length = k := by
  intro k
  induction k with
  | zero => intro c w h; rw [List.mem_singleton.mp h]; rfl
  | succ k ih =>
    intro c w h
    obtain ⟨j, _, _, w', h', e⟩ := jw_mem_ws.mp h
    rw [e, List.length_cons, ih h']
def jw_sum (Q : Nat → List Nat) : Nat := (Q 0).length + (Q 1).length + (Q 2).length + (Q 3).length
theorem jw_sum_ud {Q : Nat → List Nat} {j : Nat} (hj : j < 4) {o : Nat} {r : List Nat} (e : Q j = o :: r) : jw_sum (jw_ud Q j (Q j).tail) + 1 = jw_sum Q := by
  unfold jw_sum
  rw [e, List.tail_cons]
  match j, hj, e with
  | 0, _, e => rw [jw_ud_s, jw_ud_n (by omega), jw_ud_n (by omega), jw_ud_n (by omega), e, List.length_cons]; omega
  | 1, _, e => rw [jw_ud_s, jw_ud_n (by omega), jw_ud_n (by omega), jw_ud_n (by omega), e, List.length_cons]; omega
  | 2, _, e => rw [jw_ud_s, jw_ud_n (by omega), jw_ud_n (by omega), jw_ud_n (by omega), e, List.length_cons]; omega
  | 3, _, e => rw [jw_ud_s, jw_ud_n (by omega), jw_ud_n (by omega), jw_ud_n (by omega), e, List.length_cons]; omega
theorem jw_sum_0 {Q : Nat → List Nat} (h : jw_sum Q = 0) : ∀ j, j < 4 → Q j = [] := by
  unfold jw_sum at h
  intro j hj
  match j, hj with
  | 0, _ => exact List.length_eq_zero_iff.mp (by omega)
  | 1, _ => exact List.length_eq_zero_iff.mp (by omega)
  | 2, _ => exact List.length_eq_zero_iff.mp (by omega)
  | 3, _ => exact List.length_eq_zero_iff.mp (by omega)
theorem jw_mem_line : ∀ {k : Nat} {Q : Nat → List Nat} {w : List Nat}, jw_sum Q = k → w ∈ jw_ws k (fun j => (Q j).length) → ∀ y, y ∈ jw_line Q w ↔ ∃ j, j < 4 ∧ y ∈ Q j := by
  intro k
  induction k with
  | zero =>
    intro Q w hs h y
    rw [List.mem_singleton.mp h]
    constructor
    · intro q; exact absurd q (by simp [jw_line])
    · rintro ⟨j, hj, q⟩
      rw [jw_sum_0 hs j hj] at q; exact absurd q (by simp)
  | succ k ih =>
    intro Q w hs h y
    obtain ⟨j, hj, hc, w', h', e⟩ := jw_mem_ws.mp h
    rw [e]
    rw [← jw_len_ud] at h'
    obtain ⟨o, r, eq⟩ : ∃ o r, Q j = o :: r := by
      match hq : Q j with
      | [] => rw [hq] at hc; exact absurd rfl hc
      | o :: r => exact ⟨o, r, rfl⟩
    have hs' := jw_sum_ud hj eq
    show y ∈ (Q j).headD 0 :: jw_line (jw_ud Q j (Q j).tail) w' ↔ _
    rw [List.mem_cons, ih (by omega) h' y, eq, List.headD_cons, List.tail_cons]
    constructor
    · rintro (q | ⟨i, hi, q⟩)
      · exact ⟨j, hj, by rw [eq, q]; exact List.mem_cons_self⟩
      · by_cases z : i = j
        · subst z
          rw [jw_ud_s] at q
          exact ⟨i, hi, by rw [eq]; exact List.mem_cons_of_mem _ q⟩
        · rw [jw_ud_n z] at q
          exact ⟨i, hi, q⟩
    · rintro ⟨i, hi, q⟩
      by_cases z : i = j
      · subst z
        rw [eq] at q
        rcases List.mem_cons.mp q with q | q
        · exact Or.inl q
        · exact Or.inr ⟨i, hi, by rw [jw_ud_s]; exact q⟩
      · exact Or.inr ⟨i, hi, by rw [jw_ud_n z]; exact q⟩
theorem jw_argmin (g : Nat → Int) (p : Nat → Prop) : ∀ m, (∃ j, j < m ∧ p j) → ∃ j, j < m ∧ p j ∧ ∀ i, i < m → p i → g j ≤ g i := by
  intro m
  induction m with
  | zero => rintro ⟨j, hj, _⟩; omega
  | succ m ih =>
    intro hx
    by_cases hl : ∃ j, j < m ∧ p j
    · obtain ⟨j, hj, pj, mj⟩ := ih hl
      by_cases hm : p m ∧ g m < g j
      · refine ⟨m, by omega, hm.1, fun i hi pi => ?_⟩
        by_cases z : i = m
        · rw [z]; exact Int.le_refl _
        · have := mj i (by omega) pi; omega
      · refine ⟨j, by omega, pj, fun i hi pi => ?_⟩
        by_cases z : i = m
        · subst z
          by_cases w : g i < g j
          · exact absurd ⟨pi, w⟩ hm
          · omega
        · exact mj i (by omega) pi
    · obtain ⟨j, hj, pj⟩ := hx
      have e : j = m := by
        by_cases z : j = m
        · exact z
        · exact absurd ⟨j, by omega, pj⟩ hl
      subst e
      refine ⟨j, by omega, pj, fun i hi pi => ?_⟩
      by_cases z : i = j
      · rw [z]; exact Int.le_refl _
      · exact absurd ⟨i, by omega, pi⟩ hl
/-- for every key that grows along the jobs there is a word whose line is sorted by it -/
theorem jw_ex (f : Nat → Int) : ∀ {k : Nat} {Q : Nat → List Nat}, jw_sum Q = k → (∀ j, j < 4 → (Q j).Pairwise (fun x y => f x ≤ f y)) →
    ∃ w, w ∈ jw_ws k (fun j => (Q j).length) ∧ (jw_line Q w).Pairwise (fun x y => f x ≤ f y) := by
  intro k
  induction k with
  | zero => intro Q _ _; exact ⟨[], List.mem_singleton.mpr rfl, List.Pairwise.nil⟩
  | succ k ih =>
    intro Q hs hp
    have hne : ∃ j, j < 4 ∧ Q j ≠ [] := Classical.byContradiction fun z => by
      have e : ∀ j, j < 4 → (Q j).length = 0 := fun j hj => by
        by_cases q : Q j = []
        · rw [q]; rfl
        · exact absurd ⟨j, hj, q⟩ z
      have e0 := e 0 (by omega)
      have e1 := e 1 (by omega)
      have e2 := e 2 (by omega)
      have e3 := e 3 (by omega)
      unfold jw_sum at hs
      omega
    obtain ⟨j, hj, hj0, hmin⟩ := jw_argmin (fun j => f ((Q j).headD 0)) (fun j => Q j ≠ []) 4 hne
    obtain ⟨o, r, eq⟩ : ∃ o r, Q j = o :: r := by
      match hq : Q j with
      | [] => exact absurd hq hj0
      | o :: r => exact ⟨o, r, rfl⟩
    have hs' := jw_sum_ud hj eq
    have hp' : ∀ i, i < 4 → (jw_ud Q j (Q j).tail i).Pairwise (fun x y => f x ≤ f y) := fun i hi => by
      by_cases z : i = j
      · subst z
        rw [jw_ud_s, eq, List.tail_cons]
        have := hp i hi
        rw [eq] at this
        exact (List.pairwise_cons.mp this).2
      · rw [jw_ud_n z]; exact hp i hi
    obtain ⟨w, hw, hl⟩ := ih (Q := jw_ud Q j (Q j).tail) (by omega) hp'
    have hw' := hw
    rw [jw_len_ud] at hw
    refine ⟨j :: w, jw_mem_ws.mpr ⟨j, hj, ?_, w, hw, rfl⟩, ?_⟩
    · show (Q j).length ≠ 0
      rw [eq]; simp
    · show ((Q j).headD 0 :: jw_line (jw_ud Q j (Q j).tail) w).Pairwise _
      refine List.pairwise_cons.mpr ⟨fun y hy => ?_, hl⟩
      obtain ⟨i, hi, hyi⟩ := (jw_mem_line (by omega) hw' y).mp hy
      have hyQ : y ∈ Q i := by
        by_cases z : i = j
        · subst z
          rw [jw_ud_s] at hyi
          exact List.mem_of_mem_tail hyi
        · rw [jw_ud_n z] at hyi; exact hyi
      have hne : Q i ≠ [] := fun e => by rw [e] at hyQ; exact absurd hyQ (by simp)
      refine Int.le_trans (hmin i hi hne) ?_
      match hq : Q i with
      | [] => exact absurd hq hne
      | o' :: r' =>
        rw [hq] at hyQ
        have := hp i hi
        rw [hq] at this
        rw [List.headD_cons]
        rcases List.mem_cons.mp hyQ with q | q
        · rw [q]; exact Int.le_refl _
        · exact (List.pairwise_cons.mp this).1 y q
/-- the queues of the jobs -/
def jw_Q (n : Nat) (jb : Nat → Nat) (j : Nat) : List Nat := (List.range n).filter (fun o => decide (jb o = j))
theorem jw_Q_mem {n : Nat} {jb : Nat → Nat} {j o : Nat} : o ∈ jw_Q n jb j ↔ o < n ∧ jb o = j := by
  unfold jw_Q
  rw [List.mem_filter, List.mem_range, decide_eq_true_eq]
theorem jw_Q_inc {n : Nat} {jb : Nat → Nat} {j : Nat} : (jw_Q n jb j).Pairwise (fun x y => x < y) := by
  unfold jw_Q
  exact List.Pairwise.filter _ List.pairwise_lt_range
theorem jw_Q_sum {n : Nat} {jb : Nat → Nat} (h : ∀ o, o < n → jb o < 4) : jw_sum (jw_Q n jb) = n := by
  have key : ∀ L : List Nat, (∀ o, o ∈ L → jb o < 4) → (L.filter (fun o => decide (jb o = 0))).length + (L.filter (fun o => decide (jb o = 1))).length + (L.filter (fun o => decide (jb o = 2))).length + (L.filter (fun o => decide (jb o = 3))).length = L.length := by
    intro L
    induction L with
    | nil => intro _; rfl
    | cons x L il =>
      intro hx
      have i1 := il (fun o ho => hx o (List.mem_cons_of_mem _ ho))
      have i2 := hx x List.mem_cons_self
      simp only [List.filter_cons, decide_eq_true_eq]
      generalize jb x = y at i2
      match y, i2 with
      | 0, _ => simp only [List.length_cons, if_pos]; simp; omega
      | 1, _ => simp; omega
      | 2, _ => simp; omega
      | 3, _ => simp; omega
  have := key (List.range n) (fun o ho => h o (List.mem_range.mp ho))
  rw [List.length_range] at this
  exact this
end
section
/-! how many words; the cost of a node of the search -/
def jw_n : Nat → Nat → Nat → Nat → Nat → Nat
  | 0, _, _, _, _ => 1
  | k + 1, a, b, c, d => (if a = 0 then 0 else jw_n k (a - 1) b c d) + ((if b = 0 then 0 else jw_n k a (b - 1) c d) + ((if c = 0 then 0 else jw_n k a b (c - 1) d) + (if d = 0 then 0 else jw_n k a b c (d - 1))))
theorem jw_n_len : ∀ (k : Nat) (c : Nat → Nat), (jw_ws k c).length = jw_n k (c 0) (c 1) (c 2) (c 3) := by
  intro k
  induction k with
  | zero => intro c; rfl
  | succ k ih =>
    intro c
    have bl : ∀ j, (jw_bl (jw_ws k) c j).length = if c j = 0 then 0 else jw_n k (jw_dc c j 0) (jw_dc c j 1) (jw_dc c j 2) (jw_dc c j 3) := by
      intro j
      unfold jw_bl
      by_cases z : c j = 0
      · rw [if_pos z, if_pos z]; rfl
      · rw [if_neg z, if_neg z, List.length_map, ih]
    show (jw_bl (jw_ws k) c 0 ++ (jw_bl (jw_ws k) c 1 ++ (jw_bl (jw_ws k) c 2 ++ jw_bl (jw_ws k) c 3))).length = _
    rw [List.length_append, List.length_append, List.length_append, bl, bl, bl, bl]
    rfl
set_option maxRecDepth 100000 in
theorem jw_n_bd : ∀ a, a < 9 → ∀ b, b < 9 → ∀ c, c < 9 → ∀ d, d < 9 → a + b + c + d ≤ 8 → jw_n (a + b + c + d) a b c d ≤ 2520 := by decide +kernel
theorem jw_ws_bd {n : Nat} {jb : Nat → Nat} (hn : n ≤ 8) (h : ∀ o, o < n → jb o < 4) : (jw_ws n (fun j => (jw_Q n jb j).length)).length ≤ 2520 := by
  have s := jw_Q_sum h
  unfold jw_sum at s
  rw [jw_n_len]
  have := jw_n_bd (jw_Q n jb 0).length (by omega) (jw_Q n jb 1).length (by omega) (jw_Q n jb 2).length (by omega) (jw_Q n jb 3).length (by omega) (by omega)
  rw [s] at this
  exact this
def jw_rs (pred : Nat → Int32) : List Nat → Bool
  | [] => true
  | x :: l => l.all (fun y => !bt (pred x) y) && jw_rs pred l
theorem jw_rs_iff {pred : Nat → Int32} : ∀ {l : List Nat}, jw_rs pred l = true ↔ l.Pairwise (fun x y => bt (pred x) y = false) := by
  intro l
  induction l with
  | nil => exact ⟨fun _ => List.Pairwise.nil, fun _ => rfl⟩
  | cons x l il =>
    show (l.all (fun y => !bt (pred x) y) && jw_rs pred l) = true ↔ _
    rw [Bool.and_eq_true, il, List.pairwise_cons, List.all_eq_true]
    simp
def jw_N (n : Nat) (jb : Nat → Nat) (pred : Nat → Int32) : Nat := (jw_ws n (fun j => (jw_Q n jb j).length)).countP (fun w => jw_rs pred (jw_line (jw_Q n jb) w))
def jw_u (n : Nat) (pred : Nat → Int32) : Nat := js_s (fun a => js_s (fun b => if a < b ∧ bt (pred a) b = false ∧ bt (pred b) a = false then 1 else 0) n) n
def jw_c (n : Nat) (jb : Nat → Nat) (pred : Nat → Int32) : Nat := 1 + 2 * (jw_u n pred * jw_N n jb pred)
/-- more orders on the ops below n -/
def jw_le (n : Nat) (p p' : Nat → Int32) : Prop := ∀ a, a < n → ∀ b, b < n → bt (p a) b = true → bt (p' a) b = true
theorem jw_line_lt {n : Nat} {jb : Nat → Nat} (h : ∀ o, o < n → jb o < 4) {w : List Nat} (hw : w ∈ jw_ws n (fun j => (jw_Q n jb j).length)) : ∀ y, y ∈ jw_line (jw_Q n jb) w ↔ y < n := by
  intro y
  rw [jw_mem_line (jw_Q_sum h) hw y]
  constructor
  · rintro ⟨j, _, q⟩; exact (jw_Q_mem.mp q).1
  · intro q; exact ⟨jb y, h y q, jw_Q_mem.mpr ⟨q, rfl⟩⟩
theorem jw_rs_mono {n : Nat} {p p' : Nat → Int32} (hp : jw_le n p p') {l : List Nat} (hl : ∀ y, y ∈ l → y < n) (h : jw_rs p' l = true) : jw_rs p l = true := by
  rw [jw_rs_iff] at h ⊢
  refine List.Pairwise.imp_of_mem (fun {x y} hx hy q => ?_) h
  cases z : bt (p x) y with
  | false => rfl
  | true => rw [hp x (hl x hx) y (hl y hy) z] at q; exact q
theorem jw_N_mono {n : Nat} {jb : Nat → Nat} (h : ∀ o, o < n → jb o < 4) {p p' : Nat → Int32} (hp : jw_le n p p') : jw_N n jb p' ≤ jw_N n jb p :=
  List.countP_mono_left fun w hw q => jw_rs_mono hp (fun y hy => (jw_line_lt h hw y).mp hy) q
theorem jw_i01 {p q : Prop} [Decidable p] [Decidable q] (h : p → q) : (if p then (1 : Nat) else 0) ≤ (if q then 1 else 0) := by
  by_cases hp : p
  · rw [if_pos hp, if_pos (h hp)]; exact Nat.le_refl _
  · rw [if_neg hp]; omega
theorem jw_u_mono {n : Nat} {p p' : Nat → Int32} (hp : jw_le n p p') : jw_u n p' ≤ jw_u n p := by
  refine js_s_le fun a ha => js_s_le fun b hb => jw_i01 fun q => ⟨q.1, ?_, ?_⟩
  · cases z : bt (p a) b with
    | false => rfl
    | true => have := hp a ha b hb z; rw [q.2.1] at this; exact absurd this (by decide)
  · cases z : bt (p b) a with
    | false => rfl
    | true => have := hp b hb a ha z; rw [q.2.2] at this; exact absurd this (by decide)
theorem jw_u_lt {n : Nat} {p p' : Nat → Int32} (hp : jw_le n p p') {x y : Nat} (hx : x < n) (hy : y < n) (hne : x ≠ y) (h1 : bt (p x) y = false) (h2 : bt (p y) x = false) (h3 : bt (p' x) y = true ∨ bt (p' y) x = true) : jw_u n p' < jw_u n p := by
  have mono : ∀ a, a < n → ∀ b, b < n → (if a < b ∧ bt (p' a) b = false ∧ bt (p' b) a = false then 1 else 0) ≤ (if a < b ∧ bt (p a) b = false ∧ bt (p b) a = false then 1 else 0) := fun a ha b hb => jw_i01 fun q => by
    refine ⟨q.1, ?_, ?_⟩
    · cases z : bt (p a) b with
      | false => rfl
      | true => have := hp a ha b hb z; rw [q.2.1] at this; exact absurd this (by decide)
    · cases z : bt (p b) a with
      | false => rfl
      | true => have := hp b hb a ha z; rw [q.2.2] at this; exact absurd this (by decide)
  have key : ∀ x y, x < n → y < n → x < y → bt (p x) y = false → bt (p y) x = false → (bt (p' x) y = true ∨ bt (p' y) x = true) → jw_u n p' < jw_u n p := by
    intro x y hx hy hlt h1 h2 h3
    refine js_s_lt (a := x) ?_ (fun k hk => js_s_le fun b hb => mono k hk b hb) hx
    refine js_s_lt (a := y) ?_ (fun k hk => mono x hx k hk) hy
    show (if x < y ∧ bt (p' x) y = false ∧ bt (p' y) x = false then 1 else 0) < (if x < y ∧ bt (p x) y = false ∧ bt (p y) x = false then 1 else 0)
    have hno : ¬ (x < y ∧ bt (p' x) y = false ∧ bt (p' y) x = false) := by
      rintro ⟨_, q1, q2⟩
      rcases h3 with q | q
      · rw [q1] at q; exact absurd q (by decide)
      · rw [q2] at q; exact absurd q (by decide)
    rw [if_neg hno, if_pos ⟨hlt, h1, h2⟩]
    omega
  rcases Nat.lt_or_gt_of_ne hne with z | z
  · exact key x y hx hy z h1 h2 h3
  · exact key y x hy hx z h2 h1 h3.symm
theorem jw_u_bd {n : Nat} (hn : n ≤ 8) (p : Nat → Int32) : jw_u n p ≤ 28 := by
  have h1 : jw_u n p ≤ js_s (fun a => js_s (fun b => if a < b then 1 else 0) n) n := js_s_le fun a _ => js_s_le fun b _ => jw_i01 fun q => q.1
  have h2 : ∀ n, n < 9 → js_s (fun a => js_s (fun b => if a < b then 1 else 0) n) n ≤ 28 := by decide +kernel
  exact Nat.le_trans h1 (h2 n (by omega))
theorem jw_c_mono {n : Nat} {jb : Nat → Nat} (h : ∀ o, o < n → jb o < 4) {p p' : Nat → Int32} (hp : jw_le n p p') : jw_c n jb p' ≤ jw_c n jb p := by
  have := Nat.mul_le_mul (jw_u_mono hp) (jw_N_mono (jb := jb) h hp)
  unfold jw_c
  omega
theorem jw_cnt2 {α : Type} {p q r : α → Bool} : ∀ {l : List α}, (∀ x, x ∈ l → p x = true → r x = true) → (∀ x, x ∈ l → q x = true → r x = true) → (∀ x, x ∈ l → p x = true → q x = true → False) → l.countP p + l.countP q ≤ l.countP r := by
  intro l
  induction l with
  | nil => intro _ _ _; simp
  | cons x l il =>
    intro h1 h2 h3
    have i := il (fun y hy => h1 y (List.mem_cons_of_mem _ hy)) (fun y hy => h2 y (List.mem_cons_of_mem _ hy)) (fun y hy => h3 y (List.mem_cons_of_mem _ hy))
    have a1 := h1 x List.mem_cons_self
    have a2 := h2 x List.mem_cons_self
    have a3 := h3 x List.mem_cons_self
    rw [List.countP_cons, List.countP_cons, List.countP_cons]
    cases hp : p x <;> cases hq : q x <;> cases hr : r x <;> simp_all <;> omega
theorem jw_pair {R : Nat → Nat → Prop} : ∀ {l : List Nat}, l.Pairwise R → ∀ x y, x ∈ l → y ∈ l → x ≠ y → R x y ∨ R y x := by
  intro l
  induction l with
  | nil => intro _ x y hx; exact absurd hx (by simp)
  | cons z l il =>
    intro hp x y hx hy hne
    obtain ⟨p1, p2⟩ := List.pairwise_cons.mp hp
    rcases List.mem_cons.mp hx with ex | ex
    · rcases List.mem_cons.mp hy with ey | ey
      · exact absurd (ex.trans ey.symm) hne
      · rw [ex]; exact Or.inl (p1 y ey)
    · rcases List.mem_cons.mp hy with ey | ey
      · rw [ey]; exact Or.inr (p1 x ex)
      · exact il p2 x y ex ey hne
theorem jw_N_split {n : Nat} {jb : Nat → Nat} (h : ∀ o, o < n → jb o < 4) {p p1 p2 : Nat → Int32} (l1 : jw_le n p p1) (l2 : jw_le n p p2) {x y : Nat} (hx : x < n) (hy : y < n) (hne : x ≠ y) (b1 : bt (p1 y) x = true) (b2 : bt (p2 x) y = true) : jw_N n jb p1 + jw_N n jb p2 ≤ jw_N n jb p := by
  refine jw_cnt2 (fun w hw q => jw_rs_mono l1 (fun y hy => (jw_line_lt h hw y).mp hy) q) (fun w hw q => jw_rs_mono l2 (fun y hy => (jw_line_lt h hw y).mp hy) q) (fun w hw q1 q2 => ?_)
  have mx := (jw_line_lt h hw x).mpr hx
  have my := (jw_line_lt h hw y).mpr hy
  have r1 := jw_rs_iff.mp q1
  have r2 := jw_rs_iff.mp q2
  have r := List.pairwise_and_iff.mpr ⟨r1, r2⟩
  rcases jw_pair r x y mx my hne with z | z
  · rw [b2] at z; exact absurd z.2 (by decide)
  · rw [b1] at z; exact absurd z.1 (by decide)
theorem jw_c_split {n : Nat} {jb : Nat → Nat} (h : ∀ o, o < n → jb o < 4) {p p1 p2 : Nat → Int32} (hN : 1 ≤ jw_N n jb p) (l1 : jw_le n p p1) (l2 : jw_le n p p2) {x y : Nat} (hx : x < n) (hy : y < n) (hne : x ≠ y)
    (z1 : bt (p x) y = false) (z2 : bt (p y) x = false) (b1 : bt (p1 y) x = true) (b2 : bt (p2 x) y = true) : jw_c n jb p1 + jw_c n jb p2 + 1 ≤ jw_c n jb p := by
  have u1 := jw_u_lt l1 hx hy hne z1 z2 (Or.inr b1)
  have u2 := jw_u_lt l2 hx hy hne z1 z2 (Or.inl b2)
  have N := jw_N_split h l1 l2 hx hy hne b1 b2
  obtain ⟨v, ev⟩ : ∃ v, jw_u n p = v + 1 := ⟨jw_u n p - 1, by omega⟩
  have m1 := Nat.mul_le_mul (show jw_u n p1 ≤ v by omega) (Nat.le_refl (jw_N n jb p1))
  have m2 := Nat.mul_le_mul (show jw_u n p2 ≤ v by omega) (Nat.le_refl (jw_N n jb p2))
  have m3 := Nat.mul_le_mul (Nat.le_refl v) N
  have m4 : v * (jw_N n jb p1 + jw_N n jb p2) = v * jw_N n jb p1 + v * jw_N n jb p2 := Nat.mul_add _ _ _
  have m5 : (v + 1) * jw_N n jb p = v * jw_N n jb p + jw_N n jb p := Nat.succ_mul _ _
  unfold jw_c
  rw [ev, m5]
  omega
theorem jw_c_bd {n : Nat} {jb : Nat → Nat} (hn : n ≤ 8) (h : ∀ o, o < n → jb o < 4) (p : Nat → Int32) : jw_c n jb p ≤ 141121 := by
  have u := jw_u_bd hn p
  have N : jw_N n jb p ≤ 2520 := Nat.le_trans List.countP_le_length (jw_ws_bd hn h)
  have := Nat.mul_le_mul u N
  unfold jw_c
  omega
theorem jw_N_pos {n : Nat} {jb : Nat → Nat} (h : ∀ o, o < n → jb o < 4) {d lo hi pred : Nat → Int32} (hd : js_d n d) (X : js_X n d lo hi pred) (hj : ∀ a b, a < n → b < n → a < b → jb a = jb b → bt (pred b) a = true) : 1 ≤ jw_N n jb pred := by
  obtain ⟨w, hw, hl⟩ := jw_ex (fun a => (lo a).toInt) (jw_Q_sum h) (fun j _ => List.Pairwise.imp_of_mem (fun {x y} hx hy q => by
    have mx := jw_Q_mem.mp hx
    have my := jw_Q_mem.mp hy
    have := (X x y mx.1 my.1 (hj x y mx.1 my.1 q (mx.2.trans my.2.symm))).1
    have := hd x mx.1
    show (lo x).toInt ≤ (lo y).toInt
    omega) jw_Q_inc)
  refine List.countP_pos_iff.mpr ⟨w, hw, jw_rs_iff.mpr (List.Pairwise.imp_of_mem (fun {x y} hx hy q => ?_) hl)⟩
  have mx := (jw_line_lt h hw x).mp hx
  have my := (jw_line_lt h hw y).mp hy
  cases z : bt (pred x) y with
  | false => rfl
  | true =>
    have a := (X y x my mx z).1
    have b := hd y my
    have q : (lo x).toInt ≤ (lo y).toInt := q
    omega
end
section
/-! nodes of the search -/
def jn_p (sP : Nat → Int32) (i A B : Nat) : Nat → Int32 := upd (fun o => sP (i * 8 + o)) A (sP (i * 8 + A) ||| ((1 : Int32) <<< (nI B &&& 31)))
def jn_r (sL : Nat → Int32) (i : Nat) : Nat → Int32 := fun o => sL (i * 8 + o)
theorem js_C_cg {n : Nat} {d lo hi p lo' hi' p' : Nat → Int32} {s : Nat → Int} (e : ∀ a, a < n → lo' a = lo a ∧ hi' a = hi a ∧ p' a = p a) (h : js_C n d lo hi p s) : js_C n d lo' hi' p' s :=
  ⟨fun a ha => by rw [(e a ha).1, (e a ha).2.1]; exact h.1 a ha, fun a b ha hb q => h.2 a b ha hb (by rw [← (e b hb).2.2]; exact q)⟩
theorem jw_le_cg {n : Nat} {p p' : Nat → Int32} (e : ∀ a, a < n → p' a = p a) : jw_le n p p' := fun a ha b _ q => by rw [e a ha]; exact q
theorem jw_c_cg {n : Nat} {jb : Nat → Nat} (h : ∀ o, o < n → jb o < 4) {p p' : Nat → Int32} (e : ∀ a, a < n → p' a = p a) : jw_c n jb p' = jw_c n jb p :=
  Nat.le_antisymm (jw_c_mono h (jw_le_cg e)) (jw_c_mono h (jw_le_cg fun a ha => (e a ha).symm))
theorem jw_u_cg {n : Nat} {p p' : Nat → Int32} (e : ∀ a, a < n → p' a = p a) : jw_u n p' = jw_u n p :=
  Nat.le_antisymm (jw_u_mono (jw_le_cg e)) (jw_u_mono (jw_le_cg fun a ha => (e a ha).symm))
theorem js_F_bd {n : Nat} {lo hi pred : Nat → Int32} (hn : n ≤ 8) (h : ∀ a, a < n → 0 ≤ (lo a).toInt ∧ (hi a).toInt ≤ 60) : js_F n lo hi pred < 1000 := by
  have h1 : js_F1 n lo hi ≤ n * 60 := js_s_bd fun a ha => by have := h a ha; show ((hi a).toInt - (lo a).toInt).toNat ≤ 60; omega
  have h2 : js_F2 n pred ≤ n * 8 := js_s_bd fun a ha => Nat.le_trans (js_s_bd (c := 1) fun b hb => by split <;> omega) (by omega)
  unfold js_F
  omega
theorem js_or_C {n : Nat} {d lo hi pred : Nat → Int32} {s : Nat → Int} {a b : Nat} (hb : b < 32) (h : js_C n d lo hi pred s) (hs : b < n → s b + (d b).toInt ≤ s a) : js_C n d lo hi (upd pred a (pred a ||| ((1 : Int32) <<< (nI b &&& 31)))) s := by
  refine ⟨h.1, fun x y hx hy q => ?_⟩
  by_cases z : y = a
  · subst z
    rw [pk_us] at q
    by_cases w : x < 32
    · rw [jb_set hb w, Bool.or_eq_true, decide_eq_true_eq] at q
      rcases q with q | q
      · exact h.2 x y hx hy q
      · subst q; exact hs hx
    · rw [b_big (by omega)] at q; exact absurd q (by decide)
  · rw [pk_un z] at q; exact h.2 x y hx hy q
theorem jw_or_le {n : Nat} (pred : Nat → Int32) (a : Nat) (x : Int32) : jw_le n pred (upd pred a (pred a ||| x)) := fun c hc e _ q => by
  by_cases z : c = a
  · subst z; rw [pk_us, b_or, q]; rfl
  · rw [pk_un z]; exact q
/-- the outcome of a search for Sol -/
def jn_O (n : Nat) (d : Nat → Int32) (Sol : (Nat → Int) → Prop) (r : Int32) (lo hi : Nat → Int32) : Prop :=
  (r = 0 ∧ ¬ ∃ s, Sol s) ∨ (r = 1 ∧ (∃ s, Sol s) ∧ ∀ a, a < n → (0 ≤ (lo a).toInt ∧ (lo a).toInt + (d a).toInt ≤ (hi a).toInt ∧ (hi a).toInt ≤ 60) ∧ ∀ t : Int, (lo a).toInt ≤ t → t + (d a).toInt ≤ (hi a).toInt → ∃ s, Sol s ∧ s a = t)
theorem jn_max (x y z w c : Int) (h1 : x ≤ z) (h2 : y ≤ w) : (if x ≤ y - c then y - c else x) ≤ (if z ≤ w - c then w - c else z) := by
  split <;> split <;> omega
theorem jn_final {n : Nat} {M d lo0 hi0 pred0 lo hi pred lo1 hi1 pred1 : Nat → Int32} {Sol : (Nat → Int) → Prop} (hd : js_d n d) (G : js_G n lo0 hi0 pred0 lo1 hi1 pred1) (h0 : ∀ a, a < n → 0 ≤ (lo0 a).toInt ∧ (hi0 a).toInt ≤ 60) (R : js_R n d lo1 hi1) (X : js_X n d lo1 hi1 pred1)
    (hall : ∀ a b, a < n → b < n → a ≠ b → M a = M b → bt (pred1 b) a = true ∨ bt (pred1 a) b = true) (hS : ∀ s, js_D n M d s → js_C n d lo0 hi0 pred0 s → Sol s) : jn_O n d Sol 1 lo1 hi1 := by
  have key : ∀ c : Int, 0 ≤ c → Sol (fun i => if (lo1 i).toInt ≤ (hi1 i).toInt - (d i).toInt - c then (hi1 i).toInt - (d i).toInt - c else (lo1 i).toInt) := by
    intro c hc
    have ord : ∀ a b, a < n → b < n → bt (pred1 b) a = true → (if (lo1 a).toInt ≤ (hi1 a).toInt - (d a).toInt - c then (hi1 a).toInt - (d a).toInt - c else (lo1 a).toInt) + (d a).toInt ≤ (if (lo1 b).toInt ≤ (hi1 b).toInt - (d b).toInt - c then (hi1 b).toInt - (d b).toInt - c else (lo1 b).toInt) := by
      intro a b ha hb q
      have x := X a b ha hb q
      split <;> split <;> omega
    refine hS _ (fun a b ha hb hne hM => ?_) (js_G_C G ⟨fun a ha => ?_, ord⟩)
    · rcases hall a b ha hb hne hM with q | q
      · exact Or.inl (ord a b ha hb q)
      · exact Or.inr (ord b a hb ha q)
    · have := R a ha
      show _ ≤ (if (lo1 a).toInt ≤ (hi1 a).toInt - (d a).toInt - c then (hi1 a).toInt - (d a).toInt - c else (lo1 a).toInt) ∧ (if (lo1 a).toInt ≤ (hi1 a).toInt - (d a).toInt - c then (hi1 a).toInt - (d a).toInt - c else (lo1 a).toInt) + (d a).toInt ≤ _
      split <;> omega
  refine Or.inr ⟨rfl, ⟨_, key 0 (by omega)⟩, fun a ha => ⟨?_, fun t h1 h2 => ⟨_, key ((hi1 a).toInt - (d a).toInt - t) (by omega), ?_⟩⟩⟩
  · have := R a ha
    have := G a ha
    have := h0 a ha
    omega
  · show (if (lo1 a).toInt ≤ (hi1 a).toInt - (d a).toInt - ((hi1 a).toInt - (d a).toInt - t) then (hi1 a).toInt - (d a).toInt - ((hi1 a).toInt - (d a).toInt - t) else (lo1 a).toInt) = t
    split <;> omega
/-- the invariant of the search -/
def jn_I (n : Nat) (M d : Nat → Int32) (jb : Nat → Nat) (lo0 hi0 pred0 : Nat → Int32) (l : Nat) (lo hi pred : Nat → Int32) (fl : Int32) (sL sH sP sA sB : Nat → Int32) (x : Nat) : Prop :=
  (fl = 0 ∨ fl = 1) ∧ (fl = 0 → js_R n d lo hi ∧ js_G n lo0 hi0 pred0 lo hi pred) ∧ jw_u n pred + l ≤ 28 ∧
  ∃ A B : Nat → Nat, (∀ i, i < l → (A i < n ∧ B i < n ∧ sA i = nI (A i) ∧ sB i = nI (B i)) ∧ js_R n d (jn_r sL i) (jn_r sH i) ∧ js_G n lo0 hi0 pred0 (jn_r sL i) (jn_r sH i) (jn_p sP i (A i) (B i)) ∧ jw_u n (jn_p sP i (A i) (B i)) + i ≤ 28) ∧
    (∀ s, js_D n M d s → js_C n d lo0 hi0 pred0 s → (fl = 0 ∧ js_C n d lo hi pred s) ∨ ∃ i, i < l ∧ js_C n d (jn_r sL i) (jn_r sH i) (jn_p sP i (A i) (B i)) s) ∧
    jw_c n jb pred + js_s (fun i => jw_c n jb (jn_p sP i (A i) (B i))) l + x ≤ 141121
theorem jn_retreat {n : Nat} {M d : Nat → Int32} {jb : Nat → Nat} {lo0 hi0 pred0 : Nat → Int32} {l : Nat} {lo hi pred : Nat → Int32} {fl : Int32} {sL sH sP sA sB : Nat → Int32} {x : Nat} (hj : ∀ o, o < n → jb o < 4)
    (I : jn_I n M d jb lo0 hi0 pred0 (l + 1) lo hi pred fl sL sH sP sA sB x) (hno : ∀ s, js_D n M d s → ¬ (fl = 0 ∧ js_C n d lo hi pred s)) :
    ∃ A B, A < n ∧ B < n ∧ sA l = nI A ∧ sB l = nI B ∧ ∀ lo' hi' p, (∀ o, o < n → lo' o = sL (l * 8 + o) ∧ hi' o = sH (l * 8 + o) ∧ p o = sP (l * 8 + o)) → jn_I n M d jb lo0 hi0 pred0 l lo' hi' (upd p A (p A ||| ((1 : Int32) <<< (nI B &&& 31)))) 0 sL sH sP sA sB (x + 1) := by
  obtain ⟨_, _, _, A, B, h1, h2, h3⟩ := I
  obtain ⟨⟨a1, a2, a3, a4⟩, r1, g1, u1⟩ := h1 l (by omega)
  refine ⟨A l, B l, a1, a2, a3, a4, fun lo' hi' p e => ?_⟩
  have ep : ∀ o, o < n → upd p (A l) (p (A l) ||| ((1 : Int32) <<< (nI (B l) &&& 31))) o = jn_p sP l (A l) (B l) o := fun o ho => by
    unfold jn_p
    by_cases z : o = A l
    · rw [z, pk_us, pk_us, (e (A l) a1).2.2]
    · rw [pk_un z, pk_un z]; exact (e o ho).2.2
  have e3 : ∀ a, a < n → lo' a = jn_r sL l a ∧ hi' a = jn_r sH l a ∧ upd p (A l) (p (A l) ||| ((1 : Int32) <<< (nI (B l) &&& 31))) a = jn_p sP l (A l) (B l) a := fun a ha => ⟨(e a ha).1, (e a ha).2.1, ep a ha⟩
  refine ⟨Or.inl rfl, fun _ => ⟨fun a ha => ?_, fun a ha => ?_⟩, ?_, A, B, fun i hi => h1 i (by omega), fun s hD hC => ?_, ?_⟩
  · rw [(e3 a ha).1, (e3 a ha).2.1]; exact r1 a ha
  · rw [(e3 a ha).1, (e3 a ha).2.1, (e3 a ha).2.2]; exact g1 a ha
  · rw [jw_u_cg ep]; exact u1
  · rcases h2 s hD hC with q | ⟨i, hi, q⟩
    · exact absurd q (hno s hD)
    · by_cases z : i = l
      · subst z; exact Or.inl ⟨rfl, js_C_cg e3 q⟩
      · exact Or.inr ⟨i, by omega, q⟩
  · rw [jw_c_cg hj ep]
    have c1 : 1 ≤ jw_c n jb pred := by unfold jw_c; omega
    have c2 : js_s (fun i => jw_c n jb (jn_p sP i (A i) (B i))) (l + 1) = js_s (fun i => jw_c n jb (jn_p sP i (A i) (B i))) l + jw_c n jb (jn_p sP l (A l) (B l)) := rfl
    omega
theorem jn_branch {n : Nat} {M d : Nat → Int32} {jb : Nat → Nat} {lo0 hi0 pred0 : Nat → Int32} {l : Nat} {lo hi pred lo1 hi1 pred1 : Nat → Int32} {fl : Int32} {sL sH sP sA sB : Nat → Int32} {x : Nat} (hn : n ≤ 8) (hj : ∀ o, o < n → jb o < 4) (hd : js_d n d)
    (hj0 : ∀ a b, a < n → b < n → a < b → jb a = jb b → bt (pred0 b) a = true)
    (I : jn_I n M d jb lo0 hi0 pred0 l lo hi pred fl sL sH sP sA sB x) (S : js_S n M d lo hi pred fl lo1 hi1 pred1 0) (X : js_X n d lo1 hi1 pred1) {a b : Nat} (ha : a < n) (hb : b < n) (hc : jc_c M d lo1 a b) :
    l < 28 ∧ ∀ sL' sH' sP', (∀ x, x < l * 8 → sL' x = sL x ∧ sH' x = sH x ∧ sP' x = sP x) → (∀ o, o < n → sL' (l * 8 + o) = lo1 o ∧ sH' (l * 8 + o) = hi1 o ∧ sP' (l * 8 + o) = pred1 o) →
      jn_I n M d jb lo0 hi0 pred0 (l + 1) lo1 hi1 (upd pred1 a (pred1 a ||| ((1 : Int32) <<< (nI b &&& 31)))) 0 sL' sH' sP' (upd sA l (nI b)) (upd sB l (nI a)) (x + 1) := by
  obtain ⟨i1, i2, i3, A, B, h1, h2, h3⟩ := I
  have f0 : fl = 0 := js_fl0 S.1 rfl
  obtain ⟨R, G⟩ := i2 f0
  obtain ⟨R1, G1⟩ := (S.2 f0 R).2 rfl
  have G2 := js_G_tr G G1
  obtain ⟨⟨hne, hM⟩, c1, c2⟩ := hc
  have ra := R1 a ha
  have rb := R1 b hb
  have da := hd a ha
  have db := hd b hb
  have z1 : bt (pred1 b) a = false := ts_nt fun q => by
    apply c2
    rw [ja_le, ja_add (by omega) (by omega)]
    exact (X a b ha hb q).1
  have z2 : bt (pred1 a) b = false := ts_nt fun q => by
    apply c1
    rw [ja_le, ja_add (by omega) (by omega)]
    exact (X b a hb ha q).1
  have le1 : jw_le n pred1 (upd pred1 a (pred1 a ||| ((1 : Int32) <<< (nI b &&& 31)))) := jw_or_le _ _ _
  have le2 : jw_le n pred1 (upd pred1 b (pred1 b ||| ((1 : Int32) <<< (nI a &&& 31)))) := jw_or_le _ _ _
  have b1 : bt (upd pred1 a (pred1 a ||| ((1 : Int32) <<< (nI b &&& 31))) a) b = true := by rw [pk_us, jb_set (by omega) (by omega), decide_eq_true rfl, Bool.or_true]
  have b2 : bt (upd pred1 b (pred1 b ||| ((1 : Int32) <<< (nI a &&& 31))) b) a = true := by rw [pk_us, jb_set (by omega) (by omega), decide_eq_true rfl, Bool.or_true]
  have lep : jw_le n pred pred1 := fun x hx y hy q => (G1 x hx).2.2 y hy q
  have N1 := jw_N_pos hj hd X (fun x y hx hy hlt e => (G2 y hy).2.2 x hx (hj0 x y hx hy hlt e))
  have cs := jw_c_split hj N1 le1 le2 hb ha (Ne.symm hne) z1 z2 b1 b2
  have cm := jw_c_mono (jb := jb) hj lep
  have u0 := jw_u_mono lep
  have u1 := jw_u_lt le1 ha hb hne z2 z1 (Or.inl b1)
  have u2 := jw_u_lt le2 hb ha (Ne.symm hne) z1 z2 (Or.inl b2)
  refine ⟨by omega, fun sL' sH' sP' e1 e2 => ?_⟩
  let A' : Nat → Nat := fun i => if i = l then b else A i
  let B' : Nat → Nat := fun i => if i = l then a else B i
  have Al : A' l = b := if_pos rfl
  have Bl : B' l = a := if_pos rfl
  have Ai : ∀ i, i < l → A' i = A i := fun i hi => if_neg (by omega)
  have Bi : ∀ i, i < l → B' i = B i := fun i hi => if_neg (by omega)
  have el : ∀ o, o < n → jn_r sL' l o = lo1 o ∧ jn_r sH' l o = hi1 o ∧ jn_p sP' l b a o = upd pred1 b (pred1 b ||| ((1 : Int32) <<< (nI a &&& 31))) o := fun o ho => by
    refine ⟨(e2 o ho).1, (e2 o ho).2.1, ?_⟩
    unfold jn_p
    by_cases z : o = b
    · rw [z, pk_us, pk_us, (e2 b hb).2.2]
    · rw [pk_un z, pk_un z]; exact (e2 o ho).2.2
  have ei : ∀ i, i < l → ∀ o, o < n → jn_r sL' i o = jn_r sL i o ∧ jn_r sH' i o = jn_r sH i o ∧ jn_p sP' i (A i) (B i) o = jn_p sP i (A i) (B i) o := fun i hi o ho => by
    have q := e1 (i * 8 + o) (by omega)
    refine ⟨q.1, q.2.1, ?_⟩
    have q2 := e1 (i * 8 + A i) (by have := (h1 i hi).1.1; omega)
    unfold jn_p
    by_cases z : o = A i
    · rw [z, pk_us, pk_us, q2.2.2]
    · rw [pk_un z, pk_un z]; exact q.2.2
  refine ⟨Or.inl rfl, fun _ => ⟨R1, fun c hc => ⟨(G2 c hc).1, (G2 c hc).2.1, fun e he q => le1 c hc e he ((G2 c hc).2.2 e he q)⟩⟩, by omega, A', B', fun i hi => ?_, fun s hD hC => ?_, ?_⟩
  · by_cases z : i = l
    · subst z
      rw [Al, Bl]
      refine ⟨⟨hb, ha, pk_us, pk_us⟩, fun c hc => ?_, fun c hc => ?_, ?_⟩
      · rw [(el c hc).1, (el c hc).2.1]; exact R1 c hc
      · rw [(el c hc).1, (el c hc).2.1, (el c hc).2.2]
        exact ⟨(G2 c hc).1, (G2 c hc).2.1, fun e he q => le2 c hc e he ((G2 c hc).2.2 e he q)⟩
      · rw [jw_u_cg (fun c hc => (el c hc).2.2)]; omega
    · have hi' : i < l := by omega
      rw [Ai i hi', Bi i hi', pk_un z, pk_un z]
      obtain ⟨w1, w2, w3, w4⟩ := h1 i hi'
      refine ⟨w1, fun c hc => ?_, fun c hc => ?_, ?_⟩
      · rw [(ei i hi' c hc).1, (ei i hi' c hc).2.1]; exact w2 c hc
      · rw [(ei i hi' c hc).1, (ei i hi' c hc).2.1, (ei i hi' c hc).2.2]; exact w3 c hc
      · rw [jw_u_cg (fun c hc => (ei i hi' c hc).2.2)]; exact w4
  · rcases h2 s hD hC with ⟨_, q⟩ | ⟨i, hi, q⟩
    · have q1 := ((S.2 f0 R).1 s hD q).2
      rcases hD a b ha hb hne hM with w | w
      · refine Or.inr ⟨l, by omega, ?_⟩
        rw [Al, Bl]
        exact js_C_cg el (js_or_C (by omega) q1 (fun _ => w))
      · exact Or.inl ⟨rfl, js_or_C (by omega) q1 (fun _ => w)⟩
    · refine Or.inr ⟨i, by omega, ?_⟩
      rw [Ai i hi, Bi i hi]
      exact js_C_cg (ei i hi) q
  · have s1 : js_s (fun i => jw_c n jb (jn_p sP' i (A' i) (B' i))) (l + 1) = js_s (fun i => jw_c n jb (jn_p sP i (A i) (B i))) l + jw_c n jb (upd pred1 b (pred1 b ||| ((1 : Int32) <<< (nI a &&& 31)))) := by
      show js_s (fun i => jw_c n jb (jn_p sP' i (A' i) (B' i))) l + jw_c n jb (jn_p sP' l (A' l) (B' l)) = _
      rw [Al, Bl, jw_c_cg hj (fun c hc => (el c hc).2.2)]
      refine congrArg (· + _) (js_s_eq fun i hi => ?_)
      show jw_c n jb (jn_p sP' i (A' i) (B' i)) = _
      rw [Ai i hi, Bi i hi, jw_c_cg hj (fun c hc => (ei i hi c hc).2.2)]
    rw [s1]
    omega
end
section
/-! search -/
section
variable {f_machines f_firstHorizon f_horizon f_jobs f_depth f_recorded f_wantA f_wantB : Int32} {a_releaseOf a_dueOf a_jobOf a_machineOf a_durationOf a_entryA a_entryB a_noted a_wantFrom a_wantTo : Nat → Int32}
theorem jx_search7 {post : Int32 → SX → Prop} {n : Nat} {jb : Nat → Nat} {lo0 hi0 pred0 : Nat → Int32} {Sol : (Nat → Int) → Prop} (hn : n ≤ 8) (hd : js_d n a_durationOf) (hj : ∀ o, o < n → jb o < 4)
    (hj0 : ∀ a b, a < n → b < n → a < b → jb a = jb b → bt (pred0 b) a = true) (h0 : ∀ a, a < n → 0 ≤ (lo0 a).toInt ∧ (hi0 a).toInt ≤ 60)
    (hS1 : ∀ s, js_D n a_machineOf a_durationOf s → js_C n a_durationOf lo0 hi0 pred0 s → Sol s) (hS2 : ∀ s, Sol s → js_D n a_machineOf a_durationOf s ∧ js_C n a_durationOf lo0 hi0 pred0 s)
    (h : ∀ r (f_moved1 f_failed1 f_level1 f_pickA1 f_pickB1 f_inTree1 : Int32) (a_lo1 a_hi1 a_pred1 a_savedLo1 a_savedHi1 a_savedPred1 a_savedA1 a_savedB1 a_raised1 a_cut1 a_place1 a_sum1 a_ect1 : Nat → Int32), jn_O n a_durationOf Sol r a_lo1 a_hi1 → post r (f_machines, f_firstHorizon, f_horizon, f_jobs, nI n, f_depth, f_recorded, f_wantA, f_wantB, f_moved1, f_failed1, f_level1, f_pickA1, f_pickB1, f_inTree1, a_releaseOf, a_dueOf, a_jobOf, a_machineOf, a_durationOf, a_entryA, a_entryB, a_noted, a_wantFrom, a_wantTo, a_lo1, a_hi1, a_pred1, a_savedLo1, a_savedHi1, a_savedPred1, a_savedA1, a_savedB1, a_raised1, a_cut1, a_place1, a_sum1, a_ect1)) :
    ∀ (N x l : Nat) (f_moved0 f_failed0 f_level0 f_pickA0 f_pickB0 f_inTree0 : Int32) (a_lo0 a_hi0 a_pred0 a_savedLo0 a_savedHi0 a_savedPred0 a_savedA0 a_savedB0 a_raised0 a_cut0 a_place0 a_sum0 a_ect0 : Nat → Int32), 141122 ≤ N + x → f_level0 = nI l → jn_I n a_machineOf a_durationOf jb lo0 hi0 pred0 l a_lo0 a_hi0 a_pred0 f_failed0 a_savedLo0 a_savedHi0 a_savedPred0 a_savedA0 a_savedB0 x →
      (wX_search_7 post N (nI x) f_machines f_firstHorizon f_horizon f_jobs (nI n) f_depth f_recorded f_wantA f_wantB f_moved0 f_failed0 f_level0 f_pickA0 f_pickB0 f_inTree0 a_releaseOf a_dueOf a_jobOf a_machineOf a_durationOf a_entryA a_entryB a_noted a_wantFrom a_wantTo a_lo0 a_hi0 a_pred0 a_savedLo0 a_savedHi0 a_savedPred0 a_savedA0 a_savedB0 a_raised0 a_cut0 a_place0 a_sum0 a_ect0) := by
  intro N
  induction N with
  | zero =>
    intro x l f_moved0 f_failed0 f_level0 f_pickA0 f_pickB0 f_inTree0 a_lo0 a_hi0 a_pred0 a_savedLo0 a_savedHi0 a_savedPred0 a_savedA0 a_savedB0 a_raised0 a_cut0 a_place0 a_sum0 a_ect0 hN _ I
    obtain ⟨_, _, _, A, B, _, _, c⟩ := I
    have c1 : 1 ≤ jw_c n jb a_pred0 := by unfold jw_c; omega
    omega
  | succ N ih =>
    intro x l f_moved0 f_failed0 f_level0 f_pickA0 f_pickB0 f_inTree0 a_lo0 a_hi0 a_pred0 a_savedLo0 a_savedHi0 a_savedPred0 a_savedA0 a_savedB0 a_raised0 a_cut0 a_place0 a_sum0 a_ect0 hN el I
    subst el
    have hx : x ≤ 141120 := by
      obtain ⟨_, _, _, A, B, _, _, c⟩ := I
      have c1 : 1 ≤ jw_c n jb a_pred0 := by unfold jw_c; omega
      omega
    have I1 := I.1
    have I2 := I.2.1
    have hF : f_failed0 = 0 → js_F n a_lo0 a_hi0 a_pred0 < 1000 := fun z => js_F_bd hn fun a ha => by
      have := (I2 z).2 a ha
      have := h0 a ha
      omega
    refine br_f (nI_ge (b := 200000) (by omega) (by omega)) (jx_propagate hn hd I1 (fun z => (I2 z).1) hF (fun r lo hi pred mv fl ra cu pl inT sum ect S X hr => ?_))
    rcases hr with ⟨er, ef⟩ | ⟨er, ef⟩
    · subst er ef
      have f0 : f_failed0 = 0 := js_fl0 S.1 rfl
      obtain ⟨R, G⟩ := I2 f0
      obtain ⟨R1, G1⟩ := (S.2 f0 R).2 rfl
      have G2 := js_G_tr G G1
      refine br_f ja_10 (br_f ja_10 (jx_choosePair hn hd R1 (fun pA pB hnc => ?_) (fun a b ha hb hc => ?_)))
      · refine br_t rfl (jx_alignRest hn (fun pred1 hp1 => ?_))
        have hF1 : js_F n lo hi pred1 < 1000 := js_F_bd hn fun a ha => by
          have := G2 a ha
          have := h0 a ha
          omega
        refine jx_propagate hn hd (Or.inl rfl) (fun _ => R1) (fun _ => hF1) (fun r2 lo2 hi2 pred2 mv2 fl2 ra2 cu2 pl2 inT2 sum2 ect2 S2 X2 hr2 => ?_)
        have add : ∀ a b, a < n → b < n → (a_lo0 = a_lo0) → (lo a + a_durationOf a ≤ lo b ↔ (lo a).toInt + (a_durationOf a).toInt ≤ (lo b).toInt) := fun a b ha hb _ => by
          have := R1 a ha
          have := hd a ha
          rw [ja_le, ja_add (by omega) (by omega)]
        have sD : js_D n a_machineOf a_durationOf (fun a => (lo a).toInt) := fun a b ha hb hne hM => by
          show (lo a).toInt + (a_durationOf a).toInt ≤ (lo b).toInt ∨ (lo b).toInt + (a_durationOf b).toInt ≤ (lo a).toInt
          rw [← add a b ha hb rfl, ← add b a hb ha rfl]
          have := hnc a b ha hb
          apply Classical.byContradiction
          intro z
          exact this ⟨⟨hne, hM⟩, fun y => z (Or.inr y), fun y => z (Or.inl y)⟩
        have sC : js_C n a_durationOf lo hi pred1 (fun a => (lo a).toInt) := by
          refine ⟨fun a ha => ⟨Int.le_refl _, (R1 a ha).2.1⟩, fun a b ha hb q => ?_⟩
          rcases (hp1 a b ha hb).mp q with q | q
          · exact (X rfl a b ha hb q).1
          · exact (add a b ha hb rfl).mp q.2
        have f2 := ((S2.2 rfl R1).1 _ sD sC).1
        rcases hr2 with ⟨e1, e2⟩ | ⟨e1, e2⟩
        · subst e1
          obtain ⟨R2, G3⟩ := (S2.2 rfl R1).2 f2
          have G4 : js_G n lo hi pred lo hi pred1 := fun a ha => ⟨Int.le_refl _, Int.le_refl _, fun b hb q => (hp1 b a hb ha).mpr (Or.inl q)⟩
          refine ⟨rfl, rfl, h 1 mv2 fl2 (nI l) pA pB inT2 lo2 hi2 pred2 a_savedLo0 a_savedHi0 a_savedPred0 a_savedA0 a_savedB0 ra2 cu2 pl2 sum2 ect2 ?_⟩
          refine jn_final hd (js_G_tr G2 (js_G_tr G4 G3)) h0 R2 (X2 f2) (fun a b ha hb hne hM => ?_) hS1 (lo := lo) (hi := hi) (pred := pred)
          rcases sD a b ha hb hne hM with w | w
          · left
            exact (G3 b hb).2.2 a ha ((hp1 a b ha hb).mpr (Or.inr ⟨⟨hne, hM⟩, (add a b ha hb rfl).mpr w⟩))
          · right
            exact (G3 a ha).2.2 b hb ((hp1 b a hb ha).mpr (Or.inr ⟨⟨Ne.symm hne, hM.symm⟩, (add b a hb ha rfl).mpr w⟩))
        · rw [e2] at f2; exact absurd f2 ja_10
      · obtain ⟨hl, hB⟩ := jn_branch hn hj hd hj0 I S (X rfl) ha hb hc
        refine br_f ja_10 (jx_branch hn (by omega) hb ha (fun sL sH sP e1 e2 => ?_))
        exact nm_r (nI_1 x) (ih (x + 1) (l + 1) mv 0 (nI (l + 1)) (nI b) (nI a) inT lo hi _ sL sH sP _ _ ra cu pl sum ect (by omega) rfl (hB sL sH sP e1 e2))
    · subst er ef
      have hno : ∀ s, js_D n a_machineOf a_durationOf s → ¬ (f_failed0 = 0 ∧ js_C n a_durationOf a_lo0 a_hi0 a_pred0 s) := fun s hD q => by
        have := ((S.2 q.1 (I2 q.1).1).1 s hD q.2).1
        exact absurd this ja_10
      match l, I with
      | 0, I =>
        refine br_t rfl (br_f (by decide) (h 0 mv 1 (nI 0) f_pickA0 f_pickB0 inT lo hi pred a_savedLo0 a_savedHi0 a_savedPred0 a_savedA0 a_savedB0 ra cu pl sum ect (Or.inl ⟨rfl, ?_⟩)))
        rintro ⟨s, hs⟩
        obtain ⟨hD, hC⟩ := hS2 s hs
        obtain ⟨_, _, _, A, B, _, q, _⟩ := I
        rcases q s hD hC with q | ⟨i, hi, _⟩
        · exact hno s hD q
        · omega
      | l + 1, I =>
        obtain ⟨A, B, hA, hB, eA, eB, hr⟩ := jn_retreat hj I hno
        have hl : l + 1 ≤ 28 := by have := I.2.2.1; omega
        refine br_t rfl (br_t (nI_lt (a := 0) (by omega) (by omega)) (br_t rfl (jx_retreat hn (by omega) hA hB eA eB (fun lo' hi' p e => ?_))))
        exact nm_r (nI_1 x) (ih (x + 1) l mv 0 (nI l) f_pickA0 f_pickB0 inT lo' hi' _ a_savedLo0 a_savedHi0 a_savedPred0 a_savedA0 a_savedB0 ra cu pl sum ect (by omega) rfl (hr lo' hi' p e))
end
/-- a feasible schedule -/
def jf_F (n dp : Nat) (M d rel due jobOf entryA entryB : Nat → Int32) (hz : Int) (s : Nat → Int) : Prop :=
  (∀ a, a < n → (rel (jobOf a).toNatClampNeg).toInt ≤ s a ∧ s a + (d a).toInt ≤ (due (jobOf a).toNatClampNeg).toInt ∧ s a + (d a).toInt ≤ hz) ∧
  (∀ a b, a < n → b < n → a < b → jobOf a = jobOf b → s a + (d a).toInt ≤ s b) ∧ js_D n M d s ∧
  (∀ e, e < dp → ∀ a b, a < n → b < n → entryA e = nI a → entryB e = nI b → s a + (d a).toInt ≤ s b)
/-- a schedule that answers the question -/
def jf_S (n dp : Nat) (M d rel due jobOf entryA entryB : Nat → Int32) (wantA wantB : Int32) (from' to' : Nat → Int32) (hz : Int) (s : Nat → Int) : Prop :=
  jf_F n dp M d rel due jobOf entryA entryB hz s ∧ (∀ a, a < n → (from' a).toInt ≤ s a ∧ s a ≤ (to' a).toInt) ∧ (∀ a b, a < n → b < n → wantA = nI a → wantB = nI b → s a + (d a).toInt ≤ s b)
/-- the problem is well formed -/
def jf_V (n dp : Nat) (M d rel due jobOf entryA entryB : Nat → Int32) : Prop :=
  n ≤ 8 ∧ dp ≤ 12 ∧ js_d n d ∧ (∀ a, a < n → ∃ j, j < 4 ∧ jobOf a = nI j) ∧ (∀ a, a < n → ∃ m, m < 4 ∧ M a = nI m) ∧
  (∀ a, a < n → 0 ≤ (rel (jobOf a).toNatClampNeg).toInt ∧ (rel (jobOf a).toNatClampNeg).toInt ≤ 60 ∧ 0 ≤ (due (jobOf a).toNatClampNeg).toInt ∧ (due (jobOf a).toNatClampNeg).toInt ≤ 60) ∧
  (∀ e, e < dp → entryA e = -5 ∨ ∃ a b, a < n ∧ b < n ∧ a ≠ b ∧ M a = M b ∧ entryA e = nI a ∧ entryB e = nI b)
theorem jt_mx_le_iff (x y : Int32) (t : Int) : (jt_mx x y).toInt ≤ t ↔ x.toInt ≤ t ∧ y.toInt ≤ t :=
  ⟨fun h => ⟨Int.le_trans (jt_mx_ge1 x y) h, Int.le_trans (jt_mx_ge2 x y) h⟩, fun h => jt_mx_le h.1 h.2⟩
theorem jt_mn_ge_iff (x y : Int32) (t : Int) : t ≤ (jt_mn x y).toInt ↔ t ≤ x.toInt ∧ t ≤ y.toInt :=
  ⟨fun h => ⟨Int.le_trans h (jt_mn_le1 x y), Int.le_trans h (jt_mn_le2 x y)⟩, fun h => jt_mn_ge h.1 h.2⟩
theorem jf_load {n dp : Nat} {M d rel due jobOf entryA entryB from' to' lo hi pred : Nat → Int32} {wantA wantB cap fl : Int32} (V : jf_V n dp M d rel due jobOf entryA entryB)
    (hft : ∀ a, a < n → (-1000 ≤ (from' a).toInt ∧ (from' a).toInt ≤ 1000) ∧ -1000 ≤ (to' a).toInt ∧ (to' a).toInt ≤ 1000)
    (W : jl_W n d rel due jobOf from' to' cap lo hi fl) (B : ∀ a b, a < n → b < n → (bt (pred b) a = true ↔ (jl_B dp jobOf entryA entryB a b ∨ (wantA = nI a ∧ wantB = nI b)))) :
    (∀ s, js_D n M d s → js_C n d lo hi pred s → jf_S n dp M d rel due jobOf entryA entryB wantA wantB from' to' cap.toInt s) ∧
    (∀ s, jf_S n dp M d rel due jobOf entryA entryB wantA wantB from' to' cap.toInt s → js_D n M d s ∧ js_C n d lo hi pred s ∧ fl = 0) ∧
    (∀ a, a < n → 0 ≤ (lo a).toInt ∧ (hi a).toInt ≤ 60) ∧ (fl = 0 → js_R n d lo hi) := by
  obtain ⟨hn, hdp, hd, hj, hm, hr, ht⟩ := V
  have hw : ∀ a, a < n → ∀ s : Int, (((lo a).toInt ≤ s ∧ s + (d a).toInt ≤ (hi a).toInt) ↔ ((rel (jobOf a).toNatClampNeg).toInt ≤ s ∧ s + (d a).toInt ≤ (due (jobOf a).toNatClampNeg).toInt ∧ s + (d a).toInt ≤ cap.toInt ∧ (from' a).toInt ≤ s ∧ s ≤ (to' a).toInt)) := by
    intro a ha s
    have := hft a ha
    have := hd a ha
    rw [(W.1 a ha).1, (W.1 a ha).2, jt_mx_le_iff, jt_mn_ge_iff, jt_mn_ge_iff, ja_add (by omega) (by omega)]
    omega
  have h0 : ∀ a, a < n → 0 ≤ (lo a).toInt ∧ (hi a).toInt ≤ 60 := fun a ha => by
    have r := hr a ha
    rw [(W.1 a ha).1, (W.1 a ha).2]
    have x1 := jt_mx_ge1 (rel (jobOf a).toNatClampNeg) (from' a)
    have x2 := jt_mn_le1 (jt_mn (due (jobOf a).toNatClampNeg) cap) (to' a + d a)
    have x3 := jt_mn_le1 (due (jobOf a).toNatClampNeg) cap
    omega
  have l0 : ∀ a, a < n → (lo a).toInt ≤ 1000 := fun a ha => by
    have := hr a ha
    have := hft a ha
    rw [(W.1 a ha).1]
    exact jt_mx_le (by omega) (by omega)
  refine ⟨fun s hD hC => ⟨⟨fun a ha => ?_, fun a b ha hb hlt e => ?_, hD, fun e he a b ha hb e1 e2 => ?_⟩, fun a ha => ?_, fun a b ha hb e1 e2 => ?_⟩, fun s hs => ?_, h0, fun z a ha => ?_⟩
  · have := (hw a ha (s a)).mp (hC.1 a ha); exact ⟨this.1, this.2.1, this.2.2.1⟩
  · exact hC.2 a b ha hb ((B a b ha hb).mpr (Or.inl (Or.inl ⟨hlt, e⟩)))
  · exact hC.2 a b ha hb ((B a b ha hb).mpr (Or.inl (Or.inr ⟨e, he, e1, e2⟩)))
  · have := (hw a ha (s a)).mp (hC.1 a ha); exact this.2.2.2
  · exact hC.2 a b ha hb ((B a b ha hb).mpr (Or.inr ⟨e1, e2⟩))
  · obtain ⟨⟨s1, s2, s3, s4⟩, s5, s6⟩ := hs
    have cb : ∀ a, a < n → (lo a).toInt ≤ s a ∧ s a + (d a).toInt ≤ (hi a).toInt := fun a ha => (hw a ha (s a)).mpr ⟨(s1 a ha).1, (s1 a ha).2.1, (s1 a ha).2.2, s5 a ha⟩
    refine ⟨s3, ⟨cb, fun a b ha hb q => ?_⟩, ?_⟩
    · rcases (B a b ha hb).mp q with (q | ⟨e, he, e1, e2⟩) | q
      · exact s2 a b ha hb q.1 q.2
      · exact s4 e he a b ha hb e1 e2
      · exact s6 a b ha hb q.1 q.2
    · rcases W.2 with ⟨w, _⟩ | ⟨_, w⟩
      · exact w
      · refine absurd (fun a ha => ?_) w
        have := cb a ha
        have := hd a ha
        have := h0 a ha
        have := l0 a ha
        rw [ja_le, ja_add (by omega) (by omega)]
        omega
  · rcases W.2 with ⟨_, w⟩ | ⟨w, _⟩
    · have := w a ha
      have := hd a ha
      have := h0 a ha
      have := l0 a ha
      have q := ja_le.mp (w a ha)
      rw [ja_add (by omega) (by omega)] at q
      omega
    · rw [w] at z; exact absurd z ja_10
section
variable {f_machines f_firstHorizon f_horizon f_jobs f_recorded f_wantA f_wantB f_moved f_failed f_level f_pickA f_pickB f_inTree : Int32} {a_releaseOf a_dueOf a_jobOf a_machineOf a_durationOf a_entryA a_entryB a_noted a_wantFrom a_wantTo a_lo a_hi a_pred a_savedLo a_savedHi a_savedPred a_savedA a_savedB a_raised a_cut a_place a_sum a_ect : Nat → Int32}
theorem jx_search {post : Int32 → SX → Prop} {n dp : Nat} {cap : Int32} (V : jf_V n dp a_machineOf a_durationOf a_releaseOf a_dueOf a_jobOf a_entryA a_entryB)
    (hft : ∀ a, a < n → (-1000 ≤ (a_wantFrom a).toInt ∧ (a_wantFrom a).toInt ≤ 1000) ∧ -1000 ≤ (a_wantTo a).toInt ∧ (a_wantTo a).toInt ≤ 1000)
    (hW : f_wantA = -5 ∨ ∃ a b, a < n ∧ b < n ∧ f_wantA = nI a ∧ f_wantB = nI b)
    (h : ∀ r (f_moved1 f_failed1 f_level1 f_pickA1 f_pickB1 f_inTree1 : Int32) (a_lo1 a_hi1 a_pred1 a_savedLo1 a_savedHi1 a_savedPred1 a_savedA1 a_savedB1 a_raised1 a_cut1 a_place1 a_sum1 a_ect1 : Nat → Int32), jn_O n a_durationOf (jf_S n dp a_machineOf a_durationOf a_releaseOf a_dueOf a_jobOf a_entryA a_entryB f_wantA f_wantB a_wantFrom a_wantTo cap.toInt) r a_lo1 a_hi1 → post r (f_machines, f_firstHorizon, f_horizon, f_jobs, nI n, nI dp, f_recorded, f_wantA, f_wantB, f_moved1, f_failed1, f_level1, f_pickA1, f_pickB1, f_inTree1, a_releaseOf, a_dueOf, a_jobOf, a_machineOf, a_durationOf, a_entryA, a_entryB, a_noted, a_wantFrom, a_wantTo, a_lo1, a_hi1, a_pred1, a_savedLo1, a_savedHi1, a_savedPred1, a_savedA1, a_savedB1, a_raised1, a_cut1, a_place1, a_sum1, a_ect1)) :
    (wpX_search post (f_machines, f_firstHorizon, f_horizon, f_jobs, nI n, nI dp, f_recorded, f_wantA, f_wantB, f_moved, f_failed, f_level, f_pickA, f_pickB, f_inTree, a_releaseOf, a_dueOf, a_jobOf, a_machineOf, a_durationOf, a_entryA, a_entryB, a_noted, a_wantFrom, a_wantTo, a_lo, a_hi, a_pred, a_savedLo, a_savedHi, a_savedPred, a_savedA, a_savedB, a_raised, a_cut, a_place, a_sum, a_ect) cap) := by
  unfold wpX_search
  dsimp only
  have V' := V
  obtain ⟨hn, hdp, hd, hj, hm, hr, ht⟩ := V'
  refine jx_load hn hdp (fun e he => (ht e he).imp id (fun ⟨a, b, ha, hb, _, _, q⟩ => ⟨a, b, ha, hb, q⟩)) hW hj (fun lo hi pred fl W B => ?_)
  obtain ⟨L1, L2, L3, L4⟩ := jf_load V hft W B
  have hjb : ∃ jb : Nat → Nat, ∀ o, o < n → jb o < 4 ∧ a_jobOf o = nI (jb o) := by
    have : ∀ o, ∃ j, o < n → j < 4 ∧ a_jobOf o = nI j := fun o => by
      by_cases z : o < n
      · obtain ⟨j, q⟩ := hj o z; exact ⟨j, fun _ => q⟩
      · exact ⟨0, fun q => absurd q z⟩
    exact Classical.axiomOfChoice this
  obtain ⟨jb, hjb⟩ := hjb
  have cb := jw_c_bd (jb := jb) hn (fun o ho => (hjb o ho).1) pred
  refine ⟨141122, ?_⟩
  refine jx_search7 hn hd (fun o ho => (hjb o ho).1) (lo0 := lo) (hi0 := hi) (pred0 := pred) (fun a b ha hb hlt e => (B a b ha hb).mpr (Or.inl (Or.inl ⟨hlt, by rw [(hjb a ha).2, (hjb b hb).2, e]⟩))) L3 L1 (fun s hs => ⟨(L2 s hs).1, (L2 s hs).2.1⟩) h 141122 0 0 f_moved fl 0 f_pickA f_pickB f_inTree lo hi pred a_savedLo a_savedHi a_savedPred a_savedA a_savedB a_raised a_cut a_place a_sum a_ect (by omega) rfl ?_
  refine ⟨by rcases W.2 with w | w; exact Or.inl w.1; exact Or.inr w.1, fun z => ⟨L4 z, js_G_rf⟩, by have := jw_u_bd hn pred; omega, fun _ => 0, fun _ => 0, fun i hi => by omega, fun s hD hC => Or.inl ⟨?_, hC⟩, ?_⟩
  · exact (L2 s (L1 s hD hC)).2.2
  · show jw_c n jb pred + 0 + 0 ≤ 141121
    omega
end
end
section
/-! the next word in dictionary order -/
def jy_nx (n : Nat) (g g' : Nat → Nat) : Prop := ∃ i j, i < j ∧ j < n ∧ g i < g (i + 1) ∧ (∀ x, i < x → x + 1 < n → g (x + 1) ≤ g x) ∧ g i < g j ∧ (∀ x, j < x → x < n → g x ≤ g i) ∧
  (∀ x, x < i → g' x = g x) ∧ g' i = g j ∧ (∀ x, i < x → x < n → g' x = if n + i - x = j then g i else g (n + i - x))
def jy_n (w w' : List Nat) : Prop := w'.length = w.length ∧ jy_nx w.length (fun x => w.getD x 0) (fun x => w'.getD x 0)
theorem jy_n_cons {w w' : List Nat} (a : Nat) (h : jy_n w w') : jy_n (a :: w) (a :: w') := by
  obtain ⟨e, i, j, h1, h2, h3, h4, h5, h6, h7, h8, h9⟩ := h
  refine ⟨by rw [List.length_cons, List.length_cons, e], i + 1, j + 1, by omega, by rw [List.length_cons]; omega, ?_, ?_, ?_, ?_, ?_, ?_, ?_⟩
  · exact h3
  · intro x hx hx2
    rw [List.length_cons] at hx2
    obtain ⟨y, rfl⟩ : ∃ y, x = y + 1 := ⟨x - 1, by omega⟩
    exact h4 y (by omega) (by omega)
  · exact h5
  · intro x hx hx2
    rw [List.length_cons] at hx2
    obtain ⟨y, rfl⟩ : ∃ y, x = y + 1 := ⟨x - 1, by omega⟩
    exact h6 y (by omega) (by omega)
  · intro x hx
    match x, hx with
    | 0, _ => rfl
    | y + 1, hx => exact h7 y (by omega)
  · exact h8
  · intro x hx hx2
    rw [List.length_cons] at hx2
    obtain ⟨y, rfl⟩ : ∃ y, x = y + 1 := ⟨x - 1, by omega⟩
    have q := h9 y (by omega) (by omega)
    have e1 : (a :: w).length + (i + 1) - (y + 1) = (w.length + i - y) + 1 := by rw [List.length_cons]; omega
    have q' : w'.getD y 0 = if w.length + i - y = j then w.getD i 0 else w.getD (w.length + i - y) 0 := q
    show w'.getD y 0 = if (a :: w).length + (i + 1) - (y + 1) = j + 1 then w.getD i 0 else (a :: w).getD ((a :: w).length + (i + 1) - (y + 1)) 0
    rw [e1, q']
    by_cases z : w.length + i - y = j
    · rw [if_pos z, if_pos (by omega)]
    · rw [if_neg z, if_neg (by omega)]; rfl
def jy_ch : List Nat → List (List Nat) → List Nat → Prop
  | _, [], _ => False
  | x, w :: l, y => w = x ∧ ((l = [] ∧ w = y) ∨ ∃ w', jy_n w w' ∧ jy_ch w' l y)
theorem jy_ch_app : ∀ {l : List (List Nat)} {x y : List Nat} {l' : List (List Nat)} {x' y' : List Nat}, jy_ch x l y → jy_ch x' l' y' → jy_n y x' → jy_ch x (l ++ l') y' := by
  intro l
  induction l with
  | nil => intro x y l' x' y' h; exact absurd h id
  | cons w l il =>
    intro x y l' x' y' h h' hn
    obtain ⟨e, q⟩ := h
    refine ⟨e, Or.inr ?_⟩
    rcases q with ⟨e1, e2⟩ | ⟨w', q1, q2⟩
    · subst e1
      exact ⟨x', by rw [e2]; exact hn, h'⟩
    · exact ⟨w', q1, il q2 h' hn⟩
theorem jy_ch_map (a : Nat) : ∀ {l : List (List Nat)} {x y : List Nat}, jy_ch x l y → jy_ch (a :: x) (l.map (fun w => a :: w)) (a :: y) := by
  intro l
  induction l with
  | nil => intro x y h; exact absurd h id
  | cons w l il =>
    intro x y h
    obtain ⟨e, q⟩ := h
    refine ⟨by rw [e], ?_⟩
    rcases q with ⟨e1, e2⟩ | ⟨w', q1, q2⟩
    · exact Or.inl ⟨by rw [e1]; rfl, by rw [e2]⟩
    · exact Or.inr ⟨a :: w', jy_n_cons a q1, il q2⟩
def jy_a (a b c d : Nat) : List Nat := List.replicate a 0 ++ (List.replicate b 1 ++ (List.replicate c 2 ++ List.replicate d 3))
def jy_d (a b c d : Nat) : List Nat := List.replicate d 3 ++ (List.replicate c 2 ++ (List.replicate b 1 ++ List.replicate a 0))
def jy_ok (w w' : List Nat) (j : Nat) : Bool :=
  decide (0 < j) && decide (j < w.length) && decide (w'.length = w.length) && decide (w.getD 0 0 < w.getD 1 0) &&
  (List.range w.length).all (fun x => decide (x = 0) || !decide (x + 1 < w.length) || decide (w.getD (x + 1) 0 ≤ w.getD x 0)) && decide (w.getD 0 0 < w.getD j 0) &&
  (List.range w.length).all (fun x => !decide (j < x) || decide (w.getD x 0 ≤ w.getD 0 0)) && decide (w'.getD 0 0 = w.getD j 0) &&
  (List.range w.length).all (fun x => decide (x = 0) || decide (w'.getD x 0 = if w.length - x = j then w.getD 0 0 else w.getD (w.length - x) 0))
theorem jy_ok_n {w w' : List Nat} {j : Nat} (h : jy_ok w w' j = true) : jy_n w w' := by
  unfold jy_ok at h
  simp only [Bool.and_eq_true, decide_eq_true_eq, List.all_eq_true, Bool.or_eq_true, Bool.not_eq_true', decide_eq_false_iff_not, List.mem_range] at h
  obtain ⟨⟨⟨⟨⟨⟨⟨⟨h1, h2⟩, h3⟩, h4⟩, h5⟩, h6⟩, h7⟩, h8⟩, h9⟩ := h
  refine ⟨h3, 0, j, h1, h2, h4, fun x hx hx2 => ?_, h6, fun x hx hx2 => ?_, fun x hx => by omega, h8, fun x hx hx2 => ?_⟩
  · rcases h5 x (by omega) with (q | q) | q
    · omega
    · exact absurd hx2 q
    · exact q
  · rcases h7 x hx2 with q | q
    · exact absurd hx q
    · exact q
  · rcases h9 x hx2 with q | q
    · omega
    · exact q
def jy_all (a b c d : Nat) : Bool :=
  (decide (a = 0) || decide (b = 0) || jy_ok (0 :: jy_d (a - 1) b c d) (1 :: jy_a a (b - 1) c d) (b + c + d)) &&
  (decide (a = 0) || !decide (b = 0) || decide (c = 0) || jy_ok (0 :: jy_d (a - 1) b c d) (2 :: jy_a a b (c - 1) d) (b + c + d)) &&
  (decide (a = 0) || !decide (b = 0) || !decide (c = 0) || decide (d = 0) || jy_ok (0 :: jy_d (a - 1) b c d) (3 :: jy_a a b c (d - 1)) (b + c + d)) &&
  (decide (b = 0) || decide (c = 0) || jy_ok (1 :: jy_d a (b - 1) c d) (2 :: jy_a a b (c - 1) d) (c + d)) &&
  (decide (b = 0) || !decide (c = 0) || decide (d = 0) || jy_ok (1 :: jy_d a (b - 1) c d) (3 :: jy_a a b c (d - 1)) (c + d)) &&
  (decide (c = 0) || decide (d = 0) || jy_ok (2 :: jy_d a b (c - 1) d) (3 :: jy_a a b c (d - 1)) d) &&
  (List.range (a + b + c + d)).all (fun x => !decide (x + 1 < a + b + c + d) || decide ((jy_d a b c d).getD (x + 1) 0 ≤ (jy_d a b c d).getD x 0))
set_option maxRecDepth 100000 in
theorem jy_dec : ∀ a, a < 9 → ∀ b, b < 9 → ∀ c, c < 9 → ∀ d, d < 9 → a + b + c + d ≤ 8 → jy_all a b c d = true := by decide +kernel
def jy_asc (c : Nat → Nat) : List Nat := jy_a (c 0) (c 1) (c 2) (c 3)
def jy_desc (c : Nat → Nat) : List Nat := jy_d (c 0) (c 1) (c 2) (c 3)
theorem jy_bd {c : Nat → Nat} (h : c 0 + c 1 + c 2 + c 3 ≤ 8) {j j' : Nat} (hjj : j < j') (hj' : j' < 4) (z : c j ≠ 0) (z' : c j' ≠ 0) (hb : ∀ x, j < x → x < j' → c x = 0) : jy_n (j :: jy_desc (jw_dc c j)) (j' :: jy_asc (jw_dc c j')) := by
  have A := jy_dec (c 0) (by omega) (c 1) (by omega) (c 2) (by omega) (c 3) (by omega) h
  unfold jy_all at A
  simp only [Bool.and_eq_true, Bool.or_eq_true, decide_eq_true_eq, Bool.not_eq_true', decide_eq_false_iff_not] at A
  obtain ⟨⟨⟨⟨⟨⟨a1, a2⟩, a3⟩, a4⟩, a5⟩, a6⟩, _⟩ := A
  match j, j', hjj, hj', z, z', hb with
  | 0, 1, _, _, z, z', hb => exact jy_ok_n ((a1.resolve_left (by omega)))
  | 0, 2, _, _, z, z', hb => exact jy_ok_n (a2.resolve_left (by have := hb 1 (by omega) (by omega); omega))
  | 0, 3, _, _, z, z', hb => exact jy_ok_n (a3.resolve_left (by have := hb 1 (by omega) (by omega); have := hb 2 (by omega) (by omega); omega))
  | 1, 2, _, _, z, z', hb => exact jy_ok_n (a4.resolve_left (by omega))
  | 1, 3, _, _, z, z', hb => exact jy_ok_n (a5.resolve_left (by have := hb 2 (by omega) (by omega); omega))
  | 2, 3, _, _, z, z', hb => exact jy_ok_n (a6.resolve_left (by omega))
  | j + 3, j', h1, h2, _, _, _ => exact absurd h1 (by omega)
theorem jy_last {c : Nat → Nat} (h : c 0 + c 1 + c 2 + c 3 ≤ 8) : ∀ x, x + 1 < c 0 + c 1 + c 2 + c 3 → (jy_desc c).getD (x + 1) 0 ≤ (jy_desc c).getD x 0 := by
  have A := jy_dec (c 0) (by omega) (c 1) (by omega) (c 2) (by omega) (c 3) (by omega) h
  unfold jy_all at A
  simp only [Bool.and_eq_true, Bool.or_eq_true, decide_eq_true_eq, Bool.not_eq_true', decide_eq_false_iff_not, List.all_eq_true, List.mem_range] at A
  intro x hx
  rcases A.2 x (by omega) with q | q
  · exact absurd hx q
  · exact q
theorem jy_rep {m : Nat} (h : m ≠ 0) (v : Nat) : List.replicate m v = v :: List.replicate (m - 1) v := by
  obtain ⟨k, rfl⟩ : ∃ k, m = k + 1 := ⟨m - 1, by omega⟩
  rfl
theorem jy_asc_c {c : Nat → Nat} {x : Nat} (hx : x < 4) (z : c x ≠ 0) (h : ∀ i, i < x → c i = 0) : x :: jy_asc (jw_dc c x) = jy_asc c := by
  match x, hx, z, h with
  | 0, _, z, h =>
    show 0 :: (List.replicate (c 0 - 1) 0 ++ (List.replicate (c 1) 1 ++ (List.replicate (c 2) 2 ++ List.replicate (c 3) 3))) = List.replicate (c 0) 0 ++ (List.replicate (c 1) 1 ++ (List.replicate (c 2) 2 ++ List.replicate (c 3) 3))
    rw [jy_rep z]; rfl
  | 1, _, z, h =>
    show 1 :: (List.replicate (c 0) 0 ++ (List.replicate (c 1 - 1) 1 ++ (List.replicate (c 2) 2 ++ List.replicate (c 3) 3))) = List.replicate (c 0) 0 ++ (List.replicate (c 1) 1 ++ (List.replicate (c 2) 2 ++ List.replicate (c 3) 3))
    rw [jy_rep z, h 0 (by omega)]; rfl
  | 2, _, z, h =>
    show 2 :: (List.replicate (c 0) 0 ++ (List.replicate (c 1) 1 ++ (List.replicate (c 2 - 1) 2 ++ List.replicate (c 3) 3))) = List.replicate (c 0) 0 ++ (List.replicate (c 1) 1 ++ (List.replicate (c 2) 2 ++ List.replicate (c 3) 3))
    rw [jy_rep z, h 0 (by omega), h 1 (by omega)]; rfl
  | 3, _, z, h =>
    show 3 :: (List.replicate (c 0) 0 ++ (List.replicate (c 1) 1 ++ (List.replicate (c 2) 2 ++ List.replicate (c 3 - 1) 3))) = List.replicate (c 0) 0 ++ (List.replicate (c 1) 1 ++ (List.replicate (c 2) 2 ++ List.replicate (c 3) 3))
    rw [jy_rep z, h 0 (by omega), h 1 (by omega), h 2 (by omega)]; rfl
theorem jy_desc_c {c : Nat → Nat} {x : Nat} (hx : x < 4) (z : c x ≠ 0) (h : ∀ i, x < i → i < 4 → c i = 0) : x :: jy_desc (jw_dc c x) = jy_desc c := by
  match x, hx, z, h with
  | 3, _, z, h =>
    show 3 :: (List.replicate (c 3 - 1) 3 ++ (List.replicate (c 2) 2 ++ (List.replicate (c 1) 1 ++ List.replicate (c 0) 0))) = List.replicate (c 3) 3 ++ (List.replicate (c 2) 2 ++ (List.replicate (c 1) 1 ++ List.replicate (c 0) 0))
    rw [jy_rep z]; rfl
  | 2, _, z, h =>
    show 2 :: (List.replicate (c 3) 3 ++ (List.replicate (c 2 - 1) 2 ++ (List.replicate (c 1) 1 ++ List.replicate (c 0) 0))) = List.replicate (c 3) 3 ++ (List.replicate (c 2) 2 ++ (List.replicate (c 1) 1 ++ List.replicate (c 0) 0))
    rw [jy_rep z, h 3 (by omega) (by omega)]; rfl
  | 1, _, z, h =>
    show 1 :: (List.replicate (c 3) 3 ++ (List.replicate (c 2) 2 ++ (List.replicate (c 1 - 1) 1 ++ List.replicate (c 0) 0))) = List.replicate (c 3) 3 ++ (List.replicate (c 2) 2 ++ (List.replicate (c 1) 1 ++ List.replicate (c 0) 0))
    rw [jy_rep z, h 3 (by omega) (by omega), h 2 (by omega) (by omega)]; rfl
  | 0, _, z, h =>
    show 0 :: (List.replicate (c 3) 3 ++ (List.replicate (c 2) 2 ++ (List.replicate (c 1) 1 ++ List.replicate (c 0 - 1) 0))) = List.replicate (c 3) 3 ++ (List.replicate (c 2) 2 ++ (List.replicate (c 1) 1 ++ List.replicate (c 0) 0))
    rw [jy_rep z, h 3 (by omega) (by omega), h 2 (by omega) (by omega), h 1 (by omega) (by omega)]; rfl
theorem jy_dc_sum {c : Nat → Nat} {j : Nat} (hj : j < 4) (z : c j ≠ 0) : jw_dc c j 0 + jw_dc c j 1 + jw_dc c j 2 + jw_dc c j 3 + 1 = c 0 + c 1 + c 2 + c 3 := by
  match j, hj, z with
  | 0, _, z => show c 0 - 1 + c 1 + c 2 + c 3 + 1 = _; omega
  | 1, _, z => show c 0 + (c 1 - 1) + c 2 + c 3 + 1 = _; omega
  | 2, _, z => show c 0 + c 1 + (c 2 - 1) + c 3 + 1 = _; omega
  | 3, _, z => show c 0 + c 1 + c 2 + (c 3 - 1) + 1 = _; omega
theorem jy_chain : ∀ (k : Nat) (c : Nat → Nat), c 0 + c 1 + c 2 + c 3 = k → k ≤ 8 → jy_ch (jy_asc c) (jw_ws k c) (jy_desc c) := by
  intro k
  induction k with
  | zero =>
    intro c hs _
    have e0 : c 0 = 0 := by omega
    have e1 : c 1 = 0 := by omega
    have e2 : c 2 = 0 := by omega
    have e3 : c 3 = 0 := by omega
    have ea : jy_asc c = [] := by unfold jy_asc; rw [e0, e1, e2, e3]; rfl
    have ed : jy_desc c = [] := by unfold jy_desc; rw [e0, e1, e2, e3]; rfl
    rw [ea, ed]
    exact ⟨rfl, Or.inl ⟨rfl, rfl⟩⟩
  | succ k ih =>
    intro c hs hk
    have blk : ∀ j, j < 4 → c j ≠ 0 → jy_ch (j :: jy_asc (jw_dc c j)) (jw_bl (jw_ws k) c j) (j :: jy_desc (jw_dc c j)) := by
      intro j hj z
      unfold jw_bl
      rw [if_neg z]
      have := jy_dc_sum hj z
      exact jy_ch_map j (ih (jw_dc c j) (by omega) (by omega))
    have step : ∀ j l, j < 4 →
        ((l = [] ∧ ∀ x, j + 1 ≤ x → x < 4 → c x = 0) ∨ (∃ x0 x1, (j + 1 ≤ x0 ∧ x0 < 4 ∧ c x0 ≠ 0 ∧ ∀ x, j + 1 ≤ x → x < x0 → c x = 0) ∧ (x1 < 4 ∧ c x1 ≠ 0 ∧ ∀ x, x1 < x → x < 4 → c x = 0) ∧ jy_ch (x0 :: jy_asc (jw_dc c x0)) l (x1 :: jy_desc (jw_dc c x1)))) →
        ((jw_bl (jw_ws k) c j ++ l = [] ∧ ∀ x, j ≤ x → x < 4 → c x = 0) ∨ (∃ x0 x1, (j ≤ x0 ∧ x0 < 4 ∧ c x0 ≠ 0 ∧ ∀ x, j ≤ x → x < x0 → c x = 0) ∧ (x1 < 4 ∧ c x1 ≠ 0 ∧ ∀ x, x1 < x → x < 4 → c x = 0) ∧ jy_ch (x0 :: jy_asc (jw_dc c x0)) (jw_bl (jw_ws k) c j ++ l) (x1 :: jy_desc (jw_dc c x1)))) := by
      intro j l hj P
      by_cases z : c j = 0
      · have e : jw_bl (jw_ws k) c j = [] := by unfold jw_bl; rw [if_pos z]
        rw [e, List.nil_append]
        rcases P with ⟨p1, p2⟩ | ⟨x0, x1, ⟨q1, q2, q3, q4⟩, q5, q6⟩
        · refine Or.inl ⟨p1, fun x hx hx4 => ?_⟩
          by_cases w : x = j
          · rw [w]; exact z
          · exact p2 x (by omega) hx4
        · refine Or.inr ⟨x0, x1, ⟨by omega, q2, q3, fun x hx hx0 => ?_⟩, q5, q6⟩
          by_cases w : x = j
          · rw [w]; exact z
          · exact q4 x (by omega) hx0
      · rcases P with ⟨p1, p2⟩ | ⟨x0, x1, ⟨q1, q2, q3, q4⟩, q5, q6⟩
        · refine Or.inr ⟨j, j, ⟨by omega, hj, z, fun x hx hx0 => by omega⟩, ⟨hj, z, fun x hx hx4 => p2 x (by omega) hx4⟩, ?_⟩
          rw [p1, List.append_nil]
          exact blk j hj z
        · refine Or.inr ⟨j, x1, ⟨by omega, hj, z, fun x hx hx0 => by omega⟩, q5, ?_⟩
          exact jy_ch_app (blk j hj z) q6 (jy_bd (by omega) (by omega) q2 z q3 (fun x h1 h2 => q4 x (by omega) h2))
    have P3 := step 3 [] (by omega) (Or.inl ⟨rfl, fun x hx hx4 => by omega⟩)
    rw [List.append_nil] at P3
    have P2 := step 2 _ (by omega) P3
    have P1 := step 1 _ (by omega) P2
    have P0 := step 0 _ (by omega) P1
    rcases P0 with ⟨_, p2⟩ | ⟨x0, x1, ⟨q1, q2, q3, q4⟩, ⟨q5, q6, q7⟩, q8⟩
    · have := p2 0 (by omega) (by omega)
      have := p2 1 (by omega) (by omega)
      have := p2 2 (by omega) (by omega)
      have := p2 3 (by omega) (by omega)
      omega
    · rw [jy_asc_c q2 q3 (fun i hi => q4 i (by omega) hi), jy_desc_c q5 q6 q7] at q8
      exact q8
end
section
/-! Y: advance -/
section
variable {f_machineCount f_top f_horizon f_depth f_jobs f_recorded f_known f_alive f_least : Int32} {a_releaseOf a_dueOf a_jobOf a_machineOf a_length a_trailA a_trailB a_recordedStart a_best a_before a_list a_turnOf a_line a_trial a_late a_taken a_jobEdge a_machineEdge : Nat → Int32} {a_mask : Nat → Int64}
theorem jy_swap {post : SY → Prop} {n a b : Nat} (ha : a < 8) (hb : b < 8) (h : post (f_machineCount, f_top, f_horizon, f_depth, f_jobs, nI n, f_recorded, f_known, f_alive, f_least, a_releaseOf, a_dueOf, a_jobOf, a_machineOf, a_length, a_trailA, a_trailB, a_recordedStart, a_best, a_mask, a_before, a_list, upd (upd a_turnOf a (a_turnOf b)) b (a_turnOf a), a_line, a_trial, a_late, a_taken, a_jobEdge, a_machineEdge)) : (wpY_swap post (f_machineCount, f_top, f_horizon, f_depth, f_jobs, nI n, f_recorded, f_known, f_alive, f_least, a_releaseOf, a_dueOf, a_jobOf, a_machineOf, a_length, a_trailA, a_trailB, a_recordedStart, a_best, a_mask, a_before, a_list, a_turnOf, a_line, a_trial, a_late, a_taken, a_jobEdge, a_machineEdge) (nI a) (nI b)) := by
  have va : vp_in (nI a) 8 := vp_in_nI ha (by omega)
  have vb : vp_in (nI b) 8 := vp_in_nI hb (by omega)
  have ca : (nI a).toNatClampNeg = a := nI_clamp (by omega)
  have cb : (nI b).toNatClampNeg = b := nI_clamp (by omega)
  unfold wpY_swap
  dsimp only
  rw [ca, cb]
  exact And.intro va (nm_e (And.intro vb (And.intro va (nm_e (And.intro vb (nm_e h))))))
theorem jy_adv91 {post : Int32 → SY → Prop} {n i : Nat} (hn : n ≤ 8) (hi : i + 1 < n) {t0 : Nat → Int32}
    (h : ∀ t, (∀ x, x < n → t x = if i < x then t0 (n + i - x) else t0 x) → post 1 (f_machineCount, f_top, f_horizon, f_depth, f_jobs, nI n, f_recorded, f_known, f_alive, f_least, a_releaseOf, a_dueOf, a_jobOf, a_machineOf, a_length, a_trailA, a_trailB, a_recordedStart, a_best, a_mask, a_before, a_list, t, a_line, a_trial, a_late, a_taken, a_jobEdge, a_machineEdge)) :
    ∀ (N q : Nat) (t : Nat → Int32), 8 < N + q → i + 1 + q ≤ n → q ≤ 4 → (∀ x, x < n → t x = if i < x ∧ (x < i + 1 + q ∨ n < x + 1 + q) then t0 (n + i - x) else t0 x) →
      (i + 1 + q ≤ n - q + 1) → (wY_advance_91 post N (nI (i + 1 + q)) (nI (n - 1 - q)) f_machineCount f_top f_horizon f_depth f_jobs (nI n) f_recorded f_known f_alive f_least a_releaseOf a_dueOf a_jobOf a_machineOf a_length a_trailA a_trailB a_recordedStart a_best a_mask a_before a_list t a_line a_trial a_late a_taken a_jobEdge a_machineEdge) := by
  intro N
  induction N with
  | zero => intro q t h1 h2 h3 _ _; omega
  | succ N ih =>
    intro q t hN h1 hq ht h2
    by_cases z : n - 1 - q ≤ i + 1 + q
    · refine br_t (nI_le z (by omega)) (h t fun x hx => ?_)
      rw [ht x hx]
      by_cases w : i < x
      · rw [if_pos w]
        by_cases y : x < i + 1 + q ∨ n < x + 1 + q
        · rw [if_pos ⟨w, y⟩]
        · rw [if_neg (fun q => y q.2)]
          have : n + i - x = x := by omega
          rw [this]
      · rw [if_neg w, if_neg (fun q => w q.1)]
    · refine br_f (nI_ge (by omega) (by omega)) (jy_swap (by omega) (by omega) (nm_r (nI_1 (i + 1 + q)) ?_))
      obtain ⟨y, hy⟩ : ∃ y, n - 1 - q = y + 1 := ⟨n - 2 - q, by omega⟩
      have e2 : nI (n - 1 - q) + (-1) = nI (n - 1 - (q + 1)) := by rw [hy, pk_m1]; exact congrArg nI (by omega)
      refine nm_r e2 (ih (q + 1) _ (by omega) (by omega) (by omega) (fun x hx => ?_) (by omega))
      by_cases w1 : x = n - 1 - q
      · rw [w1, pk_us, ht _ (by omega), if_neg (by omega), if_pos (by omega)]
        exact congrArg t0 (by omega)
      · rw [pk_un w1]
        by_cases w2 : x = i + 1 + q
        · rw [w2, pk_us, ht _ (by omega), if_neg (by omega), if_pos (by omega)]
          exact congrArg t0 (by omega)
        · rw [pk_un w2, ht x hx]
          by_cases w3 : i < x ∧ (x < i + 1 + q ∨ n < x + 1 + q)
          · rw [if_pos w3, if_pos (by omega)]
          · rw [if_neg w3, if_neg (by omega)]
theorem jy_adv73 {post : Int32 → SY → Prop} {n i j : Nat} {g g' : Nat → Nat} (hn : n ≤ 8) (ht : ∀ x, x < n → a_turnOf x = nI (g x)) (h1 : i < j) (h2 : j < n)
    (h7 : ∀ x, x < i → g' x = g x) (h8 : g' i = g j) (h9 : ∀ x, i < x → x < n → g' x = if n + i - x = j then g i else g (n + i - x))
    (h : ∀ t, (∀ x, x < n → t x = nI (g' x)) → post 1 (f_machineCount, f_top, f_horizon, f_depth, f_jobs, nI n, f_recorded, f_known, f_alive, f_least, a_releaseOf, a_dueOf, a_jobOf, a_machineOf, a_length, a_trailA, a_trailB, a_recordedStart, a_best, a_mask, a_before, a_list, t, a_line, a_trial, a_late, a_taken, a_jobEdge, a_machineEdge)) : (wY_advance_73 post (nI i) (nI j) f_machineCount f_top f_horizon f_depth f_jobs (nI n) f_recorded f_known f_alive f_least a_releaseOf a_dueOf a_jobOf a_machineOf a_length a_trailA a_trailB a_recordedStart a_best a_mask a_before a_list a_turnOf a_line a_trial a_late a_taken a_jobEdge a_machineEdge) := by
  refine jy_swap (by omega) (by omega) (nm_r (nI_1 i) ?_)
  have e : nI n - 1 = nI (n - 1) := by
    obtain ⟨y, hy⟩ : ∃ y, n = y + 1 := ⟨n - 1, by omega⟩
    rw [hy, nI_pred]; rfl
  refine nm_r e ⟨9, ?_⟩
  refine jy_adv91 hn (by omega) (t0 := upd (upd a_turnOf i (a_turnOf j)) j (a_turnOf i)) (fun t hT => h t fun x hx => ?_) 9 0 _ (by omega) (by omega) (by omega) (fun x hx => ?_) (by omega)
  · have t0 : ∀ y, y < n → upd (upd a_turnOf i (a_turnOf j)) j (a_turnOf i) y = nI (if y = j then g i else if y = i then g j else g y) := fun y hy => by
      by_cases w1 : y = j
      · rw [w1, pk_us, if_pos rfl, ht i (by omega)]
      · rw [pk_un w1, if_neg w1]
        by_cases w2 : y = i
        · rw [w2, pk_us, if_pos rfl, ht j h2]
        · rw [pk_un w2, if_neg w2, ht y hy]
    rw [hT x hx]
    by_cases w : i < x
    · rw [if_pos w, t0 _ (by omega), h9 x w hx]
      by_cases y : n + i - x = j
      · rw [if_pos y, if_pos y]
      · rw [if_neg y, if_neg y, if_neg (by omega)]
    · rw [if_neg w, t0 x hx, if_neg (by omega)]
      by_cases y : x = i
      · rw [if_pos y, y, h8]
      · rw [if_neg y, h7 x (by omega)]
  · rw [if_neg (by omega)]
theorem jy_adv47 {post : Int32 → SY → Prop} {n i j : Nat} {g g' : Nat → Nat} (hn : n ≤ 8) (hg : ∀ x, x < n → g x < 4) (ht : ∀ x, x < n → a_turnOf x = nI (g x)) (h1 : i < j) (h2 : j < n) (h5 : g i < g j) (h6 : ∀ x, j < x → x < n → g x ≤ g i)
    (h7 : ∀ x, x < i → g' x = g x) (h8 : g' i = g j) (h9 : ∀ x, i < x → x < n → g' x = if n + i - x = j then g i else g (n + i - x))
    (h : ∀ t, (∀ x, x < n → t x = nI (g' x)) → post 1 (f_machineCount, f_top, f_horizon, f_depth, f_jobs, nI n, f_recorded, f_known, f_alive, f_least, a_releaseOf, a_dueOf, a_jobOf, a_machineOf, a_length, a_trailA, a_trailB, a_recordedStart, a_best, a_mask, a_before, a_list, t, a_line, a_trial, a_late, a_taken, a_jobEdge, a_machineEdge)) : ∀ (N k : Nat), j ≤ k → k < n → k < N + j → (wY_advance_47 post (nI i) f_machineCount f_top f_horizon f_depth f_jobs (nI n) f_recorded f_known f_alive f_least a_releaseOf a_dueOf a_jobOf a_machineOf a_length a_trailA a_trailB a_recordedStart a_best a_mask a_before a_list a_turnOf a_line a_trial a_late a_taken a_jobEdge a_machineEdge N (nI k)) := by
  intro N
  induction N with
  | zero => intro k _ _ _; omega
  | succ N ih =>
    intro k hk hkn hN
    have vk : vp_in (nI k) 8 := vp_in_nI (by omega) (by omega)
    have vi : vp_in (nI i) 8 := vp_in_nI (by omega) (by omega)
    have ck : (nI k).toNatClampNeg = k := nI_clamp (by omega)
    have ci : (nI i).toNatClampNeg = i := nI_clamp (by omega)
    refine br_f (nI_ge (by omega) (by omega)) (And.intro vk (And.intro vi ?_))
    rw [ck, ci, ht i (by omega), ht k hkn]
    have gi := hg i (by omega)
    have gk := hg k hkn
    by_cases z : k = j
    · subst z
      exact br_t (nI_lt h5 (by omega)) (jy_adv73 hn ht h1 h2 h7 h8 h9 h)
    · refine br_f (nI_nlt (h6 k (by omega) hkn) (by omega)) ?_
      obtain ⟨y, rfl⟩ : ∃ y, k = y + 1 := ⟨k - 1, by omega⟩
      exact nm_r (pk_m1 y) (ih y (by omega) (by omega) (by omega))
theorem jy_advance1 {post : Int32 → SY → Prop} {n : Nat} {g g' : Nat → Nat} (hn : n ≤ 8) (hg : ∀ x, x < n → g x < 4) (ht : ∀ x, x < n → a_turnOf x = nI (g x)) (hx : jy_nx n g g')
    (h : ∀ t, (∀ x, x < n → t x = nI (g' x)) → post 1 (f_machineCount, f_top, f_horizon, f_depth, f_jobs, nI n, f_recorded, f_known, f_alive, f_least, a_releaseOf, a_dueOf, a_jobOf, a_machineOf, a_length, a_trailA, a_trailB, a_recordedStart, a_best, a_mask, a_before, a_list, t, a_line, a_trial, a_late, a_taken, a_jobEdge, a_machineEdge)) : (wpY_advance post (f_machineCount, f_top, f_horizon, f_depth, f_jobs, nI n, f_recorded, f_known, f_alive, f_least, a_releaseOf, a_dueOf, a_jobOf, a_machineOf, a_length, a_trailA, a_trailB, a_recordedStart, a_best, a_mask, a_before, a_list, a_turnOf, a_line, a_trial, a_late, a_taken, a_jobEdge, a_machineEdge)) := by
  obtain ⟨i, j, h1, h2, h3, h4, h5, h6, h7, h8, h9⟩ := hx
  have key : ∀ (N k : Nat), i ≤ k → k + 1 < n → k < N + i → (wY_advance_14 post (nI (n - 1)) f_machineCount f_top f_horizon f_depth f_jobs (nI n) f_recorded f_known f_alive f_least a_releaseOf a_dueOf a_jobOf a_machineOf a_length a_trailA a_trailB a_recordedStart a_best a_mask a_before a_list a_turnOf a_line a_trial a_late a_taken a_jobEdge a_machineEdge N (nI k)) := by
    intro N
    induction N with
    | zero => intro k _ _ _; omega
    | succ N ih =>
      intro k hk hkn hN
      have vk : vp_in (nI k) 8 := vp_in_nI (by omega) (by omega)
      have vk1 : vp_in (nI (k + 1)) 8 := vp_in_nI (by omega) (by omega)
      have ck : (nI k).toNatClampNeg = k := nI_clamp (by omega)
      have ck1 : (nI (k + 1)).toNatClampNeg = k + 1 := nI_clamp (by omega)
      have gk := hg k (by omega)
      have gk1 := hg (k + 1) hkn
      rw [wY_advance_14]
      dsimp only
      rw [nI_1 k, ck, ck1, ht k (by omega), ht (k + 1) hkn]
      refine br_f (nI_pos (by omega)) (And.intro vk (And.intro vk1 ?_))
      by_cases z : k = i
      · subst z
        exact br_t (nI_lt h3 (by omega)) (br_t (nI_pos' (by omega)) ⟨9, jy_adv47 hn hg ht h1 h2 h5 h6 h7 h8 h9 h 9 (n - 1) (by omega) (by omega) (by omega)⟩)
      · refine br_f (nI_nlt (h4 k (by omega) hkn) (by omega)) ?_
        obtain ⟨y, rfl⟩ : ∃ y, k = y + 1 := ⟨k - 1, by omega⟩
        exact nm_r (pk_m1 y) (ih y (by omega) (by omega) (by omega))
  unfold wpY_advance
  dsimp only
  obtain ⟨y, rfl⟩ : ∃ y, n = y + 2 := ⟨n - 2, by omega⟩
  have e1 : nI (y + 2) - 2 = nI y := pk_sub (a := y + 2) (b := 2) (by omega)
  have e2 : nI (y + 2) - 1 = nI (y + 2 - 1) := pk_sub (a := y + 2) (b := 1) (by omega)
  exact nm_r e1 (nm_r e2 ⟨9, key 9 y (by omega) (by omega) (by omega)⟩)
theorem jy_advance0 {post : Int32 → SY → Prop} {n : Nat} {g : Nat → Nat} (hn : n ≤ 8) (hg : ∀ x, x < n → g x < 4) (ht : ∀ x, x < n → a_turnOf x = nI (g x)) (hx : ∀ x, x + 1 < n → g (x + 1) ≤ g x)
    (h : post 0 (f_machineCount, f_top, f_horizon, f_depth, f_jobs, nI n, f_recorded, f_known, f_alive, f_least, a_releaseOf, a_dueOf, a_jobOf, a_machineOf, a_length, a_trailA, a_trailB, a_recordedStart, a_best, a_mask, a_before, a_list, a_turnOf, a_line, a_trial, a_late, a_taken, a_jobEdge, a_machineEdge)) : (wpY_advance post (f_machineCount, f_top, f_horizon, f_depth, f_jobs, nI n, f_recorded, f_known, f_alive, f_least, a_releaseOf, a_dueOf, a_jobOf, a_machineOf, a_length, a_trailA, a_trailB, a_recordedStart, a_best, a_mask, a_before, a_list, a_turnOf, a_line, a_trial, a_late, a_taken, a_jobEdge, a_machineEdge)) := by
  have neg : ∀ (N : Nat) (x2 x : Int32), x < 0 → (wY_advance_14 post x2 f_machineCount f_top f_horizon f_depth f_jobs (nI n) f_recorded f_known f_alive f_least a_releaseOf a_dueOf a_jobOf a_machineOf a_length a_trailA a_trailB a_recordedStart a_best a_mask a_before a_list a_turnOf a_line a_trial a_late a_taken a_jobEdge a_machineEdge (N + 1) x) := by
    intro N x2 x hx0
    exact br_t hx0 (br_f (Int32.not_le.mpr hx0) h)
  have key : ∀ (N k : Nat), k + 1 < n → k + 1 < N → (wY_advance_14 post (nI (n - 1)) f_machineCount f_top f_horizon f_depth f_jobs (nI n) f_recorded f_known f_alive f_least a_releaseOf a_dueOf a_jobOf a_machineOf a_length a_trailA a_trailB a_recordedStart a_best a_mask a_before a_list a_turnOf a_line a_trial a_late a_taken a_jobEdge a_machineEdge N (nI k)) := by
    intro N
    induction N with
    | zero => intro k _ _; omega
    | succ N ih =>
      intro k hkn hN
      have vk : vp_in (nI k) 8 := vp_in_nI (by omega) (by omega)
      have vk1 : vp_in (nI (k + 1)) 8 := vp_in_nI (by omega) (by omega)
      have ck : (nI k).toNatClampNeg = k := nI_clamp (by omega)
      have ck1 : (nI (k + 1)).toNatClampNeg = k + 1 := nI_clamp (by omega)
      have gk := hg k (by omega)
      have gk1 := hg (k + 1) hkn
      rw [wY_advance_14]
      dsimp only
      rw [nI_1 k, ck, ck1, ht k (by omega), ht (k + 1) hkn]
      refine br_f (nI_pos (by omega)) (And.intro vk (And.intro vk1 (br_f (nI_nlt (hx k hkn) (by omega)) ?_)))
      match k, hkn, hN with
      | 0, _, hN =>
        obtain ⟨N', rfl⟩ : ∃ N', N = N' + 1 := ⟨N - 1, by omega⟩
        exact nm_e (neg N' _ _ (by decide))
      | y + 1, hkn, hN => exact nm_r (pk_m1 y) (ih y (by omega) (by omega))
  unfold wpY_advance
  dsimp only
  match n, hn, key, neg with
  | 0, _, _, neg => exact nm_e (nm_e ⟨1, neg 0 _ _ (by decide)⟩)
  | 1, _, _, neg => exact nm_e (nm_e ⟨1, neg 0 _ _ (by decide)⟩)
  | y + 2, hn, key, _ =>
    have e1 : nI (y + 2) - 2 = nI y := pk_sub (a := y + 2) (b := 2) (by omega)
    have e2 : nI (y + 2) - 1 = nI (y + 2 - 1) := pk_sub (a := y + 2) (b := 1) (by omega)
    exact nm_r e1 (nm_r e2 ⟨10, key 10 y (by omega) (by omega)⟩)
end
end
section
/-! Y: listOps -/
theorem jy_Q_succ (jb : Nat → Nat) (o j : Nat) : jw_Q (o + 1) jb j = if jb o = j then jw_Q o jb j ++ [o] else jw_Q o jb j := by
  unfold jw_Q
  rw [List.range_succ, List.filter_append]
  by_cases z : jb o = j
  · rw [if_pos z]; simp [z]
  · rw [if_neg z]; simp [z]
theorem jy_Q_len {jb : Nat → Nat} {j : Nat} : ∀ {m o : Nat}, o ≤ m → (jw_Q o jb j).length ≤ (jw_Q m jb j).length := by
  intro m
  induction m with
  | zero => intro o h; have : o = 0 := by omega
            rw [this]; exact Nat.le_refl _
  | succ m ih =>
    intro o h
    by_cases z : o = m + 1
    · rw [z]; exact Nat.le_refl _
    · refine Nat.le_trans (ih (by omega)) ?_
      rw [jy_Q_succ]
      split
      · rw [List.length_append]; omega
      · exact Nat.le_refl _
theorem jy_Q_le {jb : Nat → Nat} {j : Nat} : ∀ o, (jw_Q o jb j).length ≤ o := by
  intro o
  unfold jw_Q
  exact Nat.le_trans (List.length_filter_le _ _) (by rw [List.length_range]; exact Nat.le_refl _)
theorem jy_gl {l m : List Nat} {x : Nat} (h : x < l.length) : (l ++ m).getD x 0 = l.getD x 0 := by
  rw [List.getD_eq_getElem?_getD, List.getD_eq_getElem?_getD, List.getElem?_append_left h]
theorem jy_gr {l m : List Nat} {x : Nat} (h : l.length ≤ x) : (l ++ m).getD x 0 = m.getD (x - l.length) 0 := by
  rw [List.getD_eq_getElem?_getD, List.getD_eq_getElem?_getD, List.getElem?_append_right h]
theorem jy_getrep (m v : Nat) (l : List Nat) (x : Nat) : (List.replicate m v ++ l).getD x 0 = if x < m then v else l.getD (x - m) 0 := by
  by_cases z : x < m
  · rw [if_pos z, jy_gl (by rw [List.length_replicate]; exact z)]
    simp [List.getD_eq_getElem?_getD, z]
  · rw [if_neg z, jy_gr (by rw [List.length_replicate]; omega), List.length_replicate]
theorem jy_asc_get (c : Nat → Nat) : ∀ j, j < 4 → ∀ t, t < c j → (jy_asc c).getD (js_s c j + t) 0 = j := by
  have e : jy_asc c = List.replicate (c 0) 0 ++ (List.replicate (c 1) 1 ++ (List.replicate (c 2) 2 ++ (List.replicate (c 3) 3 ++ []))) := by rw [List.append_nil]; rfl
  intro j hj t ht
  rw [e, jy_getrep, jy_getrep, jy_getrep, jy_getrep]
  match j, hj, ht with
  | 0, _, ht =>
    show (if 0 + t < c 0 then 0 else _) = 0
    rw [if_pos (by omega)]
  | 1, _, ht =>
    show (if 0 + c 0 + t < c 0 then 0 else if 0 + c 0 + t - c 0 < c 1 then 1 else _) = 1
    rw [if_neg (by omega), if_pos (by omega)]
  | 2, _, ht =>
    show (if 0 + c 0 + c 1 + t < c 0 then 0 else if 0 + c 0 + c 1 + t - c 0 < c 1 then 1 else if 0 + c 0 + c 1 + t - c 0 - c 1 < c 2 then 2 else _) = 2
    rw [if_neg (by omega), if_neg (by omega), if_pos (by omega)]
  | 3, _, ht =>
    show (if 0 + c 0 + c 1 + c 2 + t < c 0 then 0 else if 0 + c 0 + c 1 + c 2 + t - c 0 < c 1 then 1 else if 0 + c 0 + c 1 + c 2 + t - c 0 - c 1 < c 2 then 2 else if 0 + c 0 + c 1 + c 2 + t - c 0 - c 1 - c 2 < c 3 then 3 else _) = 3
    rw [if_neg (by omega), if_neg (by omega), if_neg (by omega), if_pos (by omega)]
def jy_c (n : Nat) (jb : Nat → Nat) : Nat → Nat := fun j => (jw_Q n jb j).length
theorem jy_S4 {n : Nat} {jb : Nat → Nat} (h : ∀ o, o < n → jb o < 4) : js_s (jy_c n jb) 4 = n := by
  have := jw_Q_sum h
  unfold jw_sum at this
  show 0 + jy_c n jb 0 + jy_c n jb 1 + jy_c n jb 2 + jy_c n jb 3 = n
  unfold jy_c
  omega
theorem jy_s_mono {f : Nat → Nat} : ∀ {a b : Nat}, a ≤ b → js_s f a ≤ js_s f b := by
  intro a b
  induction b with
  | zero => intro h; have : a = 0 := by omega
            rw [this]; exact Nat.le_refl _
  | succ b ih =>
    intro h
    by_cases z : a = b + 1
    · rw [z]; exact Nat.le_refl _
    · have := ih (by omega)
      show js_s f a ≤ js_s f b + f b
      omega
theorem jy_SJ {n J : Nat} {jb : Nat → Nat} (hJ : J ≤ 4) (h : ∀ o, o < n → jb o < J) : js_s (jy_c n jb) J = n := by
  have key : ∀ k, js_s (jy_c n jb) (J + k) = js_s (jy_c n jb) J := by
    intro k
    induction k with
    | zero => rfl
    | succ k ih =>
      show js_s (jy_c n jb) (J + k) + jy_c n jb (J + k) = _
      have : jw_Q n jb (J + k) = [] := by
        apply List.eq_nil_iff_forall_not_mem.mpr
        intro o ho
        have := jw_Q_mem.mp ho
        have := h o this.1
        omega
      rw [ih]
      unfold jy_c
      rw [this]; rfl
  have e := key (4 - J)
  rw [show J + (4 - J) = 4 by omega, jy_S4 (fun o ho => by have := h o ho; omega)] at e
  exact e.symm
section
variable {f_machineCount f_top f_horizon f_depth f_recorded f_known f_alive f_least : Int32} {a_releaseOf a_dueOf a_jobOf a_machineOf a_length a_trailA a_trailB a_recordedStart a_best a_before a_list a_turnOf a_line a_trial a_late a_taken a_jobEdge a_machineEdge : Nat → Int32} {a_mask : Nat → Int64}
theorem jy_listOps {post : SY → Prop} {n J : Nat} {jb : Nat → Nat} (hn : n ≤ 8) (hJ : J ≤ 4) (hjb : ∀ o, o < n → jb o < J ∧ a_jobOf o = nI (jb o))
    (h : ∀ list turn, (∀ j, j < 4 → ∀ t, t < (jw_Q n jb j).length → list (j * 8 + t) = nI ((jw_Q n jb j).getD t 0)) → (∀ x, x < n → turn x = nI ((jy_asc (jy_c n jb)).getD x 0)) → post (f_machineCount, f_top, f_horizon, f_depth, nI J, nI n, f_recorded, f_known, f_alive, f_least, a_releaseOf, a_dueOf, a_jobOf, a_machineOf, a_length, a_trailA, a_trailB, a_recordedStart, a_best, a_mask, a_before, list, turn, a_line, a_trial, a_late, a_taken, a_jobEdge, a_machineEdge)) : (wpY_listOps post (f_machineCount, f_top, f_horizon, f_depth, nI J, nI n, f_recorded, f_known, f_alive, f_least, a_releaseOf, a_dueOf, a_jobOf, a_machineOf, a_length, a_trailA, a_trailB, a_recordedStart, a_best, a_mask, a_before, a_list, a_turnOf, a_line, a_trial, a_late, a_taken, a_jobEdge, a_machineEdge)) := by
  have hSJ := jy_SJ (n := n) hJ (fun o ho => (hjb o ho).1)
  show ∃ n4 : Nat, (wY_listOps_4 post f_machineCount f_top f_horizon f_depth (nI J) (nI n) f_recorded f_known f_alive f_least n4 0 0 a_releaseOf a_dueOf a_jobOf a_machineOf a_length a_trailA a_trailB a_recordedStart a_best a_mask a_before a_list a_turnOf a_line a_trial a_late a_taken a_jobEdge a_machineEdge)
  refine loop_0 (σ := (Nat → Int32) × (Nat → Int32)) (fun m j s => (wY_listOps_4 post f_machineCount f_top f_horizon f_depth (nI J) (nI n) f_recorded f_known f_alive f_least m (nI (js_s (jy_c n jb) j)) (nI j) a_releaseOf a_dueOf a_jobOf a_machineOf a_length a_trailA a_trailB a_recordedStart a_best a_mask a_before s.1 s.2 a_line a_trial a_late a_taken a_jobEdge a_machineEdge))
    (fun j s => (∀ i, i < j → ∀ t, t < (jw_Q n jb i).length → s.1 (i * 8 + t) = nI ((jw_Q n jb i).getD t 0)) ∧ ∀ x, x < js_s (jy_c n jb) j → s.2 x = nI ((jy_asc (jy_c n jb)).getD x 0)) J (a_list, a_turnOf) ⟨fun i hi => by omega, fun x hx => absurd hx (Nat.not_lt_zero x)⟩ ?_ ?_
  · rintro m ⟨list, turn⟩ ⟨I1, I2⟩
    refine br_t (nI_le (Nat.le_refl _) (by omega)) (h list turn (fun j hj t ht => ?_) (fun x hx => I2 x (by rw [hSJ]; exact hx)))
    by_cases z : j < J
    · exact I1 j z t ht
    · have : jw_Q n jb j = [] := by
        apply List.eq_nil_iff_forall_not_mem.mpr
        intro o ho
        have := jw_Q_mem.mp ho
        have := (hjb o this.1).1
        omega
      rw [this] at ht
      exact absurd ht (Nat.not_lt_zero t)
  · rintro m j ⟨list, turn⟩ hj ⟨I1, I2⟩ K
    have I1 : ∀ i, i < j → ∀ t, t < (jw_Q n jb i).length → list (i * 8 + t) = nI ((jw_Q n jb i).getD t 0) := I1
    have I2 : ∀ x, x < js_s (jy_c n jb) j → turn x = nI ((jy_asc (jy_c n jb)).getD x 0) := I2
    have hS1 : js_s (jy_c n jb) j + (jw_Q n jb j).length ≤ n := by
      have := jy_s_mono (f := jy_c n jb) (a := j + 1) (b := J) (by omega)
      rw [hSJ] at this
      exact this
    refine br_f (nI_ge hj (by omega)) ?_
    refine loop_0 (σ := (Nat → Int32) × (Nat → Int32)) (fun m' o s => (wY_listOps_17 post (wY_listOps_4 post f_machineCount f_top f_horizon f_depth (nI J) (nI n) f_recorded f_known f_alive f_least m) (nI j) f_machineCount f_top f_horizon f_depth (nI J) (nI n) f_recorded f_known f_alive f_least m' (nI (js_s (jy_c n jb) j + (jw_Q o jb j).length)) (nI (jw_Q o jb j).length) (nI o) a_releaseOf a_dueOf a_jobOf a_machineOf a_length a_trailA a_trailB a_recordedStart a_best a_mask a_before s.1 s.2 a_line a_trial a_late a_taken a_jobEdge a_machineEdge))
      (fun o s => ((∀ i, i < j → ∀ t, t < (jw_Q n jb i).length → s.1 (i * 8 + t) = nI ((jw_Q n jb i).getD t 0)) ∧ ∀ t, t < (jw_Q o jb j).length → s.1 (j * 8 + t) = nI ((jw_Q o jb j).getD t 0)) ∧ (∀ x, x < js_s (jy_c n jb) j → s.2 x = nI ((jy_asc (jy_c n jb)).getD x 0)) ∧ ∀ t, t < (jw_Q o jb j).length → s.2 (js_s (jy_c n jb) j + t) = nI j) n (list, turn)
      ⟨⟨I1, fun t ht => absurd ht (Nat.not_lt_zero t)⟩, I2, fun t ht => absurd ht (Nat.not_lt_zero t)⟩ ?_ ?_
    · rintro m' ⟨list, turn⟩ ⟨⟨P1, P2⟩, P3, P4⟩
      refine br_t (nI_le (Nat.le_refl _) (by omega)) (nm_r (nI_1 j) (K (list, turn) ⟨fun i hi t ht => ?_, fun x hx => ?_⟩))
      · by_cases z : i = j
        · subst z; exact P2 t ht
        · exact P1 i (by omega) t ht
      · have hx : x < js_s (jy_c n jb) j + (jw_Q n jb j).length := hx
        by_cases z : x < js_s (jy_c n jb) j
        · exact P3 x z
        · obtain ⟨t, rfl⟩ : ∃ t, x = js_s (jy_c n jb) j + t := ⟨x - js_s (jy_c n jb) j, by omega⟩
          rw [jy_asc_get (jy_c n jb) j (by omega) t (by unfold jy_c; omega)]
          exact P4 t (by omega)
    · rintro m' o ⟨list, turn⟩ ho ⟨⟨P1, P2⟩, P3, P4⟩ K'
      show (wY_listOps_17 post (wY_listOps_4 post f_machineCount f_top f_horizon f_depth (nI J) (nI n) f_recorded f_known f_alive f_least m) (nI j) f_machineCount f_top f_horizon f_depth (nI J) (nI n) f_recorded f_known f_alive f_least (m' + 1) (nI (js_s (jy_c n jb) j + (jw_Q o jb j).length)) (nI (jw_Q o jb j).length) (nI o) a_releaseOf a_dueOf a_jobOf a_machineOf a_length a_trailA a_trailB a_recordedStart a_best a_mask a_before list turn a_line a_trial a_late a_taken a_jobEdge a_machineEdge)
      have P1 : ∀ i, i < j → ∀ t, t < (jw_Q n jb i).length → list (i * 8 + t) = nI ((jw_Q n jb i).getD t 0) := P1
      have P2 : ∀ t, t < (jw_Q o jb j).length → list (j * 8 + t) = nI ((jw_Q o jb j).getD t 0) := P2
      have P3 : ∀ x, x < js_s (jy_c n jb) j → turn x = nI ((jy_asc (jy_c n jb)).getD x 0) := P3
      have P4 : ∀ t, t < (jw_Q o jb j).length → turn (js_s (jy_c n jb) j + t) = nI j := P4
      have vo : vp_in (nI o) 8 := vp_in_nI (by omega) (by omega)
      have co : (nI o).toNatClampNeg = o := nI_clamp (by omega)
      have jo := (hjb o ho).1
      have lq := jy_Q_le (jb := jb) (j := j) o
      refine br_f (nI_ge ho (by omega)) (And.intro vo ?_)
      rw [co, (hjb o ho).2]
      refine pk_eq (jb o) j (fun z => ?_) (fun z => ?_)
      · have eQ : jw_Q (o + 1) jb j = jw_Q o jb j ++ [o] := by rw [jy_Q_succ, if_pos z]
        have eL : (jw_Q (o + 1) jb j).length = (jw_Q o jb j).length + 1 := by rw [eQ, List.length_append]; rfl
        have lt2 := jy_Q_len (jb := jb) (j := j) (m := n) (o := o + 1) (by omega)
        generalize hl : (jw_Q o jb j).length = q at *
        generalize hs : js_s (jy_c n jb) j = S at *
        rw [jl_ix, nI_clamp (n := j * 8 + q) (by omega), nI_clamp (n := S + q) (by omega)]
        refine And.intro (vp_in_nI (by omega) (by omega)) (nm_e (nm_r (nI_1 q) (And.intro (vp_in_nI (by omega) (by omega)) (nm_e (nm_r (nI_1 (S + q)) (nm_r (nI_1 o) ?_))))))
        have K2 := K' (upd list (j * 8 + q) (nI o), upd turn (S + q) (nI j)) ⟨⟨fun i hi t ht => ?_, fun t ht => ?_⟩, fun x hx => ?_, fun t ht => ?_⟩
        · rw [eL] at K2
          exact K2
        · show upd list (j * 8 + q) (nI o) (i * 8 + t) = _
          have := jy_Q_le (jb := jb) (j := i) n
          rw [pk_un (by omega)]; exact P1 i hi t ht
        · show upd list (j * 8 + q) (nI o) (j * 8 + t) = _
          rw [eL] at ht
          rw [eQ]
          by_cases w : t = q
          · subst w
            rw [pk_us, jy_gr (by omega), hl, Nat.sub_self]; rfl
          · rw [pk_un (by omega), jy_gl (by omega)]
            exact P2 t (by omega)
        · show upd turn (S + q) (nI j) x = _
          rw [pk_un (by omega)]; exact P3 x hx
        · show upd turn (S + q) (nI j) (S + t) = _
          rw [eL] at ht
          by_cases w : t = q
          · subst w; exact pk_us
          · rw [pk_un (by omega)]; exact P4 t (by omega)
      · have eQ : jw_Q (o + 1) jb j = jw_Q o jb j := by rw [jy_Q_succ, if_neg z]
        refine nm_r (nI_1 o) ?_
        have K2 := K' (list, turn) (by rw [eQ]; exact ⟨⟨P1, P2⟩, P3, P4⟩)
        rw [eQ] at K2
        exact K2
end
end
section
/-! a schedule along a line -/
def jy_LF (n : Nat) (d rel due : Nat → Int32) (jb mb : Nat → Nat) (hz : Int) (l : List Nat) (s : Nat → Int) : Prop :=
  (∀ a, a < n → (rel (jb a)).toInt ≤ s a ∧ s a + (d a).toInt ≤ (due (jb a)).toInt ∧ s a + (d a).toInt ≤ hz) ∧ l.Pairwise (fun a b => (jb a = jb b ∨ mb a = mb b) → s a + (d a).toInt ≤ s b)
def jy_V (n : Nat) (d rel due : Nat → Int32) (jb mb : Nat → Nat) (hz : Int) : Prop :=
  n ≤ 8 ∧ js_d n d ∧ (0 ≤ hz ∧ hz ≤ 60) ∧ ∀ a, a < n → jb a < 4 ∧ mb a < 4 ∧ 0 ≤ (rel (jb a)).toInt ∧ (rel (jb a)).toInt ≤ 60 ∧ 0 ≤ (due (jb a)).toInt ∧ (due (jb a)).toInt ≤ 60
def jy_E (n : Nat) (d rel due : Nat → Int32) (jb mb : Nat → Nat) (hz : Int) (l1 l2 : List Nat) (tr je me li : Nat → Int32) : Prop :=
  (l1 ++ l2).Nodup ∧ (∀ x, x < l1.length → li x = nI (l1.getD x 0)) ∧
  (∀ o, o ∈ l1 → o < n ∧ (rel (jb o)).toInt ≤ (tr o).toInt ∧ (tr o).toInt + (d o).toInt ≤ (due (jb o)).toInt ∧ (tr o).toInt + (d o).toInt ≤ hz) ∧
  (l1.Pairwise (fun a b => (jb a = jb b ∨ mb a = mb b) → (tr a).toInt + (d a).toInt ≤ (tr b).toInt)) ∧
  (∀ o, o ∈ l2 → o < n ∧ ((rel (jb o)).toInt ≤ (je (jb o)).toInt ∧ (je (jb o)).toInt ≤ 60) ∧ (0 ≤ (me (mb o)).toInt ∧ (me (mb o)).toInt ≤ 60) ∧ ∀ a, a ∈ l1 → (jb a = jb o → (tr a).toInt + (d a).toInt ≤ (je (jb o)).toInt) ∧ (mb a = mb o → (tr a).toInt + (d a).toInt ≤ (me (mb o)).toInt)) ∧
  (∀ s, jy_LF n d rel due jb mb hz (l1 ++ l2) s → (∀ o, o ∈ l1 → (tr o).toInt ≤ s o) ∧ ∀ o, o ∈ l2 → (je (jb o)).toInt ≤ s o ∧ (me (mb o)).toInt ≤ s o)
theorem jy_E_step {n : Nat} {d rel due : Nat → Int32} {jb mb : Nat → Nat} {hz : Int} {l1 l2 : List Nat} {tr je me li : Nat → Int32} {o : Nat} {st : Int32} (V : jy_V n d rel due jb mb hz) (E : jy_E n d rel due jb mb hz l1 (o :: l2) tr je me li)
    (hst : (st = me (mb o) ∧ je (jb o) ≤ me (mb o)) ∨ (st = je (jb o) ∧ ¬ je (jb o) ≤ me (mb o))) :
    (0 ≤ st.toInt ∧ (st + d o).toInt = st.toInt + (d o).toInt) ∧ (((due (jb o)).toInt < st.toInt + (d o).toInt ∨ hz < st.toInt + (d o).toInt) → ∀ s, ¬ jy_LF n d rel due jb mb hz (l1 ++ o :: l2) s) ∧
    (st.toInt + (d o).toInt ≤ (due (jb o)).toInt → st.toInt + (d o).toInt ≤ hz → jy_E n d rel due jb mb hz (l1 ++ [o]) l2 (upd tr o st) (upd je (jb o) (st + d o)) (upd me (mb o) (st + d o)) (upd li l1.length (nI o))) := by
  obtain ⟨e0, e1, e2, e3, e4, e5⟩ := E
  obtain ⟨ho, oj, om, oa⟩ := e4 o List.mem_cons_self
  have dv := V.2.1 o ho
  have rv := V.2.2.2 o ho
  have hz2 := V.2.2.1
  have stb : (je (jb o)).toInt ≤ st.toInt ∧ (me (mb o)).toInt ≤ st.toInt ∧ st.toInt ≤ 60 ∧ ∀ x : Int, (je (jb o)).toInt ≤ x → (me (mb o)).toInt ≤ x → st.toInt ≤ x := by
    rcases hst with ⟨e, c⟩ | ⟨e, c⟩
    · have := ja_le.mp c
      rw [e]
      exact ⟨this, Int.le_refl _, by omega, fun x _ h => h⟩
    · have := mt ja_le.mpr c
      rw [e]
      exact ⟨Int.le_refl _, by omega, by omega, fun x h _ => h⟩
  have est : (st + d o).toInt = st.toInt + (d o).toInt := ja_add (by omega) (by omega)
  refine ⟨⟨by omega, est⟩, fun hbad s hs => ?_, fun g1 g2 => ?_⟩
  · have q := (e5 s hs).2 o List.mem_cons_self
    have := stb.2.2.2 (s o) q.1 q.2
    have := hs.1 o ho
    omega
  · have hnd : o ∉ l1 ∧ o ∉ l2 := by
      have := List.nodup_append.mp e0
      refine ⟨fun q => this.2.2 o q o List.mem_cons_self rfl, (List.nodup_cons.mp this.2.1).1⟩
    have t1 : ∀ a, a ∈ l1 → upd tr o st a = tr a := fun a ha => pk_un (fun e => hnd.1 (e ▸ ha))
    have eapp : l1 ++ [o] ++ l2 = l1 ++ o :: l2 := by rw [List.append_assoc]; rfl
    refine ⟨by rw [eapp]; exact e0, fun x hx => ?_, fun a ha => ?_, ?_, fun b hb => ?_, fun s hs => ?_⟩
    · rw [List.length_append] at hx
      by_cases z : x = l1.length
      · rw [z, pk_us, jy_gr (Nat.le_refl _), Nat.sub_self]; rfl
      · have hx' : x < l1.length := by have : [o].length = 1 := rfl
                                       omega
        rw [pk_un z, jy_gl hx']; exact e1 x hx'
    · rcases List.mem_append.mp ha with q | q
      · rw [t1 a q]; exact e2 a q
      · have q : a = o := by simpa using q
        subst q
        rw [pk_us]
        exact ⟨ho, by omega, g1, g2⟩
    · refine List.pairwise_append.mpr ⟨List.Pairwise.imp_of_mem (fun {a b} ha hb q => ?_) e3, List.pairwise_singleton _ _, fun a ha b hb q => ?_⟩
      · rw [t1 a ha, t1 b hb]; exact q
      · have hb : b = o := by simpa using hb
        subst hb
        rw [t1 a ha, pk_us]
        rcases q with q | q
        · have := (oa a ha).1 q; omega
        · have := (oa a ha).2 q; omega
    · obtain ⟨b1, b2, b3, b4⟩ := e4 b (List.mem_cons_of_mem _ hb)
      have J : (jb b = jb o → upd je (jb o) (st + d o) (jb b) = st + d o) ∧ (jb b ≠ jb o → upd je (jb o) (st + d o) (jb b) = je (jb b)) := ⟨fun e => by rw [e]; exact pk_us, fun e => pk_un e⟩
      have Mm : (mb b = mb o → upd me (mb o) (st + d o) (mb b) = st + d o) ∧ (mb b ≠ mb o → upd me (mb o) (st + d o) (mb b) = me (mb b)) := ⟨fun e => by rw [e]; exact pk_us, fun e => pk_un e⟩
      refine ⟨b1, ?_, ?_, fun a ha => ?_⟩
      · by_cases z : jb b = jb o
        · rw [J.1 z, est, z]; omega
        · rw [J.2 z]; exact b2
      · by_cases z : mb b = mb o
        · rw [Mm.1 z, est]; omega
        · rw [Mm.2 z]; exact b3
      · rcases List.mem_append.mp ha with q | q
        · rw [t1 a q]
          refine ⟨fun w => ?_, fun w => ?_⟩
          · by_cases z : jb b = jb o
            · rw [J.1 z, est]
              have := (oa a q).1 (w.trans z); omega
            · rw [J.2 z]; exact (b4 a q).1 w
          · by_cases z : mb b = mb o
            · rw [Mm.1 z, est]
              have := (oa a q).2 (w.trans z); omega
            · rw [Mm.2 z]; exact (b4 a q).2 w
        · have q : a = o := by simpa using q
          subst q
          rw [pk_us]
          exact ⟨fun w => by rw [J.1 w.symm, est]; exact Int.le_refl _, fun w => by rw [Mm.1 w.symm, est]; exact Int.le_refl _⟩
    · rw [eapp] at hs
      have q := e5 s hs
      have so := q.2 o List.mem_cons_self
      have so2 := stb.2.2.2 (s o) so.1 so.2
      refine ⟨fun a ha => ?_, fun b hb => ?_⟩
      · rcases List.mem_append.mp ha with w | w
        · rw [t1 a w]; exact q.1 a w
        · have w : a = o := by simpa using w
          subst w
          rw [pk_us]; exact so2
      · have sb := q.2 b (List.mem_cons_of_mem _ hb)
        have pw := (List.pairwise_cons.mp (List.pairwise_append.mp hs.2).2.1).1 b hb
        refine ⟨?_, ?_⟩
        · by_cases z : jb b = jb o
          · rw [z, pk_us, est]; have := pw (Or.inl z.symm); omega
          · rw [pk_un z]; exact sb.1
        · by_cases z : mb b = mb o
          · rw [z, pk_us, est]; have := pw (Or.inr z.symm); omega
          · rw [pk_un z]; exact sb.2
def jy_Lt (n : Nat) (d rel due : Nat → Int32) (jb mb : Nat → Nat) (hz : Int) (tr : Nat → Int) (l1 l2 : List Nat) (la je me : Nat → Int32) : Prop :=
  (l1 ++ l2).Nodup ∧ (∀ o, o ∈ l2 → o < n ∧ tr o ≤ (la o).toInt ∧ (la o).toInt + (d o).toInt ≤ (due (jb o)).toInt ∧ (la o).toInt + (d o).toInt ≤ hz) ∧
  (l2.Pairwise (fun a b => (jb a = jb b ∨ mb a = mb b) → (la a).toInt + (d a).toInt ≤ (la b).toInt)) ∧
  (∀ o, o ∈ l1 → o < n ∧ (je (jb o)).toInt ≤ (due (jb o)).toInt ∧ (me (mb o)).toInt ≤ hz ∧ ∀ b, b ∈ l2 → (jb o = jb b → (je (jb o)).toInt ≤ (la b).toInt) ∧ (mb o = mb b → (me (mb o)).toInt ≤ (la b).toInt)) ∧
  (∀ s, jy_LF n d rel due jb mb hz (l1 ++ l2) s → (∀ o, o ∈ l2 → s o ≤ (la o).toInt) ∧ ∀ o, o ∈ l1 → s o + (d o).toInt ≤ (je (jb o)).toInt ∧ s o + (d o).toInt ≤ (me (mb o)).toInt)
theorem jy_L_step {n : Nat} {d rel due : Nat → Int32} {jb mb : Nat → Nat} {hz : Int} {tr : Nat → Int} {l1 l2 : List Nat} {la je me : Nat → Int32} {o : Nat} {e : Int32} (V : jy_V n d rel due jb mb hz) (E : jy_Lt n d rel due jb mb hz tr (l1 ++ [o]) l2 la je me)
    (hT : jy_LF n d rel due jb mb hz (l1 ++ o :: l2) tr) (hst : (e = me (mb o) ∧ me (mb o) ≤ je (jb o)) ∨ (e = je (jb o) ∧ ¬ me (mb o) ≤ je (jb o))) :
    jy_Lt n d rel due jb mb hz tr l1 (o :: l2) (upd la o (e - d o)) (upd je (jb o) (e - d o)) (upd me (mb o) (e - d o)) := by
  obtain ⟨e0, e2, e3, e4, e5⟩ := E
  have eapp : l1 ++ [o] ++ l2 = l1 ++ o :: l2 := by rw [List.append_assoc]; rfl
  rw [eapp] at e0
  obtain ⟨ho, oj, om, oa⟩ := e4 o (List.mem_append.mpr (Or.inr List.mem_cons_self))
  have dv := V.2.1 o ho
  have rv := V.2.2.2 o ho
  have hz2 := V.2.2.1
  have tmax := (e5 tr (by rw [eapp]; exact hT)).2 o (List.mem_append.mpr (Or.inr List.mem_cons_self))
  have tr0 := (hT.1 o ho).1
  have eb : e.toInt ≤ (je (jb o)).toInt ∧ e.toInt ≤ (me (mb o)).toInt ∧ ∀ x : Int, x ≤ (je (jb o)).toInt → x ≤ (me (mb o)).toInt → x ≤ e.toInt := by
    rcases hst with ⟨q, c⟩ | ⟨q, c⟩
    · have := ja_le.mp c
      rw [q]
      exact ⟨this, Int.le_refl _, fun x _ h => h⟩
    · have := mt ja_le.mpr c
      rw [q]
      exact ⟨Int.le_refl _, by omega, fun x h _ => h⟩
  have et := eb.2.2 _ tmax.1 tmax.2
  have est : (e - d o).toInt = e.toInt - (d o).toInt := ja_sub (by omega) (by omega)
  have hnd : o ∉ l1 ∧ o ∉ l2 := by
    have := List.nodup_append.mp e0
    refine ⟨fun q => this.2.2 o q o List.mem_cons_self rfl, (List.nodup_cons.mp this.2.1).1⟩
  have t2 : ∀ a, a ∈ l2 → upd la o (e - d o) a = la a := fun a ha => pk_un (fun q => hnd.2 (q ▸ ha))
  refine ⟨e0, fun a ha => ?_, ?_, fun x hx => ?_, fun s hs => ?_⟩
  · rcases List.mem_cons.mp ha with q | q
    · subst q
      rw [pk_us, est]
      exact ⟨ho, by omega, by omega, by omega⟩
    · rw [t2 a q]; exact e2 a q
  · refine List.pairwise_cons.mpr ⟨fun b hb q => ?_, List.Pairwise.imp_of_mem (fun {a b} ha hb q => ?_) e3⟩
    · rw [pk_us, est, t2 b hb]
      rcases q with q | q
      · have := (oa b hb).1 q; omega
      · have := (oa b hb).2 q; omega
    · rw [t2 a ha, t2 b hb]; exact q
  · obtain ⟨x1, x2, x3, x4⟩ := e4 x (List.mem_append.mpr (Or.inl hx))
    have J : (jb x = jb o → upd je (jb o) (e - d o) (jb x) = e - d o) ∧ (jb x ≠ jb o → upd je (jb o) (e - d o) (jb x) = je (jb x)) := ⟨fun q => by rw [q]; exact pk_us, fun q => pk_un q⟩
    have Mm : (mb x = mb o → upd me (mb o) (e - d o) (mb x) = e - d o) ∧ (mb x ≠ mb o → upd me (mb o) (e - d o) (mb x) = me (mb x)) := ⟨fun q => by rw [q]; exact pk_us, fun q => pk_un q⟩
    refine ⟨x1, ?_, ?_, fun b hb => ?_⟩
    · by_cases z : jb x = jb o
      · rw [J.1 z, est, z]; omega
      · rw [J.2 z]; exact x2
    · by_cases z : mb x = mb o
      · rw [Mm.1 z, est]; omega
      · rw [Mm.2 z]; exact x3
    · rcases List.mem_cons.mp hb with q | q
      · subst q
        rw [pk_us]
        exact ⟨fun w => by rw [J.1 w]; exact Int.le_refl _, fun w => by rw [Mm.1 w]; exact Int.le_refl _⟩
      · rw [t2 b q]
        refine ⟨fun w => ?_, fun w => ?_⟩
        · by_cases z : jb x = jb o
          · rw [J.1 z, est]
            have := (oa b q).1 (z.symm.trans w); omega
          · rw [J.2 z]; exact (x4 b q).1 w
        · by_cases z : mb x = mb o
          · rw [Mm.1 z, est]
            have := (oa b q).2 (z.symm.trans w); omega
          · rw [Mm.2 z]; exact (x4 b q).2 w
  · have q := e5 s (by rw [eapp]; exact hs)
    have so := q.2 o (List.mem_append.mpr (Or.inr List.mem_cons_self))
    have so2 := eb.2.2 _ so.1 so.2
    refine ⟨fun a ha => ?_, fun x hx => ?_⟩
    · rcases List.mem_cons.mp ha with w | w
      · subst w
        rw [pk_us, est]; omega
      · rw [t2 a w]; exact q.1 a w
    · have sx := q.2 x (List.mem_append.mpr (Or.inl hx))
      have pw := (List.pairwise_append.mp hs.2).2.2 x hx o List.mem_cons_self
      refine ⟨?_, ?_⟩
      · by_cases z : jb x = jb o
        · rw [z, pk_us, est]; have := pw (Or.inl z); omega
        · rw [pk_un z]; exact sx.1
      · by_cases z : mb x = mb o
        · rw [z, pk_us, est]; have := pw (Or.inr z); omega
        · rw [pk_un z]; exact sx.2
theorem jw_line_nodup : ∀ {k : Nat} {Q : Nat → List Nat} {w : List Nat}, jw_sum Q = k → w ∈ jw_ws k (fun j => (Q j).length) → (∀ j, j < 4 → (Q j).Nodup) → (∀ i j, i < 4 → j < 4 → i ≠ j → ∀ y, y ∈ Q i → ¬ y ∈ Q j) → (jw_line Q w).Nodup := by
  intro k
  induction k with
  | zero => intro Q w hs h _ _; rw [List.mem_singleton.mp h]; exact List.nodup_nil
  | succ k ih =>
    intro Q w hs h hnd hdis
    obtain ⟨j, hj, hc, w', h', e⟩ := jw_mem_ws.mp h
    rw [e]
    rw [← jw_len_ud] at h'
    obtain ⟨o, r, eq⟩ : ∃ o r, Q j = o :: r := by
      match hq : Q j with
      | [] => rw [hq] at hc; exact absurd rfl hc
      | o :: r => exact ⟨o, r, rfl⟩
    have hs' := jw_sum_ud hj eq
    have nj := hnd j hj
    rw [eq] at nj
    have nj := List.nodup_cons.mp nj
    have memt : ∀ i, ∀ y, y ∈ jw_ud Q j (Q j).tail i → y ∈ Q i := fun i y hy => by
      by_cases z : i = j
      · subst z; rw [jw_ud_s] at hy; exact List.mem_of_mem_tail hy
      · rw [jw_ud_n z] at hy; exact hy
    show ((Q j).headD 0 :: jw_line (jw_ud Q j (Q j).tail) w').Nodup
    refine List.nodup_cons.mpr ⟨fun q => ?_, ih (by omega) h' (fun i hi => ?_) (fun i i' hi hi' hne y hy hy' => hdis i i' hi hi' hne y (memt i y hy) (memt i' y hy'))⟩
    · obtain ⟨i, hi, q⟩ := (jw_mem_line (by omega) h' _).mp q
      rw [eq, List.headD_cons] at q
      by_cases z : i = j
      · subst z
        rw [jw_ud_s, List.tail_cons] at q
        exact nj.1 q
      · rw [jw_ud_n z] at q
        exact hdis i j hi hj z o q (by rw [eq]; exact List.mem_cons_self)
    · by_cases z : i = j
      · subst z
        rw [jw_ud_s, eq, List.tail_cons]; exact nj.2
      · rw [jw_ud_n z]; exact hnd i hi
end
section
/-! Y: placeEarly, placeLate, obeysTrail -/
theorem jy_drop {l : List Nat} {t o : Nat} {r : List Nat} (h : l.drop t = o :: r) : t < l.length ∧ l.getD t 0 = o ∧ l.drop (t + 1) = r := by
  have h1 : t < l.length := by
    apply Classical.byContradiction
    intro z
    rw [List.drop_eq_nil_of_le (by omega)] at h
    exact absurd h (by simp)
  rw [List.drop_eq_getElem_cons h1] at h
  obtain ⟨e1, e2⟩ := List.cons.inj h
  refine ⟨h1, ?_, e2⟩
  rw [List.getD_eq_getElem?_getD, List.getElem?_eq_getElem h1]
  exact e1
section
variable {f_machineCount f_top f_horizon f_depth f_jobs f_recorded f_known f_alive f_least : Int32} {a_releaseOf a_dueOf a_jobOf a_machineOf a_length a_trailA a_trailB a_recordedStart a_best a_before a_list a_turnOf a_late : Nat → Int32} {a_mask : Nat → Int64}
theorem jy_pe41 {post : Int32 → SY → Prop} {n : Nat} {jb mb : Nat → Nat} {L : List Nat} (V : jy_V n a_length a_releaseOf a_dueOf jb mb f_horizon.toInt) (hmb : ∀ o, o < n → a_machineOf o = nI (mb o))
    (hli : ∀ j, j < 4 → ∀ t, t < (jw_Q n jb j).length → a_list (j * 8 + t) = nI ((jw_Q n jb j).getD t 0))
    (h0 : ∀ ta li tr je me, (∀ s, ¬ jy_LF n a_length a_releaseOf a_dueOf jb mb f_horizon.toInt L s) → post 0 (f_machineCount, f_top, f_horizon, f_depth, f_jobs, nI n, f_recorded, f_known, f_alive, f_least, a_releaseOf, a_dueOf, a_jobOf, a_machineOf, a_length, a_trailA, a_trailB, a_recordedStart, a_best, a_mask, a_before, a_list, a_turnOf, li, tr, a_late, ta, je, me))
    (h1 : ∀ ta li tr je me, jy_E n a_length a_releaseOf a_dueOf jb mb f_horizon.toInt L [] tr je me li → post 1 (f_machineCount, f_top, f_horizon, f_depth, f_jobs, nI n, f_recorded, f_known, f_alive, f_least, a_releaseOf, a_dueOf, a_jobOf, a_machineOf, a_length, a_trailA, a_trailB, a_recordedStart, a_best, a_mask, a_before, a_list, a_turnOf, li, tr, a_late, ta, je, me)) :
    ∀ (k N : Nat) (w : List Nat) (Q : Nat → List Nat) (l1 : List Nat) (ta li tr je me : Nat → Int32), w ∈ jw_ws k (fun j => (Q j).length) → k < N → l1.length + k = n → (∀ x, x < k → a_turnOf (l1.length + x) = nI (w.getD x 0)) →
      (∀ j, j < 4 → ∃ t, ta j = nI t ∧ Q j = (jw_Q n jb j).drop t) → L = l1 ++ jw_line Q w → jy_E n a_length a_releaseOf a_dueOf jb mb f_horizon.toInt l1 (jw_line Q w) tr je me li →
      (wY_placeEarly_41 post f_machineCount f_top f_horizon f_depth f_jobs (nI n) f_recorded f_known f_alive f_least N (nI l1.length) a_releaseOf a_dueOf a_jobOf a_machineOf a_length a_trailA a_trailB a_recordedStart a_best a_mask a_before a_list a_turnOf li tr a_late ta je me) := by
  have hn := V.1
  intro k
  induction k with
  | zero =>
    intro N w Q l1 ta li tr je me hw hN hl ht hq eL E
    obtain ⟨N', rfl⟩ : ∃ N', N = N' + 1 := ⟨N - 1, by omega⟩
    have ew : w = [] := List.mem_singleton.mp hw
    subst ew
    have e1 : l1.length = n := by omega
    rw [e1]
    have e2 : L = l1 := by rw [eL]; exact List.append_nil _
    refine br_t (nI_le (Nat.le_refl _) (by omega)) (h1 ta li tr je me ?_)
    rw [e2]; exact E
  | succ k ih =>
    intro N w Q l1 ta li tr je me hw hN hl ht hq eL E
    obtain ⟨N', rfl⟩ : ∃ N', N = N' + 1 := ⟨N - 1, by omega⟩
    obtain ⟨j, hj, hc, w', hw', ew⟩ := jw_mem_ws.mp hw
    subst ew
    rw [← jw_len_ud] at hw'
    obtain ⟨o, r, eq⟩ : ∃ o r, Q j = o :: r := by
      match hqq : Q j with
      | [] => rw [hqq] at hc; exact absurd rfl hc
      | o :: r => exact ⟨o, r, rfl⟩
    obtain ⟨t, et, eQ⟩ := hq j hj
    obtain ⟨d1, d2, d3⟩ := jy_drop (eQ.symm.trans eq)
    have ln := jy_Q_le (jb := jb) (j := j) n
    have oQ : o ∈ jw_Q n jb j := by
      have : o ∈ (jw_Q n jb j).drop t := by rw [← eQ, eq]; exact List.mem_cons_self
      exact List.mem_of_mem_drop this
    obtain ⟨ho, hoj⟩ := jw_Q_mem.mp oQ
    have el : jw_line Q (j :: w') = o :: jw_line (jw_ud Q j (Q j).tail) w' := by
      show (Q j).headD 0 :: _ = _
      rw [eq]; rfl
    rw [el] at E eL
    have tl : a_turnOf l1.length = nI j := ht 0 (by omega)
    have hm4 := (V.2.2.2 o ho).2.1
    have vl : vp_in (nI l1.length) 8 := vp_in_nI (by omega) (by omega)
    have cl : (nI l1.length).toNatClampNeg = l1.length := nI_clamp (by omega)
    have vj : vp_in (nI j) 4 := vp_in_nI hj (by omega)
    have cj : (nI j).toNatClampNeg = j := nI_clamp (by omega)
    have vo : vp_in (nI o) 8 := vp_in_nI (by omega) (by omega)
    have co : (nI o).toNatClampNeg = o := nI_clamp (by omega)
    have vm : vp_in (nI (mb o)) 4 := vp_in_nI hm4 (by omega)
    have cm : (nI (mb o)).toNatClampNeg = mb o := nI_clamp (by omega)
    have ix : nI j * 8 + ta j = nI (j * 8 + t) := by rw [et, jl_ix]
    have fin : ∀ st : Int32, ((st = me (mb o) ∧ je (jb o) ≤ me (mb o)) ∨ (st = je (jb o) ∧ ¬ je (jb o) ≤ me (mb o))) →
        (wY_placeEarly_113 post (wY_placeEarly_41 post f_machineCount f_top f_horizon f_depth f_jobs (nI n) f_recorded f_known f_alive f_least N') (nI l1.length) (nI j) (nI o) (nI (mb o)) st f_machineCount f_top f_horizon f_depth f_jobs (nI n) f_recorded f_known f_alive f_least a_releaseOf a_dueOf a_jobOf a_machineOf a_length a_trailA a_trailB a_recordedStart a_best a_mask a_before a_list a_turnOf li tr a_late ta je me) := by
      intro st hst
      obtain ⟨⟨s0, s1⟩, s2, s3⟩ := jy_E_step V E hst
      refine And.intro vo ?_
      rw [co]
      refine nm_e (And.intro vj ?_)
      rw [cj]
      refine br_c (fun z => h0 ta li tr je me (fun s hs => ?_)) (fun z => br_c (fun y => ?_) (fun y => h0 ta li tr je me (fun s hs => ?_)))
      · have := ja_lt.mp z
        rw [s1] at this
        rw [eL] at hs
        rw [← hoj] at this
        exact s2 (Or.inl this) s hs
      · have z' := mt ja_lt.mpr z
        have y' := ja_le.mp y
        rw [s1] at z' y'
        rw [← hoj] at z'
        have E' := s3 (by omega) y'
        rw [cl, cm]
        refine And.intro vj (And.intro vj (nm_e (And.intro vl (nm_e (And.intro vo (nm_e (And.intro vj (nm_e (And.intro vm (nm_e (nm_r (nI_1 l1.length) ?_)))))))))))
        have e9 : (l1 ++ [o]).length = l1.length + 1 := by rw [List.length_append]; rfl
        have K := ih N' w' (jw_ud Q j (Q j).tail) (l1 ++ [o]) (upd ta j (ta j + 1)) (upd li l1.length (nI o)) (upd tr o st) (upd je (jb o) (st + a_length o)) (upd me (mb o) (st + a_length o)) hw' (by omega) (by omega) (fun x hx => ?_) (fun i hi => ?_) ?_ E'
        · rw [e9, hoj] at K
          exact K
        · rw [e9]
          have := ht (x + 1) (by omega)
          rw [show l1.length + 1 + x = l1.length + (x + 1) by omega]
          exact this
        · by_cases zi : i = j
          · subst zi
            refine ⟨t + 1, by rw [pk_us, et, nI_1], ?_⟩
            rw [jw_ud_s, eq, List.tail_cons]; exact d3.symm
          · obtain ⟨t', e1, e2⟩ := hq i hi
            exact ⟨t', by rw [pk_un zi]; exact e1, by rw [jw_ud_n zi]; exact e2⟩
        · rw [eL, List.append_assoc]; rfl
      · have := mt ja_le.mpr y
        rw [s1] at this
        rw [eL] at hs
        exact s2 (Or.inr (by omega)) s hs
    refine br_f (nI_ge (by omega) (by omega)) (And.intro vl ?_)
    rw [cl, tl]
    refine nm_e (And.intro vj ?_)
    rw [cj, ix]
    refine And.intro (vp_in_nI (by omega) (by omega)) ?_
    rw [nI_clamp (by omega), hli j hj t d1, d2]
    refine nm_e (And.intro vo ?_)
    rw [co, hmb o ho]
    refine nm_e (And.intro vj (And.intro vm ?_))
    rw [cm]
    refine br_c (fun z => And.intro vm (fin _ (Or.inl ⟨rfl, by rw [hoj]; exact z⟩))) (fun z => And.intro vj ?_)
    have := fin (je j) (Or.inr ⟨by rw [hoj], by rw [hoj]; exact z⟩)
    exact this
end
section
variable {f_machineCount f_top f_horizon f_depth f_jobs f_recorded f_known f_alive f_least : Int32} {a_releaseOf a_dueOf a_jobOf a_machineOf a_length a_trailA a_trailB a_recordedStart a_best a_before a_list a_turnOf a_line a_trial a_late a_taken a_jobEdge a_machineEdge : Nat → Int32} {a_mask : Nat → Int64}
theorem jy_placeEarly {post : Int32 → SY → Prop} {n : Nat} {jb mb : Nat → Nat} {w : List Nat} (V : jy_V n a_length a_releaseOf a_dueOf jb mb f_horizon.toInt) (hmb : ∀ o, o < n → a_machineOf o = nI (mb o))
    (hli : ∀ j, j < 4 → ∀ t, t < (jw_Q n jb j).length → a_list (j * 8 + t) = nI ((jw_Q n jb j).getD t 0)) (hw : w ∈ jw_ws n (jy_c n jb)) (ht : ∀ x, x < n → a_turnOf x = nI (w.getD x 0))
    (h0 : ∀ ta li tr je me, (∀ s, ¬ jy_LF n a_length a_releaseOf a_dueOf jb mb f_horizon.toInt (jw_line (jw_Q n jb) w) s) → post 0 (f_machineCount, f_top, f_horizon, f_depth, f_jobs, nI n, f_recorded, f_known, f_alive, f_least, a_releaseOf, a_dueOf, a_jobOf, a_machineOf, a_length, a_trailA, a_trailB, a_recordedStart, a_best, a_mask, a_before, a_list, a_turnOf, li, tr, a_late, ta, je, me))
    (h1 : ∀ ta li tr je me, jy_E n a_length a_releaseOf a_dueOf jb mb f_horizon.toInt (jw_line (jw_Q n jb) w) [] tr je me li → post 1 (f_machineCount, f_top, f_horizon, f_depth, f_jobs, nI n, f_recorded, f_known, f_alive, f_least, a_releaseOf, a_dueOf, a_jobOf, a_machineOf, a_length, a_trailA, a_trailB, a_recordedStart, a_best, a_mask, a_before, a_list, a_turnOf, li, tr, a_late, ta, je, me)) : (wpY_placeEarly post (f_machineCount, f_top, f_horizon, f_depth, f_jobs, nI n, f_recorded, f_known, f_alive, f_least, a_releaseOf, a_dueOf, a_jobOf, a_machineOf, a_length, a_trailA, a_trailB, a_recordedStart, a_best, a_mask, a_before, a_list, a_turnOf, a_line, a_trial, a_late, a_taken, a_jobEdge, a_machineEdge)) := by
  have hn := V.1
  have hj4 : ∀ o, o < n → jb o < 4 := fun o ho => (V.2.2.2 o ho).1
  show ∃ n2 : Nat, (wY_placeEarly_2 post f_machineCount f_top f_horizon f_depth f_jobs (nI n) f_recorded f_known f_alive f_least n2 0 a_releaseOf a_dueOf a_jobOf a_machineOf a_length a_trailA a_trailB a_recordedStart a_best a_mask a_before a_list a_turnOf a_line a_trial a_late a_taken a_jobEdge a_machineEdge)
  refine loop_0 (σ := (Nat → Int32) × (Nat → Int32) × (Nat → Int32)) (fun m i s => (wY_placeEarly_2 post f_machineCount f_top f_horizon f_depth f_jobs (nI n) f_recorded f_known f_alive f_least m (nI i) a_releaseOf a_dueOf a_jobOf a_machineOf a_length a_trailA a_trailB a_recordedStart a_best a_mask a_before a_list a_turnOf a_line a_trial a_late s.1 s.2.1 s.2.2))
    (fun i s => ∀ j, j < i → s.1 j = 0 ∧ s.2.1 j = a_releaseOf j ∧ s.2.2 j = 0) 4 (a_taken, a_jobEdge, a_machineEdge) (fun j hj => by omega) ?_ ?_
  · rintro m ⟨ta, je, me⟩ I
    refine br_t (nI_le (a := 4) (b := 4) (by omega) (by omega)) ⟨n + 1, ?_⟩
    refine jy_pe41 V hmb hli h0 h1 n (n + 1) w (jw_Q n jb) [] ta a_line a_trial je me hw (by omega) (by simp) (fun x hx => by rw [List.length_nil, Nat.zero_add]; exact ht x hx) (fun j hj => ⟨0, (I j hj).1, rfl⟩) rfl ?_
    have mem : ∀ o, o ∈ jw_line (jw_Q n jb) w → o < n := fun o ho => (jw_line_lt hj4 hw o).mp ho
    refine ⟨?_, fun x hx => absurd hx (Nat.not_lt_zero x), fun o ho => absurd ho (by simp), List.Pairwise.nil, fun o ho => ?_, fun s hs => ⟨fun o ho => absurd ho (by simp), fun o ho => ?_⟩⟩
    · exact jw_line_nodup (jw_Q_sum hj4) hw (fun j _ => List.Pairwise.imp (fun h => Nat.ne_of_lt h) jw_Q_inc) (fun i j _ _ hne y hy hy' => hne ((jw_Q_mem.mp hy).2.symm.trans (jw_Q_mem.mp hy').2))
    · have v := V.2.2.2 o (mem o ho)
      have i1 := I (jb o) v.1
      have i2 := I (mb o) v.2.1
      refine ⟨mem o ho, ?_, ?_, fun a ha => absurd ha (by simp)⟩
      · show (a_releaseOf (jb o)).toInt ≤ (je (jb o)).toInt ∧ (je (jb o)).toInt ≤ 60
        rw [show je (jb o) = a_releaseOf (jb o) from i1.2.1]; omega
      · show 0 ≤ (me (mb o)).toInt ∧ (me (mb o)).toInt ≤ 60
        rw [show me (mb o) = 0 from i2.2.2, ja_0]; omega
    · have v := V.2.2.2 o (mem o ho)
      have i1 := I (jb o) v.1
      have i2 := I (mb o) v.2.1
      have so := (hs.1 o (mem o ho)).1
      rw [show je (jb o) = a_releaseOf (jb o) from i1.2.1, show me (mb o) = 0 from i2.2.2, ja_0]
      omega
  · rintro m i ⟨ta, je, me⟩ hi I K
    have vi : vp_in (nI i) 4 := vp_in_nI (by omega) (by omega)
    have ci : (nI i).toNatClampNeg = i := nI_clamp (by omega)
    refine br_f (nI_ge (a := i) (b := 4) hi (by omega)) (And.intro vi ?_)
    rw [ci]
    refine nm_e (And.intro vi (And.intro vi (nm_e (And.intro vi (nm_e (nm_r (nI_1 i) (K (upd ta i 0, upd je i (a_releaseOf i), upd me i 0) fun j hj => ?_)))))))
    show upd ta i 0 j = 0 ∧ upd je i (a_releaseOf i) j = a_releaseOf j ∧ upd me i 0 j = 0
    by_cases z : j = i
    · subst z; exact ⟨pk_us, pk_us, pk_us⟩
    · rw [pk_un z, pk_un z, pk_un z]; exact I j (by omega)
theorem jy_placeLate {post : SY → Prop} {n : Nat} {jb mb : Nat → Nat} {L : List Nat} {tr : Nat → Int} (V : jy_V n a_length a_releaseOf a_dueOf jb mb f_horizon.toInt) (hjb : ∀ o, o < n → a_jobOf o = nI (jb o)) (hmb : ∀ o, o < n → a_machineOf o = nI (mb o))
    (hL : L.length = n) (hnd : L.Nodup) (hlt : ∀ o, o ∈ L → o < n) (hli : ∀ x, x < n → a_line x = nI (L.getD x 0)) (hT : jy_LF n a_length a_releaseOf a_dueOf jb mb f_horizon.toInt L tr)
    (h : ∀ la je me, jy_Lt n a_length a_releaseOf a_dueOf jb mb f_horizon.toInt tr [] L la je me → post (f_machineCount, f_top, f_horizon, f_depth, f_jobs, nI n, f_recorded, f_known, f_alive, f_least, a_releaseOf, a_dueOf, a_jobOf, a_machineOf, a_length, a_trailA, a_trailB, a_recordedStart, a_best, a_mask, a_before, a_list, a_turnOf, a_line, a_trial, la, a_taken, je, me)) : (wpY_placeLate post (f_machineCount, f_top, f_horizon, f_depth, f_jobs, nI n, f_recorded, f_known, f_alive, f_least, a_releaseOf, a_dueOf, a_jobOf, a_machineOf, a_length, a_trailA, a_trailB, a_recordedStart, a_best, a_mask, a_before, a_list, a_turnOf, a_line, a_trial, a_late, a_taken, a_jobEdge, a_machineEdge)) := by
  have hn := V.1
  have key : ∀ (l1 l2 : List Nat) (N : Nat) (la je me : Nat → Int32), L = l1 ++ l2 → l1.length < N → jy_Lt n a_length a_releaseOf a_dueOf jb mb f_horizon.toInt tr l1 l2 la je me →
      (wY_placeLate_42 post f_machineCount f_top f_horizon f_depth f_jobs (nI n) f_recorded f_known f_alive f_least N (nI l1.length - 1) a_releaseOf a_dueOf a_jobOf a_machineOf a_length a_trailA a_trailB a_recordedStart a_best a_mask a_before a_list a_turnOf a_line a_trial la a_taken je me) := by
    intro l1
    generalize hk : l1.length = k
    induction k generalizing l1 with
    | zero =>
      intro l2 N la je me eL hN E
      have : l1 = [] := List.length_eq_zero_iff.mp hk
      subst this
      obtain ⟨N', rfl⟩ : ∃ N', N = N' + 1 := ⟨N - 1, by omega⟩
      refine br_t (by decide) (h la je me ?_)
      have : L = l2 := eL
      rw [this]; exact E
    | succ k ih =>
      intro l2 N la je me eL hN E
      obtain ⟨N', rfl⟩ : ∃ N', N = N' + 1 := ⟨N - 1, by omega⟩
      obtain ⟨l1', o, e1⟩ : ∃ l o, l1 = l ++ [o] := by
        refine ⟨l1.dropLast, l1.getLast (fun e => by rw [e] at hk; exact absurd hk (by simp)), ?_⟩
        exact (List.dropLast_concat_getLast _).symm
      subst e1
      have hk' : l1'.length = k := by rw [List.length_append] at hk; have : [o].length = 1 := rfl
                                      omega
      have eL' : L = l1' ++ o :: l2 := by rw [eL, List.append_assoc]; rfl
      have hkn : k < n := by rw [← hL, eL', List.length_append, List.length_cons]; omega
      have lo : a_line k = nI o := by
        rw [hli k hkn, eL', jy_gr (by omega), hk', Nat.sub_self]; rfl
      have ho : o < n := hlt o (by rw [eL']; exact List.mem_append.mpr (Or.inr List.mem_cons_self))
      have v := V.2.2.2 o ho
      have vk : vp_in (nI k) 8 := vp_in_nI (by omega) (by omega)
      have ck : (nI k).toNatClampNeg = k := nI_clamp (by omega)
      have vj : vp_in (nI (jb o)) 4 := vp_in_nI v.1 (by omega)
      have cj : (nI (jb o)).toNatClampNeg = jb o := nI_clamp (by omega)
      have vo : vp_in (nI o) 8 := vp_in_nI (by omega) (by omega)
      have co : (nI o).toNatClampNeg = o := nI_clamp (by omega)
      have vm : vp_in (nI (mb o)) 4 := vp_in_nI v.2.1 (by omega)
      have cm : (nI (mb o)).toNatClampNeg = mb o := nI_clamp (by omega)
      have fin : ∀ e : Int32, ((e = me (mb o) ∧ me (mb o) ≤ je (jb o)) ∨ (e = je (jb o) ∧ ¬ me (mb o) ≤ je (jb o))) →
          (wY_placeLate_100 post (wY_placeLate_42 post f_machineCount f_top f_horizon f_depth f_jobs (nI n) f_recorded f_known f_alive f_least N') (nI k) (nI o) (nI (jb o)) (nI (mb o)) e f_machineCount f_top f_horizon f_depth f_jobs (nI n) f_recorded f_known f_alive f_least a_releaseOf a_dueOf a_jobOf a_machineOf a_length a_trailA a_trailB a_recordedStart a_best a_mask a_before a_list a_turnOf a_line a_trial la a_taken je me) := by
        intro e he
        have E' := jy_L_step V E (by rw [← eL']; exact hT) he
        refine And.intro vo (And.intro vo ?_)
        rw [co]
        refine nm_e (And.intro vo (And.intro vj ?_))
        rw [cj, pk_us]
        refine nm_e (And.intro vo (And.intro vm ?_))
        rw [cm]
        have e9 : nI k + (-1) = nI k - 1 := (Int32.sub_eq_add_neg _ _).symm
        exact nm_e (nm_r e9 (ih l1' hk' (o :: l2) N' _ _ _ eL' (by omega) E'))
      rw [nI_pred]
      refine br_f (nI_pos (by omega)) (And.intro vk ?_)
      rw [ck, lo]
      refine nm_e (And.intro vo ?_)
      rw [co, hjb o ho]
      refine nm_e (And.intro vo ?_)
      rw [hmb o ho]
      refine nm_e (And.intro vj (And.intro vm ?_))
      rw [cj, cm]
      exact br_c (fun z => And.intro vm (fin _ (Or.inl ⟨rfl, z⟩))) (fun z => And.intro vj (fin _ (Or.inr ⟨rfl, z⟩)))
  show ∃ n2 : Nat, (wY_placeLate_2 post f_machineCount f_top f_horizon f_depth f_jobs (nI n) f_recorded f_known f_alive f_least n2 0 a_releaseOf a_dueOf a_jobOf a_machineOf a_length a_trailA a_trailB a_recordedStart a_best a_mask a_before a_list a_turnOf a_line a_trial a_late a_taken a_jobEdge a_machineEdge)
  refine loop_0 (σ := (Nat → Int32) × (Nat → Int32)) (fun m i s => (wY_placeLate_2 post f_machineCount f_top f_horizon f_depth f_jobs (nI n) f_recorded f_known f_alive f_least m (nI i) a_releaseOf a_dueOf a_jobOf a_machineOf a_length a_trailA a_trailB a_recordedStart a_best a_mask a_before a_list a_turnOf a_line a_trial a_late a_taken s.1 s.2))
    (fun i s => ∀ j, j < i → s.1 j = a_dueOf j ∧ s.2 j = f_horizon) 4 (a_jobEdge, a_machineEdge) (fun j hj => by omega) ?_ ?_
  · rintro m ⟨je, me⟩ I
    have I : ∀ j, j < 4 → je j = a_dueOf j ∧ me j = f_horizon := I
    refine br_t (nI_le (a := 4) (b := 4) (by omega) (by omega)) ?_
    have e9 : nI n - 1 = nI L.length - 1 := by rw [hL]
    refine nm_r e9 ⟨n + 1, key L [] (n + 1) a_late je me (List.append_nil L).symm (by omega) ?_⟩
    refine ⟨by rw [List.append_nil]; exact hnd, fun o ho => absurd ho (by simp), List.Pairwise.nil, fun o ho => ⟨hlt o ho, ?_, ?_, fun b hb => absurd hb (by simp)⟩, fun s hs => ⟨fun o ho => absurd ho (by simp), fun o ho => ?_⟩⟩
    · rw [(I (jb o) (V.2.2.2 o (hlt o ho)).1).1]; exact Int.le_refl _
    · rw [(I (mb o) (V.2.2.2 o (hlt o ho)).2.1).2]; exact Int.le_refl _
    · rw [(I (jb o) (V.2.2.2 o (hlt o ho)).1).1, (I (mb o) (V.2.2.2 o (hlt o ho)).2.1).2]
      exact (hs.1 o (hlt o ho)).2
  · rintro m i ⟨je, me⟩ hi I K
    have vi : vp_in (nI i) 4 := vp_in_nI (by omega) (by omega)
    have ci : (nI i).toNatClampNeg = i := nI_clamp (by omega)
    refine br_f (nI_ge (a := i) (b := 4) hi (by omega)) (And.intro vi ?_)
    rw [ci]
    refine And.intro vi (nm_e (And.intro vi (nm_e (nm_r (nI_1 i) (K (upd je i (a_dueOf i), upd me i f_horizon) fun j hj => ?_)))))
    show upd je i (a_dueOf i) j = a_dueOf j ∧ upd me i f_horizon j = f_horizon
    by_cases z : j = i
    · subst z; exact ⟨pk_us, pk_us⟩
    · rw [pk_un z, pk_un z]; exact I j (by omega)
theorem jy_done {post : Int32 → Prop} {n a b : Nat} (ha : a < 8) (hb : b < 8) (h1 : a_trial a + a_length a ≤ a_trial b → post 1) (h0 : ¬ a_trial a + a_length a ≤ a_trial b → post 0) : (wpY_done post (f_machineCount, f_top, f_horizon, f_depth, f_jobs, nI n, f_recorded, f_known, f_alive, f_least, a_releaseOf, a_dueOf, a_jobOf, a_machineOf, a_length, a_trailA, a_trailB, a_recordedStart, a_best, a_mask, a_before, a_list, a_turnOf, a_line, a_trial, a_late, a_taken, a_jobEdge, a_machineEdge) (nI a) (nI b)) := by
  have va : vp_in (nI a) 8 := vp_in_nI ha (by omega)
  have vb : vp_in (nI b) 8 := vp_in_nI hb (by omega)
  have ca : (nI a).toNatClampNeg = a := nI_clamp (by omega)
  have cb : (nI b).toNatClampNeg = b := nI_clamp (by omega)
  unfold wpY_done
  dsimp only
  rw [ca, cb]
  exact And.intro va (And.intro va (And.intro vb (br_c (fun z => h0 (fun y => Int32.not_lt.mpr y z)) (fun z => h1 (Int32.not_lt.mp z)))))
end
section
variable {f_machineCount f_top f_horizon f_jobs f_recorded f_known f_alive f_least : Int32} {a_releaseOf a_dueOf a_jobOf a_machineOf a_length a_trailA a_trailB a_recordedStart a_best a_before a_list a_turnOf a_line a_trial a_late a_taken a_jobEdge a_machineEdge : Nat → Int32} {a_mask : Nat → Int64}
theorem jy_obeysTrail {post : Int32 → Prop} {n dp : Nat} (hn : n ≤ 8) (hdp : dp ≤ 12) (hT : ∀ e, e < dp → a_trailA e = -5 ∨ ∃ a b, a < n ∧ b < n ∧ a ≠ b ∧ a_machineOf a = a_machineOf b ∧ a_trailA e = nI a ∧ a_trailB e = nI b)
    (h1 : (∀ e, e < dp → ∀ a b, a < n → b < n → a_trailA e = nI a → a_trailB e = nI b → a_trial a + a_length a ≤ a_trial b) → post 1)
    (h0 : (¬ ∀ e, e < dp → ∀ a b, a < n → b < n → a_trailA e = nI a → a_trailB e = nI b → a_trial a + a_length a ≤ a_trial b) → post 0) : (wpY_obeysTrail post (f_machineCount, f_top, f_horizon, nI dp, f_jobs, nI n, f_recorded, f_known, f_alive, f_least, a_releaseOf, a_dueOf, a_jobOf, a_machineOf, a_length, a_trailA, a_trailB, a_recordedStart, a_best, a_mask, a_before, a_list, a_turnOf, a_line, a_trial, a_late, a_taken, a_jobEdge, a_machineEdge)) := by
  have n5 : ∀ a, a < 8 → ¬ nI a = -5 := by decide +kernel
  show ∃ n2 : Nat, (wY_obeysTrail_2 post f_machineCount f_top f_horizon (nI dp) f_jobs (nI n) f_recorded f_known f_alive f_least a_releaseOf a_dueOf a_jobOf a_machineOf a_length a_trailA a_trailB a_recordedStart a_best a_mask a_before a_list a_turnOf a_line a_trial a_late a_taken a_jobEdge a_machineEdge n2 0)
  refine loop_0 (σ := Unit) (fun m i _ => (wY_obeysTrail_2 post f_machineCount f_top f_horizon (nI dp) f_jobs (nI n) f_recorded f_known f_alive f_least a_releaseOf a_dueOf a_jobOf a_machineOf a_length a_trailA a_trailB a_recordedStart a_best a_mask a_before a_list a_turnOf a_line a_trial a_late a_taken a_jobEdge a_machineEdge m (nI i)))
    (fun i _ => ∀ e, e < i → ∀ a b, a < n → b < n → a_trailA e = nI a → a_trailB e = nI b → a_trial a + a_length a ≤ a_trial b) dp () (fun e he => by omega) ?_ ?_
  · intro m _ I
    exact br_t (nI_le (Nat.le_refl _) (by omega)) (h1 I)
  · intro m e _ he I K
    have ve : vp_in (nI e) 12 := vp_in_nI (by omega) (by omega)
    have ce : (nI e).toNatClampNeg = e := nI_clamp (by omega)
    refine br_f (nI_ge he (by omega)) (And.intro ve ?_)
    rw [ce]
    refine br_c (fun z => nm_r (nI_1 e) (K () fun e' he' a b ha hb q1 q2 => ?_)) (fun z => And.intro ve (And.intro ve ?_))
    · by_cases w : e' = e
      · subst w
        exact absurd (q1.symm.trans z) (n5 a (by omega))
      · exact I e' (by omega) a b ha hb q1 q2
    · rcases hT e he with y | ⟨a, b, ha, hb, _, _, q1, q2⟩
      · exact absurd y z
      · rw [q1, q2]
        refine jy_done (by omega) (by omega) (fun w => br_f ja_10 (nm_r (nI_1 e) (K () fun e' he' a' b' ha' hb' p1 p2 => ?_))) (fun w => br_t rfl (h0 fun y => w (y e he a b ha hb q1 q2)))
        by_cases c : e' = e
        · subst c
          have x1 := (nI_eq (by omega) (by omega)).mp (q1.symm.trans p1)
          have x2 := (nI_eq (by omega) (by omega)).mp (q2.symm.trans p2)
          rw [← x1, ← x2]; exact w
        · exact I e' (by omega) a' b' ha' hb' p1 p2
end
end
section
/-! bits of Int64 -/
def jk_b (x : Int64) (t : Nat) : Bool := x.toBitVec.getLsbD t
theorem jk_or (x y : Int64) (t : Nat) : jk_b (x ||| y) t = (jk_b x t || jk_b y t) := by unfold jk_b; rw [Int64.toBitVec_or, BitVec.getLsbD_or]
theorem jk_0 (t : Nat) : jk_b 0 t = false := BitVec.getLsbD_zero
theorem jk_ext {x y : Int64} (h : ∀ t, t < 64 → jk_b x t = jk_b y t) : x = y := Int64.toBitVec_inj.mp (BitVec.eq_of_getLsbD_eq (fun t ht => h t ht))
theorem jk_lN (m : Nat) {t : Nat} (ht : t < 64) : jk_b (lN m) t = m.testBit t := by
  unfold jk_b
  rw [lN_bv, BitVec.getLsbD_ofNat, decide_eq_true ht, Bool.true_and]
theorem jk_nI {x : Int32} (h : 0 ≤ x.toInt) : x = nI x.toInt.toNat := by
  have := x.toInt_lt
  apply Int32.toInt_inj.mp
  rw [nI_toInt (by omega)]
  omega
theorem jk_mask {x y : Int32} (h0 : 0 ≤ x.toInt) (h1 : x.toInt ≤ y.toInt) (h2 : y.toInt < 60) {t : Nat} (ht : t < 64) :
    jk_b ((((1 : Int64) <<< (((y - x) + 1).toInt64 &&& 63)) - 1) <<< (x.toInt64 &&& 63)) t = decide (x.toInt ≤ (t : Int) ∧ (t : Int) ≤ y.toInt) := by
  have e1 : (y - x).toInt = y.toInt - x.toInt := ja_sub (by omega) (by omega)
  have e2 : ((y - x) + 1).toInt = y.toInt - x.toInt + 1 := by rw [ja_add (by rw [e1, ja_1]; omega) (by rw [e1, ja_1]; omega), e1, ja_1]
  have e3 := jk_nI (x := (y - x) + 1) (by omega)
  have e4 := jk_nI h0
  generalize hw : ((y - x) + 1).toInt.toNat = w at e3
  generalize hs : x.toInt.toNat = s at e4
  have o1 : (1 : Int64) = lN 1 := rfl
  rw [e3]
  have f1 : (1 : Int64) <<< ((nI w).toInt64 &&& 63) = lN (2 ^ w) := by rw [o1, wb_shl 1 (by omega), Nat.one_mul]
  have f2 : lN (2 ^ w) - 1 = lN (2 ^ w - 1) := lN_sub (Nat.one_le_two_pow)
  rw [f1, f2]
  have f3 : lN (2 ^ w - 1) <<< (x.toInt64 &&& 63) = lN ((2 ^ w - 1) * 2 ^ s) := by
    rw [e4, wb_shl _ (by omega)]
  rw [f3, jk_lN _ ht, ← Nat.shiftLeft_eq, Nat.testBit_shiftLeft, Nat.testBit_two_pow_sub_one, ← Bool.decide_and]
  exact decide_eq_decide.mpr ⟨fun h => by omega, fun h => by omega⟩
/-! the span of a schedule, the order of schedules -/
def jy_sp (d : Nat → Int32) (s : Nat → Int) : Nat → Int
  | 0 => 0
  | k + 1 => if s k + (d k).toInt ≤ jy_sp d s k then jy_sp d s k else s k + (d k).toInt
theorem jy_sp_le {d : Nat → Int32} {s : Nat → Int} {c : Int} : ∀ {k : Nat}, jy_sp d s k ≤ c ↔ 0 ≤ c ∧ ∀ o, o < k → s o + (d o).toInt ≤ c := by
  intro k
  induction k with
  | zero => exact ⟨fun h => ⟨h, fun o ho => by omega⟩, fun h => h.1⟩
  | succ k ih =>
    show (if s k + (d k).toInt ≤ jy_sp d s k then jy_sp d s k else s k + (d k).toInt) ≤ c ↔ _
    constructor
    · intro h
      by_cases z : s k + (d k).toInt ≤ jy_sp d s k
      · rw [if_pos z] at h
        have q := ih.mp h
        refine ⟨q.1, fun o ho => ?_⟩
        by_cases w : o = k
        · subst w; omega
        · exact q.2 o (by omega)
      · rw [if_neg z] at h
        have q := ih.mp (show jy_sp d s k ≤ c by omega)
        refine ⟨q.1, fun o ho => ?_⟩
        by_cases w : o = k
        · subst w; exact h
        · exact q.2 o (by omega)
    · intro h
      have a := ih.mpr ⟨h.1, fun o ho => h.2 o (by omega)⟩
      have b := h.2 k (by omega)
      split <;> omega
theorem jy_sp_mono {d : Nat → Int32} {s s' : Nat → Int} {n : Nat} (h : ∀ o, o < n → s o ≤ s' o) : jy_sp d s n ≤ jy_sp d s' n := by
  rw [jy_sp_le]
  have q := (jy_sp_le (d := d) (s := s') (k := n)).mp (Int.le_refl _)
  exact ⟨q.1, fun o ho => by have := q.2 o ho; have := h o ho; omega⟩
def jy_lx (n : Nat) (x y : Nat → Int) : Prop := (∀ o, o < n → x o = y o) ∨ ∃ o, o < n ∧ (∀ p, p < o → x p = y p) ∧ x o < y o
theorem jy_lx_le {x y : Nat → Int} : ∀ {n : Nat}, (∀ o, o < n → x o ≤ y o) → jy_lx n x y := by
  intro n
  induction n with
  | zero => intro _; exact Or.inl fun o ho => by omega
  | succ n ih =>
    intro h
    rcases ih (fun o ho => h o (by omega)) with q | ⟨o, ho, q1, q2⟩
    · by_cases z : x n = y n
      · refine Or.inl fun o ho => ?_
        by_cases w : o = n
        · rw [w]; exact z
        · exact q o (by omega)
      · exact Or.inr ⟨n, by omega, q, by have := h n (by omega); omega⟩
    · exact Or.inr ⟨o, by omega, q1, q2⟩
theorem jy_lx_tot (x y : Nat → Int) : ∀ n : Nat, jy_lx n x y ∨ (∃ o, o < n ∧ (∀ p, p < o → y p = x p) ∧ y o < x o) := by
  intro n
  induction n with
  | zero => exact Or.inl (Or.inl fun o ho => by omega)
  | succ n ih =>
    rcases ih with (q | ⟨o, ho, q1, q2⟩) | ⟨o, ho, q1, q2⟩
    · by_cases z : x n = y n
      · refine Or.inl (Or.inl fun o ho => ?_)
        by_cases w : o = n
        · rw [w]; exact z
        · exact q o (by omega)
      · by_cases w : x n < y n
        · exact Or.inl (Or.inr ⟨n, by omega, q, w⟩)
        · exact Or.inr ⟨n, by omega, fun p hp => (q p hp).symm, by omega⟩
    · exact Or.inl (Or.inr ⟨o, by omega, q1, q2⟩)
    · exact Or.inr ⟨o, by omega, q1, q2⟩
theorem jy_lx_tr {x y z : Nat → Int} {n : Nat} (h : jy_lx n x y) (k : jy_lx n y z) : jy_lx n x z := by
  rcases h with h | ⟨o, ho, h1, h2⟩
  · rcases k with k | ⟨o, ho, k1, k2⟩
    · exact Or.inl fun o ho => (h o ho).trans (k o ho)
    · exact Or.inr ⟨o, ho, fun p hp => (h p (by omega)).trans (k1 p hp), by rw [h o ho]; exact k2⟩
  · rcases k with k | ⟨q, hq, k1, k2⟩
    · exact Or.inr ⟨o, ho, fun p hp => (h1 p hp).trans (k p (by omega)), by rw [← k o ho]; exact h2⟩
    · rcases Nat.lt_trichotomy o q with w | w | w
      · exact Or.inr ⟨o, ho, fun p hp => (h1 p hp).trans (k1 p (by omega)), by rw [← k1 o w]; exact h2⟩
      · subst w; exact Or.inr ⟨o, ho, fun p hp => (h1 p hp).trans (k1 p hp), by omega⟩
      · exact Or.inr ⟨q, hq, fun p hp => (h1 p (by omega)).trans (k1 p hp), by rw [h1 q w]; exact k2⟩
/-- a better schedule than the kept one -/
def jy_bt (n : Nat) (tr be : Nat → Int32) : Prop := ∃ o, o < n ∧ (∀ p, p < o → tr p = be p) ∧ tr o < be o
def jy_tk (n : Nat) (al le span : Int32) (tr be : Nat → Int32) : Prop := al = 0 ∨ span < le ∨ (span = le ∧ jy_bt n tr be)
section
variable {f_machineCount f_top f_horizon f_depth f_jobs f_recorded f_known f_alive f_least : Int32} {a_releaseOf a_dueOf a_jobOf a_machineOf a_length a_trailA a_trailB a_recordedStart a_best a_before a_list a_turnOf a_line a_trial a_late a_taken a_jobEdge a_machineEdge : Nat → Int32} {a_mask : Nat → Int64}
theorem jy_better {post : Int32 → Prop} {n : Nat} {span : Int32} (hn : n ≤ 8) (h1 : jy_tk n f_alive f_least span a_trial a_best → post 1) (h0 : ¬ jy_tk n f_alive f_least span a_trial a_best → post 0) : (wpY_better post (f_machineCount, f_top, f_horizon, f_depth, f_jobs, nI n, f_recorded, f_known, f_alive, f_least, a_releaseOf, a_dueOf, a_jobOf, a_machineOf, a_length, a_trailA, a_trailB, a_recordedStart, a_best, a_mask, a_before, a_list, a_turnOf, a_line, a_trial, a_late, a_taken, a_jobEdge, a_machineEdge) span) := by
  unfold wpY_better
  dsimp only
  refine br_c (fun z => br_t z (h1 (Or.inl z))) (fun z => br_c (fun y => ?_) (fun y => br_f z (br_c (fun w => h0 ?_) (fun w => h1 (Or.inr (Or.inl (Int32.not_le.mp w)))))))
  · refine loop_0 (σ := Unit) (fun m i _ => (wY_better_38 post f_machineCount f_top f_horizon f_depth f_jobs (nI n) f_recorded f_known f_alive f_least a_releaseOf a_dueOf a_jobOf a_machineOf a_length a_trailA a_trailB a_recordedStart a_best a_mask a_before a_list a_turnOf a_line a_trial a_late a_taken a_jobEdge a_machineEdge m (nI i))) (fun i _ => ∀ p, p < i → a_trial p = a_best p) n () (fun p hp => by omega) ?_ ?_
    · intro m _ I
      refine br_t (nI_le (Nat.le_refl _) (by omega)) (h0 ?_)
      rintro (q | q | ⟨_, o, ho, _, q⟩)
      · exact z q
      · rw [y] at q; exact Int32.lt_irrefl q
      · rw [I o ho] at q; exact Int32.lt_irrefl q
    · intro m i _ hi I K
      have vi : vp_in (nI i) 8 := vp_in_nI (by omega) (by omega)
      have ci : (nI i).toNatClampNeg = i := nI_clamp (by omega)
      refine br_f (nI_ge hi (by omega)) (And.intro vi (And.intro vi ?_))
      rw [ci]
      refine br_c (fun e => nm_r (nI_1 i) (K () (lt_s I e))) (fun e => And.intro vi (And.intro vi (br_c (fun w => h0 ?_) (fun w => h1 (Or.inr (Or.inr ⟨y, i, hi, I, Int32.not_le.mp w⟩))))))
      rintro (q | q | ⟨_, o, ho, q1, q⟩)
      · exact z q
      · rw [y] at q; exact Int32.lt_irrefl q
      · rcases Nat.lt_trichotomy o i with u | u | u
        · rw [I o u] at q; exact Int32.lt_irrefl q
        · subst u; exact Int32.not_lt.mpr w q
        · exact e (q1 i u)
  · rintro (q | q | ⟨q, _⟩)
    · exact z q
    · exact Int32.not_lt.mpr w q
    · exact y q
theorem jy_collect {post : SY → Prop} {n : Nat} {L : List Nat} (hn : n ≤ 8) (hd : js_d n a_length) (hL : L.length = n) (hlt : ∀ o, o < n ↔ o ∈ L) (hli : ∀ x, x < n → a_line x = nI (L.getD x 0))
    (hr : ∀ o, o < n → 0 ≤ (a_trial o).toInt ∧ (a_trial o).toInt ≤ (a_late o).toInt ∧ (a_late o).toInt < 60)
    (h : ∀ (span r le : Int32) (be : Nat → Int32) (ma : Nat → Int64) (bf : Nat → Int32), span.toInt = jy_sp a_length (fun o => (a_trial o).toInt) n → ((r = 1 ∧ jy_tk n f_alive f_least span a_trial a_best ∧ le = span ∧ ∀ o, o < n → be o = a_trial o) ∨ (r = 0 ∧ (¬ jy_tk n f_alive f_least span a_trial a_best) ∧ le = f_least ∧ be = a_best)) →
      (∀ o, o < n → ∀ t, t < 64 → (jk_b (ma o) t = true ↔ (jk_b (a_mask o) t = true ∨ ((a_trial o).toInt ≤ (t : Int) ∧ (t : Int) ≤ (a_late o).toInt)))) →
      (∀ a b, a < n → b < n → (bf (a * 8 + b) ≠ 0 ↔ (a_before (a * 8 + b) ≠ 0 ∨ ∃ x y, x < y ∧ y < n ∧ L.getD x 0 = a ∧ L.getD y 0 = b))) →
      post (f_machineCount, f_top, f_horizon, f_depth, f_jobs, nI n, f_recorded, f_known, 1, le, a_releaseOf, a_dueOf, a_jobOf, a_machineOf, a_length, a_trailA, a_trailB, a_recordedStart, be, ma, bf, a_list, a_turnOf, a_line, a_trial, a_late, a_taken, a_jobEdge, a_machineEdge)) : (wpY_collect post (f_machineCount, f_top, f_horizon, f_depth, f_jobs, nI n, f_recorded, f_known, f_alive, f_least, a_releaseOf, a_dueOf, a_jobOf, a_machineOf, a_length, a_trailA, a_trailB, a_recordedStart, a_best, a_mask, a_before, a_list, a_turnOf, a_line, a_trial, a_late, a_taken, a_jobEdge, a_machineEdge)) := by
  have hget : ∀ x, x < n → L.getD x 0 < n := fun x hx => by
    rw [hlt, List.getD_eq_getElem?_getD, List.getElem?_eq_getElem (by omega)]
    exact List.getElem_mem _
  have hex : ∀ o, o < n → ∃ y, y < n ∧ L.getD y 0 = o := fun o ho => by
    obtain ⟨y, hy, e⟩ := List.mem_iff_getElem.mp ((hlt o).mp ho)
    refine ⟨y, by omega, ?_⟩
    rw [List.getD_eq_getElem?_getD, List.getElem?_eq_getElem hy]
    exact e
  have loop : ∀ (span r le : Int32), span.toInt = jy_sp a_length (fun o => (a_trial o).toInt) n → ((r = 1 ∧ jy_tk n f_alive f_least span a_trial a_best ∧ le = span) ∨ (r = 0 ∧ (¬ jy_tk n f_alive f_least span a_trial a_best) ∧ le = f_least)) →
      ∃ n71 : Nat, (wY_collect_71 post r f_machineCount f_top f_horizon f_depth f_jobs (nI n) f_recorded f_known 1 le n71 0 a_releaseOf a_dueOf a_jobOf a_machineOf a_length a_trailA a_trailB a_recordedStart a_best a_mask a_before a_list a_turnOf a_line a_trial a_late a_taken a_jobEdge a_machineEdge) := by
    intro span r le hsp hr2
    refine loop_0 (σ := (Nat → Int32) × (Nat → Int64) × (Nat → Int32)) (fun m i s => (wY_collect_71 post r f_machineCount f_top f_horizon f_depth f_jobs (nI n) f_recorded f_known 1 le m (nI i) a_releaseOf a_dueOf a_jobOf a_machineOf a_length a_trailA a_trailB a_recordedStart s.1 s.2.1 s.2.2 a_list a_turnOf a_line a_trial a_late a_taken a_jobEdge a_machineEdge))
      (fun i s => ((r = 1 → ∀ o, (∃ y, y < i ∧ L.getD y 0 = o) → s.1 o = a_trial o) ∧ (r = 0 → s.1 = a_best)) ∧
        (∀ o, o < n → ∀ t, t < 64 → (jk_b (s.2.1 o) t = true ↔ (jk_b (a_mask o) t = true ∨ ((∃ y, y < i ∧ L.getD y 0 = o) ∧ (a_trial o).toInt ≤ (t : Int) ∧ (t : Int) ≤ (a_late o).toInt)))) ∧
        (∀ a b, a < n → b < n → (s.2.2 (a * 8 + b) ≠ 0 ↔ (a_before (a * 8 + b) ≠ 0 ∨ ∃ x y, x < y ∧ y < i ∧ L.getD x 0 = a ∧ L.getD y 0 = b)))) n (a_best, a_mask, a_before)
      ⟨⟨fun _ o ⟨y, hy, _⟩ => by omega, fun _ => rfl⟩, fun o ho t ht => ⟨Or.inl, fun q => q.elim id (fun ⟨⟨y, hy, _⟩, _⟩ => by omega)⟩, fun a b ha hb => ⟨Or.inl, fun q => q.elim id (fun ⟨x, y, _, hy, _⟩ => by omega)⟩⟩ ?_ ?_
    · rintro m ⟨be, ma, bf⟩ ⟨⟨B1, B2⟩, M1, F1⟩
      refine br_t (nI_le (Nat.le_refl _) (by omega)) (h span r le be ma bf hsp ?_ (fun o ho t ht => (M1 o ho t ht).trans ⟨fun q => q.elim Or.inl (fun w => Or.inr w.2), fun q => q.elim Or.inl (fun w => Or.inr ⟨hex o ho, w⟩)⟩) F1)
      rcases hr2 with ⟨e1, e2, e3⟩ | ⟨e1, e2, e3⟩
      · exact Or.inl ⟨e1, e2, e3, fun o ho => B1 e1 o (hex o ho)⟩
      · exact Or.inr ⟨e1, e2, e3, B2 e1⟩
    · rintro m i ⟨be, ma, bf⟩ hi ⟨⟨B1, B2⟩, M1, F1⟩ K
      have B1 : r = 1 → ∀ o, (∃ y, y < i ∧ L.getD y 0 = o) → be o = a_trial o := B1
      have B2 : r = 0 → be = a_best := B2
      have M1 : ∀ o, o < n → ∀ t, t < 64 → (jk_b (ma o) t = true ↔ (jk_b (a_mask o) t = true ∨ ((∃ y, y < i ∧ L.getD y 0 = o) ∧ (a_trial o).toInt ≤ (t : Int) ∧ (t : Int) ≤ (a_late o).toInt))) := M1
      have F1 : ∀ a b, a < n → b < n → (bf (a * 8 + b) ≠ 0 ↔ (a_before (a * 8 + b) ≠ 0 ∨ ∃ x y, x < y ∧ y < i ∧ L.getD x 0 = a ∧ L.getD y 0 = b)) := F1
      show (wY_collect_71 post r f_machineCount f_top f_horizon f_depth f_jobs (nI n) f_recorded f_known 1 le (m + 1) (nI i) a_releaseOf a_dueOf a_jobOf a_machineOf a_length a_trailA a_trailB a_recordedStart be ma bf a_list a_turnOf a_line a_trial a_late a_taken a_jobEdge a_machineEdge)
      have vi : vp_in (nI i) 8 := vp_in_nI (by omega) (by omega)
      have ci : (nI i).toNatClampNeg = i := nI_clamp (by omega)
      have ho := hget i hi
      generalize eo : L.getD i 0 = o at ho
      have vo : vp_in (nI o) 8 := vp_in_nI (by omega) (by omega)
      have co : (nI o).toNatClampNeg = o := nI_clamp (by omega)
      have ro := hr o ho
      have upI : ∀ o', (∃ y, y < i + 1 ∧ L.getD y 0 = o') ↔ ((∃ y, y < i ∧ L.getD y 0 = o') ∨ o' = o) := by
        intro o'
        constructor
        · rintro ⟨y, hy, e⟩
          by_cases w : y = i
          · subst w; exact Or.inr (e.symm.trans eo)
          · exact Or.inl ⟨y, by omega, e⟩
        · rintro (⟨y, hy, e⟩ | e)
          · exact ⟨y, by omega, e⟩
          · exact ⟨i, by omega, eo.trans e.symm⟩
      have rest : ∀ be', (r = 1 → ∀ o', (∃ y, y < i + 1 ∧ L.getD y 0 = o') → be' o' = a_trial o') → (r = 0 → be' = a_best) →
          (wY_collect_105 post (wY_collect_71 post r f_machineCount f_top f_horizon f_depth f_jobs (nI n) f_recorded f_known 1 le m) r (nI i) (nI o) f_machineCount f_top f_horizon f_depth f_jobs (nI n) f_recorded f_known 1 le a_releaseOf a_dueOf a_jobOf a_machineOf a_length a_trailA a_trailB a_recordedStart be' ma bf a_list a_turnOf a_line a_trial a_late a_taken a_jobEdge a_machineEdge) := by
        intro be' C1 C2
        refine And.intro vo (And.intro vo (And.intro vo (And.intro vo (And.intro vo ?_))))
        rw [co]
        refine nm_e ?_
        refine loop_0 (σ := Nat → Int32) (fun m' k s => (wY_collect_147 post (wY_collect_71 post r f_machineCount f_top f_horizon f_depth f_jobs (nI n) f_recorded f_known 1 le m) r (nI i) (nI o) f_machineCount f_top f_horizon f_depth f_jobs (nI n) f_recorded f_known 1 le m' (nI k) a_releaseOf a_dueOf a_jobOf a_machineOf a_length a_trailA a_trailB a_recordedStart be' (vp_updL ma o (ma o ||| ((((1 : Int64) <<< (((a_late o - a_trial o) + 1).toInt64 &&& 63)) - 1) <<< ((a_trial o).toInt64 &&& 63)))) s a_list a_turnOf a_line a_trial a_late a_taken a_jobEdge a_machineEdge))
          (fun k s => ∀ a b, a < n → b < n → (s (a * 8 + b) ≠ 0 ↔ (a_before (a * 8 + b) ≠ 0 ∨ (∃ x y, x < y ∧ y < i ∧ L.getD x 0 = a ∧ L.getD y 0 = b) ∨ (b = o ∧ ∃ x, x < k ∧ L.getD x 0 = a)))) i bf
          (fun a b ha hb => (F1 a b ha hb).trans ⟨fun q => q.elim Or.inl (fun w => Or.inr (Or.inl w)), fun q => q.elim Or.inl (fun w => w.elim Or.inr (fun ⟨_, x, hx, _⟩ => by omega))⟩) ?_ ?_
        · intro m' bf' P
          refine br_t (nI_le (Nat.le_refl _) (by omega)) (nm_r (nI_1 i) (K (be', _, bf') ⟨⟨C1, C2⟩, fun o' ho' t ht => ?_, fun a b ha hb => ?_⟩))
          · show jk_b (vp_updL ma o _ o') t = true ↔ _
            rw [upI o']
            by_cases w : o' = o
            · subst w
              rw [pk_uLs, jk_or, jk_mask ro.1 ro.2.1 ro.2.2 ht, Bool.or_eq_true, decide_eq_true_eq, M1 o' ho' t ht]
              constructor
              · rintro ((q | q) | q)
                · exact Or.inl q
                · exact Or.inr ⟨Or.inl q.1, q.2⟩
                · exact Or.inr ⟨Or.inr rfl, q⟩
              · rintro (q | q)
                · exact Or.inl (Or.inl q)
                · exact Or.inr q.2
            · rw [pk_uLn w, M1 o' ho' t ht]
              exact ⟨fun q => q.elim Or.inl (fun w' => Or.inr ⟨Or.inl w'.1, w'.2⟩), fun q => q.elim Or.inl (fun w' => w'.1.elim (fun u => Or.inr ⟨u, w'.2⟩) (fun u => absurd u w))⟩
          · refine (P a b ha hb).trans ⟨fun q => ?_, fun q => ?_⟩
            · rcases q with q | ⟨x, y, h1, h2, h3⟩ | ⟨e, x, hx, h3⟩
              · exact Or.inl q
              · exact Or.inr ⟨x, y, h1, by omega, h3⟩
              · exact Or.inr ⟨x, i, hx, by omega, h3, eo.trans e.symm⟩
            · rcases q with q | ⟨x, y, h1, h2, h3, h4⟩
              · exact Or.inl q
              · by_cases w : y = i
                · subst w; exact Or.inr (Or.inr ⟨h4.symm.trans eo, x, h1, h3⟩)
                · exact Or.inr (Or.inl ⟨x, y, h1, by omega, h3, h4⟩)
        · intro m' k bf' hk P K'
          have vk : vp_in (nI k) 8 := vp_in_nI (by omega) (by omega)
          have ck : (nI k).toNatClampNeg = k := nI_clamp (by omega)
          have gk := hget k (by omega)
          refine br_f (nI_ge hk (by omega)) (And.intro vk ?_)
          rw [ck, hli k (by omega), jl_ix]
          refine And.intro (vp_in_nI (by omega) (by omega)) ?_
          rw [nI_clamp (by omega)]
          refine nm_e (nm_r (nI_1 k) (K' _ fun a b ha hb => ?_))
          generalize elk : L.getD k 0 = lk at gk
          by_cases z : a * 8 + b = lk * 8 + o
          · have z1 : a = lk := by omega
            have z2 : b = o := by omega
            rw [z, pk_us]
            exact ⟨fun _ => Or.inr (Or.inr ⟨z2, k, by omega, elk.trans z1.symm⟩), fun _ => by decide⟩
          · rw [pk_un z, P a b ha hb]
            refine ⟨fun q => ?_, fun q => ?_⟩
            · rcases q with q | q | ⟨e, x, hx, h3⟩
              · exact Or.inl q
              · exact Or.inr (Or.inl q)
              · exact Or.inr (Or.inr ⟨e, x, by omega, h3⟩)
            · rcases q with q | q | ⟨e, x, hx, h3⟩
              · exact Or.inl q
              · exact Or.inr (Or.inl q)
              · by_cases w : x = k
                · subst w
                  exact absurd (by rw [e, ← h3, elk]) z
                · exact Or.inr (Or.inr ⟨e, x, by omega, h3⟩)
      refine br_f (nI_ge hi (by omega)) (And.intro vi ?_)
      rw [ci, hli i hi, eo]
      refine nm_e (br_c (fun z => rest be (fun q => by rw [z] at q; exact absurd q.symm ja_10) B2) (fun z => And.intro vo (And.intro vo ?_)))
      rw [co]
      refine nm_e (rest _ (fun q o' ho' => ?_) (fun q => absurd q z))
      by_cases w : o' = o
      · rw [w]; exact pk_us
      · rw [pk_un w]
        exact B1 q o' (((upI o').mp ho').resolve_right w)
  show ∃ n4 : Nat, (wY_collect_4 post f_machineCount f_top f_horizon f_depth f_jobs (nI n) f_recorded f_known f_alive f_least a_releaseOf a_dueOf a_jobOf a_machineOf a_length a_trailA a_trailB a_recordedStart a_best a_mask a_before a_list a_turnOf a_line a_trial a_late a_taken a_jobEdge a_machineEdge n4 0 0)
  refine loop_0 (σ := Int32) (fun m i sp => (wY_collect_4 post f_machineCount f_top f_horizon f_depth f_jobs (nI n) f_recorded f_known f_alive f_least a_releaseOf a_dueOf a_jobOf a_machineOf a_length a_trailA a_trailB a_recordedStart a_best a_mask a_before a_list a_turnOf a_line a_trial a_late a_taken a_jobEdge a_machineEdge m sp (nI i))) (fun i sp => sp.toInt = jy_sp a_length (fun o => (a_trial o).toInt) i) n 0 ja_0 ?_ ?_
  · intro m sp I
    refine br_t (nI_le (Nat.le_refl _) (by omega)) (jy_better hn (fun q => br_f ja_10 (loop sp 1 sp I (Or.inl ⟨rfl, q, rfl⟩))) (fun q => br_t rfl (loop sp 0 f_least I (Or.inr ⟨rfl, q, rfl⟩))))
  · intro m i sp hi I K
    have vi : vp_in (nI i) 8 := vp_in_nI (by omega) (by omega)
    have ci : (nI i).toNatClampNeg = i := nI_clamp (by omega)
    have ri := hr i hi
    have di := hd i hi
    have ea : (a_trial i + a_length i).toInt = (a_trial i).toInt + (a_length i).toInt := ja_add (by omega) (by omega)
    refine br_f (nI_ge hi (by omega)) (And.intro vi (And.intro vi ?_))
    rw [ci]
    refine br_c (fun z => nm_r (nI_1 i) (K sp ?_)) (fun z => And.intro vi (And.intro vi (nm_e (nm_r (nI_1 i) (K _ ?_)))))
    · have := ja_le.mp z
      rw [ea, I] at this
      show sp.toInt = if (a_trial i).toInt + (a_length i).toInt ≤ jy_sp a_length (fun o => (a_trial o).toInt) i then jy_sp a_length (fun o => (a_trial o).toInt) i else (a_trial i).toInt + (a_length i).toInt
      rw [if_pos this]; exact I
    · have := mt ja_le.mpr z
      rw [ea, I] at this
      show (a_trial i + a_length i).toInt = if (a_trial i).toInt + (a_length i).toInt ≤ jy_sp a_length (fun o => (a_trial o).toInt) i then jy_sp a_length (fun o => (a_trial o).toInt) i else (a_trial i).toInt + (a_length i).toInt
      rw [if_neg this]; exact ea
end
end
section
/-! what a line allows -/
def jy_T (n dp : Nat) (d tA tB : Nat → Int32) (s : Nat → Int) : Prop := ∀ e, e < dp → ∀ a b, a < n → b < n → tA e = nI a → tB e = nI b → s a + (d a).toInt ≤ s b
def jy_ear (L : List Nat) (a b : Nat) : Prop := ∃ x y, x < y ∧ y < L.length ∧ L.getD x 0 = a ∧ L.getD y 0 = b
theorem jy_getD {L : List Nat} {x : Nat} (h : x < L.length) : L.getD x 0 = L[x] := by
  rw [List.getD_eq_getElem?_getD, List.getElem?_eq_getElem h]; rfl
theorem jy_ear_pw {L : List Nat} {R : Nat → Nat → Prop} (h : L.Pairwise R) {a b : Nat} (e : jy_ear L a b) : R a b := by
  obtain ⟨x, y, hxy, hy, e1, e2⟩ := e
  have := List.pairwise_iff_getElem.mp h x y (by omega) hy hxy
  rw [← jy_getD, ← jy_getD, e1, e2] at this
  exact this
theorem jy_ear_tot {L : List Nat} {a b : Nat} (ha : a ∈ L) (hb : b ∈ L) (hne : a ≠ b) : jy_ear L a b ∨ jy_ear L b a := by
  obtain ⟨x, hx, ex⟩ := List.mem_iff_getElem.mp ha
  obtain ⟨y, hy, ey⟩ := List.mem_iff_getElem.mp hb
  rw [← jy_getD] at ex ey
  rcases Nat.lt_trichotomy x y with w | w | w
  · exact Or.inl ⟨x, y, w, hy, ex, ey⟩
  · subst w; exact absurd (ex.symm.trans ey) hne
  · exact Or.inr ⟨y, x, w, hx, ey, ex⟩
def jy_FL (n dp : Nat) (d rel due tA tB : Nat → Int32) (jb mb : Nat → Nat) (hz : Int) (L : List Nat) (s : Nat → Int) : Prop := jy_LF n d rel due jb mb hz L s ∧ jy_T n dp d tA tB s
theorem jy_FL_cg {n dp : Nat} {d rel due tA tB : Nat → Int32} {jb mb : Nat → Nat} {hz : Int} {L : List Nat} {s s' : Nat → Int} (hL : ∀ o, o ∈ L → o < n) (e : ∀ o, o < n → s' o = s o) (h : jy_FL n dp d rel due tA tB jb mb hz L s) : jy_FL n dp d rel due tA tB jb mb hz L s' := by
  refine ⟨⟨fun a ha => by rw [e a ha]; exact h.1.1 a ha, List.Pairwise.imp_of_mem (fun {x y} hx hy q => by rw [e x (hL x hx), e y (hL y hy)]; exact q) h.1.2⟩, fun i hi a b ha hb q1 q2 => by rw [e a ha, e b hb]; exact h.2 i hi a b ha hb q1 q2⟩
theorem jy_line_ok {n dp : Nat} {d rel due tA tB : Nat → Int32} {jb mb : Nat → Nat} {hz : Int} {L : List Nat} {tr je me li : Nat → Int32} (V : jy_V n d rel due jb mb hz) (hlt : ∀ o, o < n ↔ o ∈ L) (hT : ∀ e, e < dp → ∀ a b, a < n → b < n → tA e = nI a → tB e = nI b → a ≠ b ∧ mb a = mb b)
    (E : jy_E n d rel due jb mb hz L [] tr je me li) :
    jy_LF n d rel due jb mb hz L (fun o => (tr o).toInt) ∧ (∀ s, jy_LF n d rel due jb mb hz L s → ∀ o, o < n → (tr o).toInt ≤ s o) ∧
    (jy_T n dp d tA tB (fun o => (tr o).toInt) → ∀ s, jy_LF n d rel due jb mb hz L s → jy_T n dp d tA tB s) ∧ (¬ jy_T n dp d tA tB (fun o => (tr o).toInt) → ∀ s, jy_LF n d rel due jb mb hz L s → ¬ jy_T n dp d tA tB s) := by
  obtain ⟨e0, e1, e2, e3, _, e5⟩ := E
  have LT : jy_LF n d rel due jb mb hz L (fun o => (tr o).toInt) := ⟨fun a ha => (e2 a ((hlt a).mp ha)).2, e3⟩
  have dec : ∀ s s', jy_LF n d rel due jb mb hz L s → jy_LF n d rel due jb mb hz L s' → jy_T n dp d tA tB s → jy_T n dp d tA tB s' := by
    intro s s' h h' ht e he a b ha hb q1 q2
    obtain ⟨hne, hm⟩ := hT e he a b ha hb q1 q2
    rcases jy_ear_tot ((hlt a).mp ha) ((hlt b).mp hb) hne with w | w
    · exact jy_ear_pw h'.2 w (Or.inr hm)
    · have x1 := jy_ear_pw h.2 w (Or.inr hm.symm)
      have x2 := ht e he a b ha hb q1 q2
      have := V.2.1 a ha
      have := V.2.1 b hb
      omega
  exact ⟨LT, fun s hs o ho => (e5 s (by rw [List.append_nil]; exact hs)).1 o ((hlt o).mp ho), fun ht s hs => dec _ s LT hs ht, fun ht s hs q => ht (dec s _ hs LT q)⟩
theorem jy_line_in {n dp : Nat} {d rel due tA tB : Nat → Int32} {jb mb : Nat → Nat} {hz : Int} {L : List Nat} {tr : Nat → Int} {la je me : Nat → Int32} (V : jy_V n d rel due jb mb hz) (hlt : ∀ o, o < n ↔ o ∈ L) (LT : jy_LF n d rel due jb mb hz L tr)
    (hall : ∀ s, jy_LF n d rel due jb mb hz L s → jy_T n dp d tA tB s) (E : jy_Lt n d rel due jb mb hz tr [] L la je me) :
    (∀ s, jy_LF n d rel due jb mb hz L s → ∀ o, o < n → s o ≤ (la o).toInt) ∧ (∀ o, o < n → tr o ≤ (la o).toInt ∧ (la o).toInt + (d o).toInt ≤ hz) ∧
    (∀ o, o < n → ∀ t : Int, tr o ≤ t → t ≤ (la o).toInt → ∃ s, jy_FL n dp d rel due tA tB jb mb hz L s ∧ s o = t) ∧
    (∀ a b, a < n → b < n → a ≠ b → mb a = mb b → (jy_ear L a b ↔ ∃ s, jy_FL n dp d rel due tA tB jb mb hz L s ∧ s a + (d a).toInt ≤ s b)) := by
  obtain ⟨e0, e2, e3, _, e5⟩ := E
  refine ⟨fun s hs o ho => (e5 s hs).1 o ((hlt o).mp ho), fun o ho => ⟨(e2 o ((hlt o).mp ho)).2.1, (e2 o ((hlt o).mp ho)).2.2.2⟩, fun o ho t h1 h2 => ?_, fun a b ha hb hne hm => ⟨fun w => ⟨tr, ⟨LT, hall tr LT⟩, jy_ear_pw LT.2 w (Or.inr hm)⟩, fun ⟨s, hs, q⟩ => ?_⟩⟩
  · have key : jy_LF n d rel due jb mb hz L (fun i => if tr i ≤ (la i).toInt - ((la o).toInt - t) then (la i).toInt - ((la o).toInt - t) else tr i) := by
      refine ⟨fun a ha => ?_, List.Pairwise.imp_of_mem (fun {x y} hx hy q => ?_) (List.pairwise_and_iff.mpr ⟨LT.2, e3⟩)⟩
      · have q1 := LT.1 a ha
        have q2 := (e2 a ((hlt a).mp ha)).2
        show _ ≤ (if tr a ≤ (la a).toInt - ((la o).toInt - t) then (la a).toInt - ((la o).toInt - t) else tr a) ∧ (if tr a ≤ (la a).toInt - ((la o).toInt - t) then (la a).toInt - ((la o).toInt - t) else tr a) + _ ≤ _ ∧ (if tr a ≤ (la a).toInt - ((la o).toInt - t) then (la a).toInt - ((la o).toInt - t) else tr a) + _ ≤ _
        split <;> omega
      · intro c
        have q1 := q.1 c
        have q2 := q.2 c
        show (if tr x ≤ (la x).toInt - ((la o).toInt - t) then (la x).toInt - ((la o).toInt - t) else tr x) + _ ≤ (if tr y ≤ (la y).toInt - ((la o).toInt - t) then (la y).toInt - ((la o).toInt - t) else tr y)
        split <;> split <;> omega
    refine ⟨_, ⟨key, hall _ key⟩, ?_⟩
    show (if tr o ≤ (la o).toInt - ((la o).toInt - t) then (la o).toInt - ((la o).toInt - t) else tr o) = t
    split <;> omega
  · rcases jy_ear_tot ((hlt a).mp ha) ((hlt b).mp hb) hne with w | w
    · exact w
    · have x1 := jy_ear_pw hs.1.2 w (Or.inr hm.symm)
      have := V.2.1 a ha
      have := V.2.1 b hb
      omega
/-- what the reference keeps, of the schedules Fe -/
def jr_K (n : Nat) (M d : Nat → Int32) (Fe : (Nat → Int) → Prop) (al le : Int32) (be : Nat → Int32) (ma : Nat → Int64) (bf : Nat → Int32) : Prop :=
  (al = 0 ∨ al = 1) ∧ (al = 1 ↔ ∃ s, Fe s) ∧ (∀ o, o < n → ∀ t, t < 64 → (jk_b (ma o) t = true ↔ ∃ s, Fe s ∧ s o = (t : Int))) ∧
  (∀ a b, a < n → b < n → a ≠ b → M a = M b → (bf (a * 8 + b) ≠ 0 ↔ ∃ s, Fe s ∧ s a + (d a).toInt ≤ s b)) ∧
  (al = 1 → Fe (fun o => (be o).toInt) ∧ le.toInt = jy_sp d (fun o => (be o).toInt) n ∧ ∀ s, Fe s → le.toInt < jy_sp d s n ∨ (le.toInt = jy_sp d s n ∧ jy_lx n (fun o => (be o).toInt) s))
theorem jr_K_iff {n : Nat} {M d : Nat → Int32} {Fe Fe' : (Nat → Int) → Prop} {al le : Int32} {be : Nat → Int32} {ma : Nat → Int64} {bf : Nat → Int32} (e : ∀ s, Fe s ↔ Fe' s) (h : jr_K n M d Fe al le be ma bf) : jr_K n M d Fe' al le be ma bf := by
  have : Fe = Fe' := funext fun s => propext (e s)
  rw [← this]; exact h
theorem jy_sp_cg {d : Nat → Int32} {s s' : Nat → Int} {n : Nat} (h : ∀ o, o < n → s o = s' o) : jy_sp d s n = jy_sp d s' n :=
  Int.le_antisymm (jy_sp_mono fun o ho => Int.le_of_eq (h o ho)) (jy_sp_mono fun o ho => Int.le_of_eq (h o ho).symm)
theorem jr_K_upd {n : Nat} {M d : Nat → Int32} {Fe Fl : (Nat → Int) → Prop} {al le : Int32} {be : Nat → Int32} {ma : Nat → Int64} {bf : Nat → Int32} {tr la : Nat → Int32} {L : List Nat} {span r le' : Int32} {be' : Nat → Int32} {ma' : Nat → Int64} {bf' : Nat → Int32}
    (hL : L.length = n) (K : jr_K n M d Fe al le be ma bf) (hcg : ∀ s s', (∀ o, o < n → s' o = s o) → Fl s → Fl s') (h1 : Fl (fun o => (tr o).toInt)) (h2 : ∀ s, Fl s → ∀ o, o < n → (tr o).toInt ≤ s o ∧ s o ≤ (la o).toInt)
    (h3 : ∀ o, o < n → ∀ t : Int, (tr o).toInt ≤ t → t ≤ (la o).toInt → ∃ s, Fl s ∧ s o = t) (h4 : ∀ a b, a < n → b < n → a ≠ b → M a = M b → (jy_ear L a b ↔ ∃ s, Fl s ∧ s a + (d a).toInt ≤ s b))
    (hs : span.toInt = jy_sp d (fun o => (tr o).toInt) n) (hr : (r = 1 ∧ jy_tk n al le span tr be ∧ le' = span ∧ ∀ o, o < n → be' o = tr o) ∨ (r = 0 ∧ (¬ jy_tk n al le span tr be) ∧ le' = le ∧ be' = be))
    (hm : ∀ o, o < n → ∀ t, t < 64 → (jk_b (ma' o) t = true ↔ (jk_b (ma o) t = true ∨ ((tr o).toInt ≤ (t : Int) ∧ (t : Int) ≤ (la o).toInt))))
    (hb : ∀ a b, a < n → b < n → (bf' (a * 8 + b) ≠ 0 ↔ (bf (a * 8 + b) ≠ 0 ∨ ∃ x y, x < y ∧ y < n ∧ L.getD x 0 = a ∧ L.getD y 0 = b))) :
    jr_K n M d (fun s => Fe s ∨ Fl s) 1 le' be' ma' bf' := by
  obtain ⟨k1, k2, k3, k4, k5⟩ := K
  refine ⟨Or.inr rfl, ⟨fun _ => ⟨_, Or.inr h1⟩, fun _ => rfl⟩, fun o ho t ht => ?_, fun a b ha hb' hne hM => ?_, fun _ => ?_⟩
  · rw [hm o ho t ht, k3 o ho t ht]
    constructor
    · rintro (⟨s, q1, q2⟩ | q)
      · exact ⟨s, Or.inl q1, q2⟩
      · obtain ⟨s, q1, q2⟩ := h3 o ho t q.1 q.2
        exact ⟨s, Or.inr q1, q2⟩
    · rintro ⟨s, q1 | q1, q2⟩
      · exact Or.inl ⟨s, q1, q2⟩
      · right; rw [← q2]; exact h2 s q1 o ho
  · rw [hb a b ha hb', k4 a b ha hb' hne hM]
    have e4 := h4 a b ha hb' hne hM
    unfold jy_ear at e4
    rw [hL] at e4
    rw [e4]
    constructor
    · rintro (⟨s, q1, q2⟩ | ⟨s, q1, q2⟩)
      · exact ⟨s, Or.inl q1, q2⟩
      · exact ⟨s, Or.inr q1, q2⟩
    · rintro ⟨s, q1 | q1, q2⟩
      · exact Or.inl ⟨s, q1, q2⟩
      · exact Or.inr ⟨s, q1, q2⟩
  · have spT : ∀ s, Fl s → span.toInt ≤ jy_sp d s n := fun s q => by rw [hs]; exact jy_sp_mono fun o ho => (h2 s q o ho).1
    have lxT : ∀ s, Fl s → jy_lx n (fun o => (tr o).toInt) s := fun s q => jy_lx_le fun o ho => (h2 s q o ho).1
    rcases hr with ⟨_, tk, e1, e2⟩ | ⟨_, tk, e1, e2⟩
    · have eb : ∀ o, o < n → (be' o).toInt = (tr o).toInt := fun o ho => by rw [e2 o ho]
      have lxb : jy_lx n (fun o => (be' o).toInt) (fun o => (tr o).toInt) := Or.inl eb
      refine ⟨Or.inr (hcg _ _ eb h1), by rw [e1, hs]; exact jy_sp_cg fun o ho => (eb o ho).symm, fun s q => ?_⟩
      rw [e1]
      rcases q with q | q
      · have a1 : al = 1 := k2.mpr ⟨s, q⟩
        have a2 := (k5 a1).2.2 s q
        rcases tk with w | w | ⟨w1, o, ho, w2, w3⟩
        · rw [a1] at w; exact absurd w ja_10
        · have := ja_lt.mp w
          left; omega
        · have w1 := ja_eq.mp w1
          rcases a2 with a2 | ⟨a2, a3⟩
          · left; omega
          · right
            refine ⟨by omega, jy_lx_tr lxb (jy_lx_tr ?_ a3)⟩
            exact Or.inr ⟨o, ho, fun p hp => by show (tr p).toInt = (be p).toInt; rw [w2 p hp], ja_lt.mp w3⟩
      · have := spT s q
        by_cases w : span.toInt < jy_sp d s n
        · exact Or.inl w
        · exact Or.inr ⟨by omega, jy_lx_tr lxb (lxT s q)⟩
    · have a1 : al = 1 := k1.resolve_left fun z => tk (Or.inl z)
      obtain ⟨b1, b2, b3⟩ := k5 a1
      rw [e1, e2]
      refine ⟨Or.inl b1, b2, fun s q => ?_⟩
      rcases q with q | q
      · exact b3 s q
      · have c1 := spT s q
        have c2 : le.toInt ≤ span.toInt := by
          have : ¬ span < le := fun z => tk (Or.inr (Or.inl z))
          have := mt ja_lt.mpr this
          omega
        by_cases w : le.toInt < jy_sp d s n
        · exact Or.inl w
        · refine Or.inr ⟨by omega, jy_lx_tr ?_ (lxT s q)⟩
          rcases jy_lx_tot (fun o => (be o).toInt) (fun o => (tr o).toInt) n with u | ⟨o, ho, u1, u2⟩
          · exact u
          · exfalso
            refine tk (Or.inr (Or.inr ⟨ja_eq.mpr (by omega), o, ho, fun p hp => ja_eq.mpr (u1 p hp), ja_lt.mpr u2⟩))
theorem jw_w4 : ∀ {k : Nat} {c : Nat → Nat} {w : List Nat}, w ∈ jw_ws k c → ∀ x, w.getD x 0 < 4 := by
  intro k
  induction k with
  | zero => intro c w h x; rw [List.mem_singleton.mp h]; exact (by decide : 0 < 4)
  | succ k ih =>
    intro c w h x
    obtain ⟨j, hj, _, w', h', e⟩ := jw_mem_ws.mp h
    rw [e]
    match x with
    | 0 => exact hj
    | x + 1 => exact ih h' x
theorem jw_line_len : ∀ {w : List Nat} {Q : Nat → List Nat}, (jw_line Q w).length = w.length := by
  intro w
  induction w with
  | nil => intro Q; rfl
  | cons j w ih => intro Q; show (jw_line _ w).length + 1 = _; rw [ih]; rfl
theorem jw_line_inc {jb : Nat → Nat} : ∀ {k : Nat} {Q : Nat → List Nat} {w : List Nat}, jw_sum Q = k → w ∈ jw_ws k (fun j => (Q j).length) → (∀ j, j < 4 → (Q j).Pairwise (fun x y => x < y)) → (∀ j, j < 4 → ∀ y, y ∈ Q j → jb y = j) → (jw_line Q w).Pairwise (fun x y => jb x = jb y → x < y) := by
  intro k
  induction k with
  | zero => intro Q w hs h _ _; rw [List.mem_singleton.mp h]; exact List.Pairwise.nil
  | succ k ih =>
    intro Q w hs h hp hb
    obtain ⟨j, hj, hc, w', h', e⟩ := jw_mem_ws.mp h
    rw [e]
    rw [← jw_len_ud] at h'
    obtain ⟨o, r, eq⟩ : ∃ o r, Q j = o :: r := by
      match hq : Q j with
      | [] => rw [hq] at hc; exact absurd rfl hc
      | o :: r => exact ⟨o, r, rfl⟩
    have hs' := jw_sum_ud hj eq
    have pj := hp j hj
    rw [eq] at pj
    have pj := List.pairwise_cons.mp pj
    have ob : jb o = j := hb j hj o (by rw [eq]; exact List.mem_cons_self)
    have memt : ∀ i, ∀ y, y ∈ jw_ud Q j (Q j).tail i → y ∈ Q i := fun i y hy => by
      by_cases z : i = j
      · subst z; rw [jw_ud_s] at hy; exact List.mem_of_mem_tail hy
      · rw [jw_ud_n z] at hy; exact hy
    show ((Q j).headD 0 :: jw_line (jw_ud Q j (Q j).tail) w').Pairwise _
    refine List.pairwise_cons.mpr ⟨fun y hy q => ?_, ih (by omega) h' (fun i hi => ?_) (fun i hi y hy => hb i hi y (memt i y hy))⟩
    · rw [eq, List.headD_cons] at q ⊢
      obtain ⟨i, hi, hy⟩ := (jw_mem_line (by omega) h' y).mp hy
      have yb := hb i hi y (memt i y hy)
      have : i = j := by rw [← yb, ← q, ob]
      subst this
      rw [jw_ud_s, eq, List.tail_cons] at hy
      exact pj.1 y hy
    · by_cases z : i = j
      · subst z
        rw [jw_ud_s, eq, List.tail_cons]; exact pj.2
      · rw [jw_ud_n z]; exact hp i hi
/-- the feasible schedules are those of the lines of all words -/
theorem jy_all_words {n dp : Nat} {M d rel due jobOf tA tB : Nat → Int32} {jb mb : Nat → Nat} {hz : Int} (V : jy_V n d rel due jb mb hz) (hjb : ∀ o, o < n → jobOf o = nI (jb o)) (hmb : ∀ o, o < n → M o = nI (mb o)) (s : Nat → Int) :
    (∃ w, w ∈ jw_ws n (jy_c n jb) ∧ jy_FL n dp d rel due tA tB jb mb hz (jw_line (jw_Q n jb) w) s) ↔ jf_F n dp M d rel due jobOf tA tB hz s := by
  have hj4 : ∀ o, o < n → jb o < 4 := fun o ho => (V.2.2.2 o ho).1
  have hm4 : ∀ o, o < n → mb o < 4 := fun o ho => (V.2.2.2 o ho).2.1
  have ej : ∀ a b, a < n → b < n → (jobOf a = jobOf b ↔ jb a = jb b) := fun a b ha hb => by
    rw [hjb a ha, hjb b hb, nI_eq (by have := hj4 a ha; omega) (by have := hj4 b hb; omega)]
  have em : ∀ a b, a < n → b < n → (M a = M b ↔ mb a = mb b) := fun a b ha hb => by
    rw [hmb a ha, hmb b hb, nI_eq (by have := hm4 a ha; omega) (by have := hm4 b hb; omega)]
  have ec : ∀ a, a < n → (jobOf a).toNatClampNeg = jb a := fun a ha => by rw [hjb a ha]; exact nI_clamp (by have := hj4 a ha; omega)
  constructor
  · rintro ⟨w, hw, h, ht⟩
    have hlt := jw_line_lt hj4 hw
    have inc := jw_line_inc (jb := jb) (jw_Q_sum hj4) hw (fun j _ => jw_Q_inc) (fun j _ y hy => (jw_Q_mem.mp hy).2)
    refine ⟨fun a ha => by rw [ec a ha]; exact h.1 a ha, fun a b ha hb hlt2 q => ?_, fun a b ha hb hne q => ?_, ht⟩
    · rcases jy_ear_tot ((hlt a).mpr ha) ((hlt b).mpr hb) (by omega) with u | u
      · exact jy_ear_pw h.2 u (Or.inl ((ej a b ha hb).mp q))
      · have := jy_ear_pw inc u ((ej a b ha hb).mp q).symm
        omega
    · rcases jy_ear_tot ((hlt a).mpr ha) ((hlt b).mpr hb) hne with u | u
      · exact Or.inl (jy_ear_pw h.2 u (Or.inr ((em a b ha hb).mp q)))
      · exact Or.inr (jy_ear_pw h.2 u (Or.inr ((em a b ha hb).mp q).symm))
  · rintro ⟨f1, f2, f3, f4⟩
    obtain ⟨w, hw, hl⟩ := jw_ex s (jw_Q_sum hj4) (fun j _ => List.Pairwise.imp_of_mem (fun {x y} hx hy q => by
      have mx := jw_Q_mem.mp hx
      have my := jw_Q_mem.mp hy
      have := f2 x y mx.1 my.1 q ((ej x y mx.1 my.1).mpr (mx.2.trans my.2.symm))
      have := V.2.1 x mx.1
      omega) jw_Q_inc)
    refine ⟨w, hw, ⟨fun a ha => by have := f1 a ha; rw [ec a ha] at this; exact this, ?_⟩, f4⟩
    have nd := jw_line_nodup (jw_Q_sum hj4) hw (fun j _ => List.Pairwise.imp (fun h => Nat.ne_of_lt h) jw_Q_inc) (fun i j _ _ hne y hy hy' => hne ((jw_Q_mem.mp hy).2.symm.trans (jw_Q_mem.mp hy').2))
    have hlt := jw_line_lt hj4 hw
    refine List.Pairwise.imp_of_mem (fun {x y} hx hy q c => ?_) (List.pairwise_and_iff.mpr ⟨hl, nd⟩)
    have mx := (hlt x).mp hx
    have my := (hlt y).mp hy
    have dx := V.2.1 x mx
    have dy := V.2.1 y my
    rcases c with c | c
    · rcases Nat.lt_or_gt_of_ne q.2 with u | u
      · exact f2 x y mx my u ((ej x y mx my).mpr c)
      · have := f2 y x my mx u ((ej x y mx my).mpr c).symm
        have := q.1
        omega
    · rcases f3 x y mx my q.2 ((em x y mx my).mpr c) with u | u
      · exact u
      · have := q.1
        omega
end
section
/-! Y: explore -/
section
variable {f_machineCount f_top f_horizon f_jobs f_recorded f_known : Int32} {a_releaseOf a_dueOf a_jobOf a_machineOf a_length a_trailA a_trailB a_recordedStart a_list : Nat → Int32}
theorem jy_ex73 {post : SY → Prop} {n dp : Nat} {jb mb : Nat → Nat} (V : jy_V n a_length a_releaseOf a_dueOf jb mb f_horizon.toInt) (hdp : dp ≤ 12) (hjb : ∀ o, o < n → a_jobOf o = nI (jb o)) (hmb : ∀ o, o < n → a_machineOf o = nI (mb o))
    (hT : ∀ e, e < dp → a_trailA e = -5 ∨ ∃ a b, a < n ∧ b < n ∧ a ≠ b ∧ a_machineOf a = a_machineOf b ∧ a_trailA e = nI a ∧ a_trailB e = nI b)
    (hli : ∀ j, j < 4 → ∀ t, t < (jw_Q n jb j).length → a_list (j * 8 + t) = nI ((jw_Q n jb j).getD t 0))
    (h : ∀ (al le : Int32) (be : Nat → Int32) (ma : Nat → Int64) (bf tu li tr la ta je me : Nat → Int32), jr_K n a_machineOf a_length (fun s => ∃ w, w ∈ jw_ws n (jy_c n jb) ∧ jy_FL n dp a_length a_releaseOf a_dueOf a_trailA a_trailB jb mb f_horizon.toInt (jw_line (jw_Q n jb) w) s) al le be ma bf →
      post (f_machineCount, f_top, f_horizon, nI dp, f_jobs, nI n, f_recorded, f_known, al, le, a_releaseOf, a_dueOf, a_jobOf, a_machineOf, a_length, a_trailA, a_trailB, a_recordedStart, be, ma, bf, a_list, tu, li, tr, la, ta, je, me)) :
    ∀ (l pre : List (List Nat)) (N : Nat) (w : List Nat) (al le : Int32) (be : Nat → Int32) (ma : Nat → Int64) (bf tu li tr la ta je me : Nat → Int32), jy_ch w l (jy_desc (jy_c n jb)) → pre ++ l = jw_ws n (jy_c n jb) → l.length < N → (∀ x, x < n → tu x = nI (w.getD x 0)) →
      jr_K n a_machineOf a_length (fun s => ∃ w, w ∈ pre ∧ jy_FL n dp a_length a_releaseOf a_dueOf a_trailA a_trailB jb mb f_horizon.toInt (jw_line (jw_Q n jb) w) s) al le be ma bf →
      (wY_explore_73 post N 1 (nI pre.length) f_machineCount f_top f_horizon (nI dp) f_jobs (nI n) f_recorded f_known al le a_releaseOf a_dueOf a_jobOf a_machineOf a_length a_trailA a_trailB a_recordedStart be ma bf a_list tu li tr la ta je me) := by
  have hn := V.1
  have hj4 : ∀ o, o < n → jb o < 4 := fun o ho => (V.2.2.2 o ho).1
  have hm4 : ∀ o, o < n → mb o < 4 := fun o ho => (V.2.2.2 o ho).2.1
  have em : ∀ a b, a < n → b < n → (a_machineOf a = a_machineOf b ↔ mb a = mb b) := fun a b ha hb => by
    rw [hmb a ha, hmb b hb, nI_eq (by have := hm4 a ha; omega) (by have := hm4 b hb; omega)]
  have n5 : ∀ a, a < 8 → ¬ nI a = -5 := by decide +kernel
  have hT2 : ∀ e, e < dp → ∀ a b, a < n → b < n → a_trailA e = nI a → a_trailB e = nI b → a ≠ b ∧ mb a = mb b := by
    intro e he a b ha hb q1 q2
    rcases hT e he with z | ⟨a', b', ha', hb', hne, hM, p1, p2⟩
    · exact absurd (q1.symm.trans z) (n5 a (by omega))
    · have x1 := (nI_eq (by omega) (by omega)).mp (q1.symm.trans p1)
      have x2 := (nI_eq (by omega) (by omega)).mp (q2.symm.trans p2)
      rw [x1, x2]
      exact ⟨hne, (em a' b' ha' hb').mp hM⟩
  have hbd := jw_ws_bd hn hj4
  have hsum := jw_Q_sum hj4
  unfold jw_sum at hsum
  intro l
  induction l with
  | nil => intro pre N w al le be ma bf tu li tr la ta je me hc; exact absurd hc id
  | cons v l ih =>
    intro pre N w al le be ma bf tu li tr la ta je me hc epre hN htu K
    obtain ⟨N', rfl⟩ : ∃ N', N = N' + 1 := ⟨N - 1, by omega⟩
    rw [List.length_cons] at hN
    obtain ⟨ev, hc⟩ := hc
    subst ev
    have vw : v ∈ jw_ws n (jy_c n jb) := by rw [← epre]; exact List.mem_append.mpr (Or.inr List.mem_cons_self)
    have vlen := jw_wlen vw
    have v4 := jw_w4 vw
    have lpre : pre.length < 2520 := by
      have e := congrArg List.length epre
      rw [List.length_append, List.length_cons] at e
      have hbd : (jw_ws n (jy_c n jb)).length ≤ 2520 := hbd
      omega
    have epre' : (pre ++ [v]) ++ l = jw_ws n (jy_c n jb) := by rw [← epre, List.append_assoc]; rfl
    have elen : (pre ++ [v]).length = pre.length + 1 := by rw [List.length_append]; rfl
    have hlt := jw_line_lt hj4 vw
    -- behind a word: the next one
    have adv : ∀ (al le : Int32) (be : Nat → Int32) (ma : Nat → Int64) (bf li tr la ta je me : Nat → Int32), jr_K n a_machineOf a_length (fun s => ∃ w, w ∈ pre ++ [v] ∧ jy_FL n dp a_length a_releaseOf a_dueOf a_trailA a_trailB jb mb f_horizon.toInt (jw_line (jw_Q n jb) w) s) al le be ma bf →
        (wY_explore_106 post (wY_explore_73 post N') (nI pre.length) f_machineCount f_top f_horizon (nI dp) f_jobs (nI n) f_recorded f_known al le a_releaseOf a_dueOf a_jobOf a_machineOf a_length a_trailA a_trailB a_recordedStart be ma bf a_list tu li tr la ta je me) := by
      intro al le be ma bf li tr la ta je me K'
      rcases hc with ⟨e1, e2⟩ | ⟨v', q1, q2⟩
      · subst e1
        refine jy_advance0 (g := fun x => v.getD x 0) hn (fun x _ => v4 x) htu (fun x hx => ?_) ?_
        · show v.getD (x + 1) 0 ≤ v.getD x 0
          rw [e2]
          exact jy_last (c := jy_c n jb) (by unfold jy_c; omega) x (by unfold jy_c; omega)
        · refine nm_r (nI_1 pre.length) ?_
          obtain ⟨N'', rfl⟩ : ∃ N'', N' = N'' + 1 := ⟨N' - 1, by omega⟩
          refine br_t rfl (h al le be ma bf tu li tr la ta je me ?_)
          rw [List.append_nil] at epre'
          rw [← epre']; exact K'
      · have nx := q1.2
        rw [vlen] at nx
        refine jy_advance1 hn (fun x _ => v4 x) htu nx (fun tu' htu' => nm_r (nI_1 pre.length) ?_)
        rw [← elen]
        exact ih (pre ++ [v]) N' v' al le be ma bf tu' li tr la ta je me q2 epre' (by omega) htu' K'
    have none : (∀ s, ¬ jy_FL n dp a_length a_releaseOf a_dueOf a_trailA a_trailB jb mb f_horizon.toInt (jw_line (jw_Q n jb) v) s) → jr_K n a_machineOf a_length (fun s => ∃ w, w ∈ pre ++ [v] ∧ jy_FL n dp a_length a_releaseOf a_dueOf a_trailA a_trailB jb mb f_horizon.toInt (jw_line (jw_Q n jb) w) s) al le be ma bf := by
      intro hno
      refine jr_K_iff (fun s => ⟨fun ⟨w, hw, q⟩ => ⟨w, List.mem_append.mpr (Or.inl hw), q⟩, fun ⟨w, hw, q⟩ => ?_⟩) K
      rcases List.mem_append.mp hw with u | u
      · exact ⟨w, u, q⟩
      · have u : w = v := by simpa using u
        rw [u] at q
        exact absurd q (hno s)
    refine br_f ja_10 (br_f (nI_ge (b := 2520) lpre (by omega)) (jy_placeEarly V hmb hli vw htu (fun ta1 li1 tr1 je1 me1 hno => br_t rfl (adv al le be ma bf li1 tr1 la ta1 je1 me1 (none fun s q => hno s q.1))) (fun ta1 li1 tr1 je1 me1 E => ?_)))
    obtain ⟨LT, Lmin, Tall, Tno⟩ := jy_line_ok (dp := dp) (tA := a_trailA) (tB := a_trailB) V (fun o => (hlt o).symm) hT2 E
    have rT : ∀ o, o < n → 0 ≤ (tr1 o).toInt ∧ (tr1 o).toInt ≤ 60 := fun o ho => by
      have q1 := LT.1 o ho
      have q2 := V.2.2.2 o ho
      have q3 := V.2.1 o ho
      have q4 : (a_releaseOf (jb o)).toInt ≤ (tr1 o).toInt ∧ (tr1 o).toInt + (a_length o).toInt ≤ (a_dueOf (jb o)).toInt ∧ (tr1 o).toInt + (a_length o).toInt ≤ f_horizon.toInt := q1
      omega
    have tadd : ∀ a b, a < n → b < n → (tr1 a + a_length a ≤ tr1 b ↔ (tr1 a).toInt + (a_length a).toInt ≤ (tr1 b).toInt) := fun a b ha hb => by
      have := rT a ha
      have := V.2.1 a ha
      rw [ja_le, ja_add (by omega) (by omega)]
    refine br_f ja_10 (jy_obeysTrail hn hdp hT (fun ht => br_f ja_10 ?_) (fun ht => br_t rfl (adv al le be ma bf li1 tr1 la ta1 je1 me1 (none fun s q => Tno (fun q2 => ht fun e he a b ha hb p1 p2 => (tadd a b ha hb).mpr (q2 e he a b ha hb p1 p2)) s q.1 q.2))))
    have hall := Tall (fun e he a b ha hb p1 p2 => (tadd a b ha hb).mp (ht e he a b ha hb p1 p2))
    have llen : (jw_line (jw_Q n jb) v).length = n := by rw [jw_line_len]; exact vlen
    have lnd : (jw_line (jw_Q n jb) v).Nodup := by have := E.1; rw [List.append_nil] at this; exact this
    refine jy_placeLate V hjb hmb llen lnd (fun o ho => (hlt o).mp ho) (fun x hx => E.2.1 x (by omega)) LT (fun la2 je2 me2 EL => ?_)
    obtain ⟨Lmax, Lr, Lin, Lear⟩ := jy_line_in (dp := dp) (tA := a_trailA) (tB := a_trailB) V (fun o => (hlt o).symm) LT hall EL
    refine jy_collect hn V.2.1 llen (fun o => (hlt o).symm) (fun x hx => E.2.1 x (by omega)) (fun o ho => ?_) (fun span r le' be' ma' bf' hs hr hm hb => ?_)
    · have q1 := rT o ho
      have q2 := Lr o ho
      have q3 := V.2.1 o ho
      have q4 := V.2.2.1
      omega
    · have K2 := jr_K_upd (M := a_machineOf) llen K (fun s s' e q => jy_FL_cg (fun o ho => (hlt o).mp ho) e q) (⟨LT, hall _ LT⟩ : jy_FL n dp a_length a_releaseOf a_dueOf a_trailA a_trailB jb mb f_horizon.toInt (jw_line (jw_Q n jb) v) (fun o => (tr1 o).toInt)) (fun s q o ho => ⟨Lmin s q.1 o ho, Lmax s q.1 o ho⟩) Lin (fun a b ha hb hne hM => Lear a b ha hb hne ((em a b ha hb).mp hM)) hs hr hm hb
      refine adv 1 le' be' ma' bf' li1 tr1 la2 ta1 je2 me2 (jr_K_iff (fun s => ⟨fun q => ?_, fun ⟨w, hw, q⟩ => ?_⟩) K2)
      · rcases q with ⟨w, hw, q⟩ | q
        · exact ⟨w, List.mem_append.mpr (Or.inl hw), q⟩
        · exact ⟨v, List.mem_append.mpr (Or.inr List.mem_cons_self), q⟩
      · rcases List.mem_append.mp hw with u | u
        · exact Or.inl ⟨w, u, q⟩
        · have u : w = v := by simpa using u
          rw [u] at q
          exact Or.inr q
end
section
variable {f_machineCount f_top f_horizon f_recorded f_known f_alive f_least : Int32} {a_releaseOf a_dueOf a_jobOf a_machineOf a_length a_trailA a_trailB a_recordedStart a_best a_before a_list a_turnOf a_line a_trial a_late a_taken a_jobEdge a_machineEdge : Nat → Int32} {a_mask : Nat → Int64}
theorem jy_explore {post : SY → Prop} {n dp J : Nat} (V : jf_V n dp a_machineOf a_length a_releaseOf a_dueOf a_jobOf a_trailA a_trailB) (hJ : J ≤ 4) (hjJ : ∀ o, o < n → ∃ j, j < J ∧ a_jobOf o = nI j) (hz : 0 ≤ f_horizon.toInt ∧ f_horizon.toInt ≤ 60)
    (hk : f_known = 0 ∨ (f_known = 1 ∧ jr_K n a_machineOf a_length (jf_F n dp a_machineOf a_length a_releaseOf a_dueOf a_jobOf a_trailA a_trailB f_horizon.toInt) f_alive f_least a_best a_mask a_before))
    (h : ∀ (al le : Int32) (be : Nat → Int32) (ma : Nat → Int64) (bf lt tu li tr la ta je me : Nat → Int32), jr_K n a_machineOf a_length (jf_F n dp a_machineOf a_length a_releaseOf a_dueOf a_jobOf a_trailA a_trailB f_horizon.toInt) al le be ma bf →
      post (f_machineCount, f_top, f_horizon, nI dp, nI J, nI n, f_recorded, 1, al, le, a_releaseOf, a_dueOf, a_jobOf, a_machineOf, a_length, a_trailA, a_trailB, a_recordedStart, be, ma, bf, lt, tu, li, tr, la, ta, je, me)) : (wpY_explore post (f_machineCount, f_top, f_horizon, nI dp, nI J, nI n, f_recorded, f_known, f_alive, f_least, a_releaseOf, a_dueOf, a_jobOf, a_machineOf, a_length, a_trailA, a_trailB, a_recordedStart, a_best, a_mask, a_before, a_list, a_turnOf, a_line, a_trial, a_late, a_taken, a_jobEdge, a_machineEdge)) := by
  unfold wpY_explore
  dsimp only
  rcases hk with hk | ⟨hk, K⟩
  · refine br_t hk ?_
    obtain ⟨hn, hdp, hd, hj, hm, hr, ht⟩ := V
    obtain ⟨jb, hjb⟩ : ∃ jb : Nat → Nat, ∀ o, o < n → jb o < J ∧ a_jobOf o = nI (jb o) := by
      have : ∀ o, ∃ j, o < n → j < J ∧ a_jobOf o = nI j := fun o => by
        by_cases z : o < n
        · obtain ⟨j, q⟩ := hjJ o z; exact ⟨j, fun _ => q⟩
        · exact ⟨0, fun q => absurd q z⟩
      exact Classical.axiomOfChoice this
    obtain ⟨mb, hmb⟩ : ∃ mb : Nat → Nat, ∀ o, o < n → mb o < 4 ∧ a_machineOf o = nI (mb o) := by
      have : ∀ o, ∃ j, o < n → j < 4 ∧ a_machineOf o = nI j := fun o => by
        by_cases z : o < n
        · obtain ⟨j, q⟩ := hm o z; exact ⟨j, fun _ => q⟩
        · exact ⟨0, fun q => absurd q z⟩
      exact Classical.axiomOfChoice this
    have V' : jy_V n a_length a_releaseOf a_dueOf jb mb f_horizon.toInt := ⟨hn, hd, hz, fun a ha => by
      have q := hr a ha
      rw [(hjb a ha).2, nI_clamp (by have := (hjb a ha).1; omega)] at q
      exact ⟨by have := (hjb a ha).1; omega, (hmb a ha).1, q⟩⟩
    refine loop_0 (σ := Nat → Int64) (fun m i s => (wY_explore_25 post f_machineCount f_top f_horizon (nI dp) (nI J) (nI n) f_recorded 1 0 0 m (nI i) a_releaseOf a_dueOf a_jobOf a_machineOf a_length a_trailA a_trailB a_recordedStart a_best s a_before a_list a_turnOf a_line a_trial a_late a_taken a_jobEdge a_machineEdge)) (fun i s => ∀ o, o < i → s o = 0) 8 a_mask (fun o ho => by omega) ?_ ?_
    · intro m ma hma
      refine br_t (nI_le (a := 8) (b := 8) (by omega) (by omega)) ?_
      refine loop_0 (σ := Nat → Int32) (fun m i s => (wY_explore_46 post f_machineCount f_top f_horizon (nI dp) (nI J) (nI n) f_recorded 1 0 0 m (nI i) a_releaseOf a_dueOf a_jobOf a_machineOf a_length a_trailA a_trailB a_recordedStart a_best ma s a_list a_turnOf a_line a_trial a_late a_taken a_jobEdge a_machineEdge)) (fun i s => ∀ o, o < i → s o = 0) 64 a_before (fun o ho => by omega) ?_ ?_
      · intro m bf hbf
        refine br_t (nI_le (a := 64) (b := 64) (by omega) (by omega)) (jy_listOps hn hJ hjb (fun lt tu hlt htu => ?_))
        have hsum := jw_Q_sum (n := n) (jb := jb) (fun o ho => by have := (hjb o ho).1; omega)
        unfold jw_sum at hsum
        have ch := jy_chain n (jy_c n jb) (by unfold jy_c; omega) hn
        refine ⟨(jw_ws n (jy_c n jb)).length + 1, ?_⟩
        refine jy_ex73 V' hdp (fun o ho => (hjb o ho).2) (fun o ho => (hmb o ho).2) ht hlt (fun al le be ma bf tu li tr la ta je me K => h al le be ma bf lt tu li tr la ta je me (jr_K_iff (fun s => jy_all_words V' (fun o ho => (hjb o ho).2) (fun o ho => (hmb o ho).2) s) K)) (jw_ws n (jy_c n jb)) [] _ (jy_asc (jy_c n jb)) 0 0 a_best ma bf tu a_line a_trial a_late a_taken a_jobEdge a_machineEdge ch rfl (by omega) htu ?_
        have no : ∀ s, ¬ ∃ w, w ∈ ([] : List (List Nat)) ∧ jy_FL n dp a_length a_releaseOf a_dueOf a_trailA a_trailB jb mb f_horizon.toInt (jw_line (jw_Q n jb) w) s := fun s ⟨w, hw, _⟩ => absurd hw (by simp)
        refine ⟨Or.inl rfl, ⟨fun q => absurd q.symm ja_10, fun ⟨s, q⟩ => absurd q (no s)⟩, fun o ho t ht => ⟨fun q => ?_, fun ⟨s, q, _⟩ => absurd q (no s)⟩, fun a b ha hb _ _ => ⟨fun q => ?_, fun ⟨s, q, _⟩ => absurd q (no s)⟩, fun q => absurd q.symm ja_10⟩
        · rw [hma o (by omega), jk_0] at q; exact absurd q (by decide)
        · exact absurd (hbf (a * 8 + b) (by omega)) q
      · intro m i s hi hs K
        refine br_f (nI_ge (a := i) (b := 64) hi (by omega)) (And.intro (vp_in_nI (by omega) (by omega)) (nm_e (nm_r (nI_1 i) (K _ ?_))))
        rw [nI_clamp (by omega), show vp_nar .boolean 0 = 0 from rfl]
        exact jl_fill hs
    · intro m i s hi hs K
      refine br_f (nI_ge (a := i) (b := 8) hi (by omega)) (And.intro (vp_in_nI (by omega) (by omega)) (nm_e (nm_r (nI_1 i) (K _ fun o ho => ?_))))
      rw [nI_clamp (by omega)]
      by_cases z : o = i
      · subst z; exact pk_uLs
      · rw [pk_uLn z]; exact hs o (by omega)
  · refine br_f (by rw [hk]; exact ja_10) ?_
    subst hk
    exact h f_alive f_least a_best a_mask a_before a_list a_turnOf a_line a_trial a_late a_taken a_jobEdge a_machineEdge K
end
end
section
/-! X: ask, possible, leastMakespan, leastStart -/
theorem jf_S_free {n dp : Nat} {M d rel due jobOf eA eB wf wt : Nat → Int32} {wA wB : Int32} {hz : Int} (V : jf_V n dp M d rel due jobOf eA eB) (hw : ∀ o, o < n → wf o = 0 ∧ wt o = 60) (s : Nat → Int) :
    jf_S n dp M d rel due jobOf eA eB wA wB wf wt hz s ↔ jf_F n dp M d rel due jobOf eA eB hz s ∧ (∀ a b, a < n → b < n → wA = nI a → wB = nI b → s a + (d a).toInt ≤ s b) := by
  refine ⟨fun h => ⟨h.1, h.2.2⟩, fun h => ⟨h.1, fun a ha => ?_, h.2⟩⟩
  have q := h.1.1 a ha
  have r := V.2.2.2.2.2.1 a ha
  have d1 := V.2.2.1 a ha
  rw [(hw a ha).1, (hw a ha).2, ja_0, ja_60]
  omega
theorem jf_n5 : ∀ a, a < 8 → ¬ nI a = -5 := by decide +kernel
theorem jf_S_none {n dp : Nat} {M d rel due jobOf eA eB wf wt : Nat → Int32} {wB : Int32} {hz : Int} (V : jf_V n dp M d rel due jobOf eA eB) (hw : ∀ o, o < n → wf o = 0 ∧ wt o = 60) (s : Nat → Int) :
    jf_S n dp M d rel due jobOf eA eB (-5) wB wf wt hz s ↔ jf_F n dp M d rel due jobOf eA eB hz s :=
  (jf_S_free V hw s).trans ⟨fun h => h.1, fun h => ⟨h, fun a b ha _ e _ => absurd e.symm (jf_n5 a (by have := V.1; omega))⟩⟩
theorem jn_O_r {n : Nat} {d : Nat → Int32} {Sol : (Nat → Int) → Prop} {r : Int32} {lo hi : Nat → Int32} (h : jn_O n d Sol r lo hi) : (r = 0 ∧ ¬ ∃ s, Sol s) ∨ (r = 1 ∧ ∃ s, Sol s) := h.imp id (fun q => ⟨q.1, q.2.1⟩)
theorem jn_O_n {n : Nat} {d : Nat → Int32} {Sol : (Nat → Int) → Prop} {r : Int32} {lo hi : Nat → Int32} (h : jn_O n d Sol r lo hi) : narrow .boolean (.int r) = .int r := jf_n (by rcases h with h | h; exact Or.inl h.1; exact Or.inr h.1)
section
variable {f_machines f_firstHorizon f_horizon f_jobs f_ops f_depth f_recorded f_wantA f_wantB f_moved f_failed f_level f_pickA f_pickB f_inTree : Int32} {a_releaseOf a_dueOf a_jobOf a_machineOf a_durationOf a_entryA a_entryB a_noted a_wantFrom a_wantTo a_lo a_hi a_pred a_savedLo a_savedHi a_savedPred a_savedA a_savedB a_raised a_cut a_place a_sum a_ect : Nat → Int32}
theorem jx_ask {post : SX → Prop} {pa pb : Int32} (h : ∀ wf wt, (∀ o, o < 8 → wf o = 0 ∧ wt o = 60) → post (f_machines, f_firstHorizon, f_horizon, f_jobs, f_ops, f_depth, f_recorded, pa, pb, f_moved, f_failed, f_level, f_pickA, f_pickB, f_inTree, a_releaseOf, a_dueOf, a_jobOf, a_machineOf, a_durationOf, a_entryA, a_entryB, a_noted, wf, wt, a_lo, a_hi, a_pred, a_savedLo, a_savedHi, a_savedPred, a_savedA, a_savedB, a_raised, a_cut, a_place, a_sum, a_ect)) : (wpX_ask post (f_machines, f_firstHorizon, f_horizon, f_jobs, f_ops, f_depth, f_recorded, f_wantA, f_wantB, f_moved, f_failed, f_level, f_pickA, f_pickB, f_inTree, a_releaseOf, a_dueOf, a_jobOf, a_machineOf, a_durationOf, a_entryA, a_entryB, a_noted, a_wantFrom, a_wantTo, a_lo, a_hi, a_pred, a_savedLo, a_savedHi, a_savedPred, a_savedA, a_savedB, a_raised, a_cut, a_place, a_sum, a_ect) pa pb) := by
  show ∃ n12 : Nat, (wX_ask_12 post f_machines f_firstHorizon f_horizon f_jobs f_ops f_depth f_recorded pa pb f_moved f_failed f_level f_pickA f_pickB f_inTree n12 0 a_releaseOf a_dueOf a_jobOf a_machineOf a_durationOf a_entryA a_entryB a_noted a_wantFrom a_wantTo a_lo a_hi a_pred a_savedLo a_savedHi a_savedPred a_savedA a_savedB a_raised a_cut a_place a_sum a_ect)
  refine loop_0 (fun n i s => (wX_ask_12 post f_machines f_firstHorizon f_horizon f_jobs f_ops f_depth f_recorded pa pb f_moved f_failed f_level f_pickA f_pickB f_inTree n (nI i) a_releaseOf a_dueOf a_jobOf a_machineOf a_durationOf a_entryA a_entryB a_noted s a_wantTo a_lo a_hi a_pred a_savedLo a_savedHi a_savedPred a_savedA a_savedB a_raised a_cut a_place a_sum a_ect)) (fun i s => ∀ j, j < i → s j = 0) 8 _ (fun j hj => by omega) ?_ ?_
  · intro m s hs
    refine br_t (nI_le (a := 8) (b := 8) (by omega) (by omega)) ?_
    refine loop_0 (fun n i e => (wX_ask_33 post f_machines f_firstHorizon f_horizon f_jobs f_ops f_depth f_recorded pa pb f_moved f_failed f_level f_pickA f_pickB f_inTree n (nI i) a_releaseOf a_dueOf a_jobOf a_machineOf a_durationOf a_entryA a_entryB a_noted s e a_lo a_hi a_pred a_savedLo a_savedHi a_savedPred a_savedA a_savedB a_raised a_cut a_place a_sum a_ect)) (fun i e => ∀ j, j < i → e j = 60) 8 _ (fun j hj => by omega) ?_ ?_
    · intro m e he
      exact br_t (nI_le (a := 8) (b := 8) (by omega) (by omega)) (h s e (fun o ho => ⟨hs o ho, he o ho⟩))
    · intro m i e hi he K
      refine br_f (nI_ge (a := i) (b := 8) hi (by omega)) ⟨vp_in_nI (by omega) (by omega), nm_e (nm_r (nI_1 i) (K _ ?_))⟩
      rw [nI_clamp (by omega)]
      exact jl_fill he
  · intro m i s hi hs K
    refine br_f (nI_ge (a := i) (b := 8) hi (by omega)) ⟨vp_in_nI (by omega) (by omega), nm_e (nm_r (nI_1 i) (K _ ?_))⟩
    rw [nI_clamp (by omega)]
    exact jl_fill hs
end
section
variable {f_machines f_firstHorizon f_horizon f_jobs f_recorded f_wantA f_wantB f_moved f_failed f_level f_pickA f_pickB f_inTree : Int32} {a_releaseOf a_dueOf a_jobOf a_machineOf a_durationOf a_entryA a_entryB a_noted a_wantFrom a_wantTo a_lo a_hi a_pred a_savedLo a_savedHi a_savedPred a_savedA a_savedB a_raised a_cut a_place a_sum a_ect : Nat → Int32}
theorem jx_possible {post : Int32 → SX → Prop} {n dp : Nat} {pa pb : Int32} (V : jf_V n dp a_machineOf a_durationOf a_releaseOf a_dueOf a_jobOf a_entryA a_entryB)
    (hW : pa = -5 ∨ ∃ a b, a < n ∧ b < n ∧ pa = nI a ∧ pb = nI b)
    (h : ∀ r wf wt (f_moved1 f_failed1 f_level1 f_pickA1 f_pickB1 f_inTree1 : Int32) (a_lo1 a_hi1 a_pred1 a_savedLo1 a_savedHi1 a_savedPred1 a_savedA1 a_savedB1 a_raised1 a_cut1 a_place1 a_sum1 a_ect1 : Nat → Int32), (∀ o, o < 8 → wf o = 0 ∧ wt o = 60) → ((r = 0 ∧ ¬ ∃ s, jf_F n dp a_machineOf a_durationOf a_releaseOf a_dueOf a_jobOf a_entryA a_entryB f_horizon.toInt s ∧ (∀ a b, a < n → b < n → pa = nI a → pb = nI b → s a + (a_durationOf a).toInt ≤ s b)) ∨ (r = 1 ∧ ∃ s, jf_F n dp a_machineOf a_durationOf a_releaseOf a_dueOf a_jobOf a_entryA a_entryB f_horizon.toInt s ∧ (∀ a b, a < n → b < n → pa = nI a → pb = nI b → s a + (a_durationOf a).toInt ≤ s b))) →
      post r (f_machines, f_firstHorizon, f_horizon, f_jobs, nI n, nI dp, f_recorded, pa, pb, f_moved1, f_failed1, f_level1, f_pickA1, f_pickB1, f_inTree1, a_releaseOf, a_dueOf, a_jobOf, a_machineOf, a_durationOf, a_entryA, a_entryB, a_noted, wf, wt, a_lo1, a_hi1, a_pred1, a_savedLo1, a_savedHi1, a_savedPred1, a_savedA1, a_savedB1, a_raised1, a_cut1, a_place1, a_sum1, a_ect1)) : (wpX_possible post (f_machines, f_firstHorizon, f_horizon, f_jobs, nI n, nI dp, f_recorded, f_wantA, f_wantB, f_moved, f_failed, f_level, f_pickA, f_pickB, f_inTree, a_releaseOf, a_dueOf, a_jobOf, a_machineOf, a_durationOf, a_entryA, a_entryB, a_noted, a_wantFrom, a_wantTo, a_lo, a_hi, a_pred, a_savedLo, a_savedHi, a_savedPred, a_savedA, a_savedB, a_raised, a_cut, a_place, a_sum, a_ect) pa pb) := by
  have hn := V.1
  unfold wpX_possible
  dsimp only
  refine jx_ask (fun wf wt hw => ?_)
  dsimp only
  refine jx_search V (fun a ha => by rw [(hw a (by omega)).1, (hw a (by omega)).2, ja_0, ja_60]; omega) hW (fun r f_moved1 f_failed1 f_level1 f_pickA1 f_pickB1 f_inTree1 a_lo1 a_hi1 a_pred1 a_savedLo1 a_savedHi1 a_savedPred1 a_savedA1 a_savedB1 a_raised1 a_cut1 a_place1 a_sum1 a_ect1 O => ?_)
  refine And.intro (jn_O_n O) (h r wf wt f_moved1 f_failed1 f_level1 f_pickA1 f_pickB1 f_inTree1 a_lo1 a_hi1 a_pred1 a_savedLo1 a_savedHi1 a_savedPred1 a_savedA1 a_savedB1 a_raised1 a_cut1 a_place1 a_sum1 a_ect1 hw ?_)
  have e := fun s => jf_S_free (wA := pa) (wB := pb) (hz := f_horizon.toInt) V (fun o ho => hw o (by omega)) s
  rcases jn_O_r O with ⟨e1, e2⟩ | ⟨e1, s, e2⟩
  · exact Or.inl ⟨e1, fun ⟨s, q⟩ => e2 ⟨s, (e s).mpr q⟩⟩
  · exact Or.inr ⟨e1, s, (e s).mp e2⟩
theorem jx_leastMakespan {post : Int32 → SX → Prop} {n dp hN : Nat} (V : jf_V n dp a_machineOf a_durationOf a_releaseOf a_dueOf a_jobOf a_entryA a_entryB) (hN60 : hN ≤ 60) (eh : f_horizon = nI hN)
    (h : ∀ r wf wt (f_moved1 f_failed1 f_level1 f_pickA1 f_pickB1 f_inTree1 : Int32) (a_lo1 a_hi1 a_pred1 a_savedLo1 a_savedHi1 a_savedPred1 a_savedA1 a_savedB1 a_raised1 a_cut1 a_place1 a_sum1 a_ect1 : Nat → Int32), (∀ o, o < 8 → wf o = 0 ∧ wt o = 60) → ((r = -4 ∧ ¬ ∃ s, jf_F n dp a_machineOf a_durationOf a_releaseOf a_dueOf a_jobOf a_entryA a_entryB hN s) ∨ (∃ c : Nat, c ≤ hN ∧ r = nI c ∧ (∃ s, jf_F n dp a_machineOf a_durationOf a_releaseOf a_dueOf a_jobOf a_entryA a_entryB c s) ∧ ∀ c', c' < c → ¬ ∃ s, jf_F n dp a_machineOf a_durationOf a_releaseOf a_dueOf a_jobOf a_entryA a_entryB (c' : Nat) s)) →
      post r (f_machines, f_firstHorizon, f_horizon, f_jobs, nI n, nI dp, f_recorded, -5, -5, f_moved1, f_failed1, f_level1, f_pickA1, f_pickB1, f_inTree1, a_releaseOf, a_dueOf, a_jobOf, a_machineOf, a_durationOf, a_entryA, a_entryB, a_noted, wf, wt, a_lo1, a_hi1, a_pred1, a_savedLo1, a_savedHi1, a_savedPred1, a_savedA1, a_savedB1, a_raised1, a_cut1, a_place1, a_sum1, a_ect1)) : (wpX_leastMakespan post (f_machines, f_firstHorizon, f_horizon, f_jobs, nI n, nI dp, f_recorded, f_wantA, f_wantB, f_moved, f_failed, f_level, f_pickA, f_pickB, f_inTree, a_releaseOf, a_dueOf, a_jobOf, a_machineOf, a_durationOf, a_entryA, a_entryB, a_noted, a_wantFrom, a_wantTo, a_lo, a_hi, a_pred, a_savedLo, a_savedHi, a_savedPred, a_savedA, a_savedB, a_raised, a_cut, a_place, a_sum, a_ect)) := by
  have hn := V.1
  have eT : f_horizon.toInt = hN := by rw [eh, nI_toInt (by omega)]
  unfold wpX_leastMakespan
  dsimp only
  refine jx_possible V (Or.inl rfl) (fun r wf wt f_moved1 f_failed1 f_level1 f_pickA1 f_pickB1 f_inTree1 a_lo1 a_hi1 a_pred1 a_savedLo1 a_savedHi1 a_savedPred1 a_savedA1 a_savedB1 a_raised1 a_cut1 a_place1 a_sum1 a_ect1 hw O => ?_)
  rw [eT] at O
  rcases O with ⟨e1, e2⟩ | ⟨e1, s, e2⟩
  · subst e1
    exact br_t rfl (h (-4) wf wt f_moved1 f_failed1 f_level1 f_pickA1 f_pickB1 f_inTree1 a_lo1 a_hi1 a_pred1 a_savedLo1 a_savedHi1 a_savedPred1 a_savedA1 a_savedB1 a_raised1 a_cut1 a_place1 a_sum1 a_ect1 hw (Or.inl ⟨rfl, fun ⟨s, q⟩ => e2 ⟨s, q, fun a b ha _ e _ => absurd e.symm (jf_n5 a (by omega))⟩⟩))
  · subst e1
    refine br_f ja_10 ?_
    have key : ∀ (N i : Nat) (f_moved0 f_failed0 f_level0 f_pickA0 f_pickB0 f_inTree0 : Int32) (a_lo0 a_hi0 a_pred0 a_savedLo0 a_savedHi0 a_savedPred0 a_savedA0 a_savedB0 a_raised0 a_cut0 a_place0 a_sum0 a_ect0 : Nat → Int32), i ≤ hN → hN < N + i → (∀ c', c' < i → ¬ ∃ s, jf_F n dp a_machineOf a_durationOf a_releaseOf a_dueOf a_jobOf a_entryA a_entryB (c' : Nat) s) →
        (wX_leastMakespan_16 post N (nI i) f_machines f_firstHorizon f_horizon f_jobs (nI n) (nI dp) f_recorded (-5) (-5) f_moved0 f_failed0 f_level0 f_pickA0 f_pickB0 f_inTree0 a_releaseOf a_dueOf a_jobOf a_machineOf a_durationOf a_entryA a_entryB a_noted wf wt a_lo0 a_hi0 a_pred0 a_savedLo0 a_savedHi0 a_savedPred0 a_savedA0 a_savedB0 a_raised0 a_cut0 a_place0 a_sum0 a_ect0) := by
      intro N
      induction N with
      | zero => intro i f_moved0 f_failed0 f_level0 f_pickA0 f_pickB0 f_inTree0 a_lo0 a_hi0 a_pred0 a_savedLo0 a_savedHi0 a_savedPred0 a_savedA0 a_savedB0 a_raised0 a_cut0 a_place0 a_sum0 a_ect0 h1 h2; omega
      | succ N ih =>
        intro i f_moved0 f_failed0 f_level0 f_pickA0 f_pickB0 f_inTree0 a_lo0 a_hi0 a_pred0 a_savedLo0 a_savedHi0 a_savedPred0 a_savedA0 a_savedB0 a_raised0 a_cut0 a_place0 a_sum0 a_ect0 h1 h2 hno
        rw [wX_leastMakespan_16]
        dsimp only
        rw [eh]
        by_cases z : i = hN
        · subst z
          have fin := h (nI i) wf wt f_moved0 f_failed0 f_level0 f_pickA0 f_pickB0 f_inTree0 a_lo0 a_hi0 a_pred0 a_savedLo0 a_savedHi0 a_savedPred0 a_savedA0 a_savedB0 a_raised0 a_cut0 a_place0 a_sum0 a_ect0 hw (Or.inr ⟨i, Nat.le_refl _, rfl, ⟨s, e2.1⟩, hno⟩)
          rw [eh] at fin
          exact br_t (nI_le (Nat.le_refl _) (by omega)) fin
        · refine br_f (nI_ge (by omega) (by omega)) (jx_search V (fun a ha => by rw [(hw a (by omega)).1, (hw a (by omega)).2, ja_0, ja_60]; omega) (Or.inl rfl) (fun r2 f_moved2 f_failed2 f_level2 f_pickA2 f_pickB2 f_inTree2 a_lo2 a_hi2 a_pred2 a_savedLo2 a_savedHi2 a_savedPred2 a_savedA2 a_savedB2 a_raised2 a_cut2 a_place2 a_sum2 a_ect2 O2 => ?_))
          have e := fun s => jf_S_none (wB := (-5 : Int32)) (hz := (nI i).toInt) V (fun o ho => hw o (by omega)) s
          have ei : (nI i).toInt = (i : Int) := nI_toInt (by omega)
          rw [ei] at e O2
          rcases jn_O_r O2 with ⟨q1, q2⟩ | ⟨q1, s2, q2⟩
          · subst q1
            refine br_t rfl (nm_r (nI_1 i) ?_)
            have K := ih (i + 1) f_moved2 f_failed2 f_level2 f_pickA2 f_pickB2 f_inTree2 a_lo2 a_hi2 a_pred2 a_savedLo2 a_savedHi2 a_savedPred2 a_savedA2 a_savedB2 a_raised2 a_cut2 a_place2 a_sum2 a_ect2 (by omega) (by omega) (fun c' hc' => ?_)
            · rw [eh] at K
              exact K
            · by_cases w : c' = i
              · subst w
                exact fun ⟨s, q⟩ => q2 ⟨s, (e s).mpr q⟩
              · exact hno c' (by omega)
          · subst q1
            have fin := h (nI i) wf wt f_moved2 f_failed2 f_level2 f_pickA2 f_pickB2 f_inTree2 a_lo2 a_hi2 a_pred2 a_savedLo2 a_savedHi2 a_savedPred2 a_savedA2 a_savedB2 a_raised2 a_cut2 a_place2 a_sum2 a_ect2 hw (Or.inr ⟨i, by omega, rfl, ⟨s2, (e s2).mp q2⟩, hno⟩)
            rw [eh] at fin
            exact br_f ja_10 fin
    exact ⟨hN + 1, key (hN + 1) 0 f_moved1 f_failed1 f_level1 f_pickA1 f_pickB1 f_inTree1 a_lo1 a_hi1 a_pred1 a_savedLo1 a_savedHi1 a_savedPred1 a_savedA1 a_savedB1 a_raised1 a_cut1 a_place1 a_sum1 a_ect1 (by omega) (by omega) (fun c' hc' => by omega)⟩
end
section
variable {f_machines f_firstHorizon f_horizon f_jobs f_recorded f_wantA f_wantB f_moved f_failed f_level f_pickA f_pickB f_inTree : Int32} {a_releaseOf a_dueOf a_jobOf a_machineOf a_durationOf a_entryA a_entryB a_noted a_wantFrom a_wantTo a_lo a_hi a_pred a_savedLo a_savedHi a_savedPred a_savedA a_savedB a_raised a_cut a_place a_sum a_ect : Nat → Int32}
theorem jx_leastStart {post : Int32 → SX → Prop} {n dp op : Nat} {cap : Int32} (V : jf_V n dp a_machineOf a_durationOf a_releaseOf a_dueOf a_jobOf a_entryA a_entryB) (hop : op < n)
    (hft : ∀ a, a < n → (-1000 ≤ (a_wantFrom a).toInt ∧ (a_wantFrom a).toInt ≤ 1000) ∧ -1000 ≤ (a_wantTo a).toInt ∧ (a_wantTo a).toInt ≤ 1000)
    (hW : f_wantA = -5 ∨ ∃ a b, a < n ∧ b < n ∧ f_wantA = nI a ∧ f_wantB = nI b)
    (h : ∀ r wt (f_moved1 f_failed1 f_level1 f_pickA1 f_pickB1 f_inTree1 : Int32) (a_lo1 a_hi1 a_pred1 a_savedLo1 a_savedHi1 a_savedPred1 a_savedA1 a_savedB1 a_raised1 a_cut1 a_place1 a_sum1 a_ect1 : Nat → Int32), (∀ o, o ≠ op → wt o = a_wantTo o) → wt op = r → ((r = -4 ∧ ¬ ∃ s, jf_S n dp a_machineOf a_durationOf a_releaseOf a_dueOf a_jobOf a_entryA a_entryB f_wantA f_wantB a_wantFrom a_wantTo cap.toInt s) ∨ ((0 ≤ r.toInt ∧ r.toInt ≤ 59) ∧ (∃ s, jf_S n dp a_machineOf a_durationOf a_releaseOf a_dueOf a_jobOf a_entryA a_entryB f_wantA f_wantB a_wantFrom a_wantTo cap.toInt s ∧ s op = r.toInt) ∧ ∀ s, jf_S n dp a_machineOf a_durationOf a_releaseOf a_dueOf a_jobOf a_entryA a_entryB f_wantA f_wantB a_wantFrom a_wantTo cap.toInt s → r.toInt ≤ s op)) →
      post r (f_machines, f_firstHorizon, f_horizon, f_jobs, nI n, nI dp, f_recorded, f_wantA, f_wantB, f_moved1, f_failed1, f_level1, f_pickA1, f_pickB1, f_inTree1, a_releaseOf, a_dueOf, a_jobOf, a_machineOf, a_durationOf, a_entryA, a_entryB, a_noted, a_wantFrom, wt, a_lo1, a_hi1, a_pred1, a_savedLo1, a_savedHi1, a_savedPred1, a_savedA1, a_savedB1, a_raised1, a_cut1, a_place1, a_sum1, a_ect1)) : (wpX_leastStart post (f_machines, f_firstHorizon, f_horizon, f_jobs, nI n, nI dp, f_recorded, f_wantA, f_wantB, f_moved, f_failed, f_level, f_pickA, f_pickB, f_inTree, a_releaseOf, a_dueOf, a_jobOf, a_machineOf, a_durationOf, a_entryA, a_entryB, a_noted, a_wantFrom, a_wantTo, a_lo, a_hi, a_pred, a_savedLo, a_savedHi, a_savedPred, a_savedA, a_savedB, a_raised, a_cut, a_place, a_sum, a_ect) (nI op) cap) := by
  have hn := V.1
  have vo : vp_in (nI op) 8 := vp_in_nI (by omega) (by omega)
  have co : (nI op).toNatClampNeg = op := nI_clamp (by omega)
  have dop := V.2.2.1 op hop
  have key : ∀ (N x : Nat) (best : Int32) (wt : Nat → Int32) (f_moved0 f_failed0 f_level0 f_pickA0 f_pickB0 f_inTree0 : Int32) (a_lo0 a_hi0 a_pred0 a_savedLo0 a_savedHi0 a_savedPred0 a_savedA0 a_savedB0 a_raised0 a_cut0 a_place0 a_sum0 a_ect0 : Nat → Int32), x ≤ 60 → 62 ≤ N + x → (∀ o, o ≠ op → wt o = a_wantTo o) →
      ((best = -4 ∧ wt = a_wantTo ∧ x = 0) ∨ ((0 ≤ best.toInt ∧ best.toInt + x ≤ 60 ∧ best.toInt ≤ 59) ∧ (wt op).toInt = best.toInt - 1 ∧ (∃ s, jf_S n dp a_machineOf a_durationOf a_releaseOf a_dueOf a_jobOf a_entryA a_entryB f_wantA f_wantB a_wantFrom a_wantTo cap.toInt s ∧ s op = best.toInt) ∧ best.toInt ≤ (a_wantTo op).toInt)) →
      (wX_leastStart_6 post (nI op) cap N best (nI x) f_machines f_firstHorizon f_horizon f_jobs (nI n) (nI dp) f_recorded f_wantA f_wantB f_moved0 f_failed0 f_level0 f_pickA0 f_pickB0 f_inTree0 a_releaseOf a_dueOf a_jobOf a_machineOf a_durationOf a_entryA a_entryB a_noted a_wantFrom wt a_lo0 a_hi0 a_pred0 a_savedLo0 a_savedHi0 a_savedPred0 a_savedA0 a_savedB0 a_raised0 a_cut0 a_place0 a_sum0 a_ect0) := by
    intro N
    induction N with
    | zero => intro x best wt f_moved0 f_failed0 f_level0 f_pickA0 f_pickB0 f_inTree0 a_lo0 a_hi0 a_pred0 a_savedLo0 a_savedHi0 a_savedPred0 a_savedA0 a_savedB0 a_raised0 a_cut0 a_place0 a_sum0 a_ect0 h1 h2; omega
    | succ N ih =>
      intro x best wt f_moved0 f_failed0 f_level0 f_pickA0 f_pickB0 f_inTree0 a_lo0 a_hi0 a_pred0 a_savedLo0 a_savedHi0 a_savedPred0 a_savedA0 a_savedB0 a_raised0 a_cut0 a_place0 a_sum0 a_ect0 hx hN hwt hB
      have Seq : ∀ s, jf_S n dp a_machineOf a_durationOf a_releaseOf a_dueOf a_jobOf a_entryA a_entryB f_wantA f_wantB a_wantFrom wt cap.toInt s ↔ (jf_S n dp a_machineOf a_durationOf a_releaseOf a_dueOf a_jobOf a_entryA a_entryB f_wantA f_wantB a_wantFrom a_wantTo cap.toInt s ∧ s op ≤ (wt op).toInt) := by
        intro s
        have hle : (wt op).toInt ≤ (a_wantTo op).toInt := by
          rcases hB with ⟨_, e, _⟩ | ⟨_, e, _, e2⟩
          · rw [e]; exact Int.le_refl _
          · omega
        constructor
        · rintro ⟨q1, q2, q3⟩
          refine ⟨⟨q1, fun a ha => ?_, q3⟩, (q2 op hop).2⟩
          by_cases z : a = op
          · subst z; have := q2 a ha; omega
          · have := q2 a ha; rw [hwt a z] at this; exact this
        · rintro ⟨⟨q1, q2, q3⟩, q4⟩
          refine ⟨q1, fun a ha => ?_, q3⟩
          by_cases z : a = op
          · subst z; exact ⟨(q2 a ha).1, q4⟩
          · rw [hwt a z]; exact q2 a ha
      have hft' : ∀ a, a < n → (-1000 ≤ (a_wantFrom a).toInt ∧ (a_wantFrom a).toInt ≤ 1000) ∧ -1000 ≤ (wt a).toInt ∧ (wt a).toInt ≤ 1000 := fun a ha => by
        refine ⟨(hft a ha).1, ?_⟩
        by_cases z : a = op
        · subst z
          rcases hB with ⟨_, e, _⟩ | ⟨e1, e, _, _⟩
          · rw [e]; exact (hft a ha).2
          · omega
        · rw [hwt a z]; exact (hft a ha).2
      refine br_f (nI_nlt (a := 60) (b := x) hx (by omega)) (jx_search V hft' hW (fun r f_moved2 f_failed2 f_level2 f_pickA2 f_pickB2 f_inTree2 a_lo2 a_hi2 a_pred2 a_savedLo2 a_savedHi2 a_savedPred2 a_savedA2 a_savedB2 a_raised2 a_cut2 a_place2 a_sum2 a_ect2 O => ?_))
      rw [co]
      rcases O with ⟨e1, e2⟩ | ⟨e1, ⟨s0, hs0⟩, e3⟩
      · subst e1
        refine br_t rfl (And.intro vo (nm_e ?_))
        refine h best (upd wt op best) f_moved2 f_failed2 f_level2 f_pickA2 f_pickB2 f_inTree2 a_lo2 a_hi2 a_pred2 a_savedLo2 a_savedHi2 a_savedPred2 a_savedA2 a_savedB2 a_raised2 a_cut2 a_place2 a_sum2 a_ect2 (fun o ho => by rw [pk_un ho]; exact hwt o ho) pk_us ?_
        rcases hB with ⟨q1, q2, _⟩ | ⟨q1, q2, q3, q4⟩
        · refine Or.inl ⟨q1, fun ⟨s, q⟩ => e2 ⟨s, ?_⟩⟩
          rw [q2]; exact q
        · refine Or.inr ⟨⟨q1.1, q1.2.2⟩, q3, fun s q => ?_⟩
          apply Classical.byContradiction
          intro z
          exact e2 ⟨s, (Seq s).mpr ⟨q, by omega⟩⟩
      · subst e1
        obtain ⟨⟨r1, r2, r3⟩, r4⟩ := e3 op hop
        obtain ⟨s1, hs1, es1⟩ := r4 _ (Int.le_refl _) r2
        obtain ⟨w1, w2⟩ := (Seq s1).mp hs1
        have el : (a_lo2 op - 1).toInt = (a_lo2 op).toInt - 1 := ja_sub (by rw [ja_1]; omega) (by rw [ja_1]; omega)
        refine br_f ja_10 (And.intro vo (nm_e (And.intro vo (nm_e (nm_r (nI_1 x) ?_)))))
        have wop := (w1.2.1 op hop).2
        refine ih (x + 1) (a_lo2 op) (upd wt op (a_lo2 op - 1)) f_moved2 f_failed2 f_level2 f_pickA2 f_pickB2 f_inTree2 a_lo2 a_hi2 a_pred2 a_savedLo2 a_savedHi2 a_savedPred2 a_savedA2 a_savedB2 a_raised2 a_cut2 a_place2 a_sum2 a_ect2 ?_ (by omega) (fun o ho => by rw [pk_un ho]; exact hwt o ho) (Or.inr ⟨?_, by rw [pk_us]; exact el, ⟨s1, w1, es1⟩, by omega⟩)
        · rcases hB with ⟨_, _, q⟩ | ⟨q1, q2, _, _⟩ <;> omega
        · rcases hB with ⟨_, _, q⟩ | ⟨q1, q2, _, _⟩ <;> omega
  show ∃ n6 : Nat, (wX_leastStart_6 post (nI op) cap n6 (-4) 0 f_machines f_firstHorizon f_horizon f_jobs (nI n) (nI dp) f_recorded f_wantA f_wantB f_moved f_failed f_level f_pickA f_pickB f_inTree a_releaseOf a_dueOf a_jobOf a_machineOf a_durationOf a_entryA a_entryB a_noted a_wantFrom a_wantTo a_lo a_hi a_pred a_savedLo a_savedHi a_savedPred a_savedA a_savedB a_raised a_cut a_place a_sum a_ect)
  exact ⟨62, key 62 0 (-4) a_wantTo f_moved f_failed f_level f_pickA f_pickB f_inTree a_lo a_hi a_pred a_savedLo a_savedHi a_savedPred a_savedA a_savedB a_raised a_cut a_place a_sum a_ect (by omega) (by omega) (fun _ _ => rfl) (Or.inl ⟨rfl, rfl, rfl⟩)⟩
end
end
section
/-! X: the loops of latest, starts, solve, fits -/
theorem jf_F_cg {n dp : Nat} {M d rel due jobOf eA eB : Nat → Int32} {hz : Int} {s s' : Nat → Int} (e : ∀ o, o < n → s' o = s o) (h : jf_F n dp M d rel due jobOf eA eB hz s) : jf_F n dp M d rel due jobOf eA eB hz s' :=
  ⟨fun a ha => by rw [e a ha]; exact h.1 a ha, fun a b ha hb => by rw [e a ha, e b hb]; exact h.2.1 a b ha hb, fun a b ha hb => by rw [e a ha, e b hb]; exact h.2.2.1 a b ha hb, fun i hi a b ha hb => by rw [e a ha, e b hb]; exact h.2.2.2 i hi a b ha hb⟩
theorem jk_1 : ∀ i, i < 64 → jk_b 1 i = decide (i = 0) := by decide +kernel
theorem jk_and (x y : Int64) (t : Nat) : jk_b (x &&& y) t = (jk_b x t && jk_b y t) := by unfold jk_b; rw [Int64.toBitVec_and, BitVec.getLsbD_and]
theorem jk_shr0 (x : Int64) {k : Nat} (hk : k < 64) : jk_b (x >>> ((nI k).toInt64 &&& 63)) 0 = jk_b x k := by
  unfold jk_b
  rw [wb_c k hk, Int64.toBitVec_shiftRight]
  show (x.toBitVec.sshiftRight ((lN k).toBitVec.smod 64).toNat).getLsbD 0 = _
  rw [lN_bv, wb_sm k hk, BitVec.toNat_ofNat, Nat.mod_eq_of_lt (show k < 2 ^ 64 by omega), BitVec.getLsbD_sshiftRight]
  simp [hk]
theorem jk_test (x : Int64) {k : Nat} (hk : k < 64) : ((x >>> ((nI k).toInt64 &&& 63)) &&& 1) = 0 ↔ jk_b x k = false := by
  constructor
  · intro h
    have e : jk_b ((x >>> ((nI k).toInt64 &&& 63)) &&& 1) 0 = false := by rw [h]; exact jk_0 0
    rw [jk_and, jk_shr0 x hk, jk_1 0 (by omega)] at e
    simpa using e
  · intro h
    apply jk_ext
    intro i hi
    rw [jk_0, jk_and, jk_1 i hi]
    by_cases z : i = 0
    · subst z; rw [jk_shr0 x hk, h]; rfl
    · rw [decide_eq_false z, Bool.and_false]
def jk_un (x : Int64) : Nat := js_s (fun i => if jk_b x i = true then 0 else 1) 60
theorem jk_un_lt {x y : Int64} (h : ∀ i, i < 60 → jk_b x i = true → jk_b y i = true) {k : Nat} (hk : k < 60) (h0 : jk_b x k = false) (h1 : jk_b y k = true) : jk_un y < jk_un x := by
  refine js_s_lt (a := k) ?_ (fun i hi => js_ind_le (h i hi)) hk
  show (if jk_b y k = true then 0 else 1) < (if jk_b x k = true then 0 else 1)
  rw [h0, h1]; decide
theorem jt_mx_nI {a b : Nat} (ha : a < 2 ^ 31) (hb : b < 2 ^ 31) : jt_mx (nI a) (nI b) = nI (if a ≤ b then b else a) := by
  unfold jt_mx
  by_cases z : a ≤ b
  · rw [if_pos (nI_le z hb), if_pos z]
  · rw [if_neg (nI_ge (by omega) ha), if_neg z]
section
variable {f_machines f_firstHorizon f_horizon f_jobs f_recorded f_wantA f_wantB f_moved f_failed f_level f_pickA f_pickB f_inTree : Int32} {a_releaseOf a_dueOf a_jobOf a_machineOf a_durationOf a_entryA a_entryB a_noted a_wantFrom a_wantTo a_lo a_hi a_pred a_savedLo a_savedHi a_savedPred a_savedA a_savedB a_raised a_cut a_place a_sum a_ect : Nat → Int32}
theorem jx_latestL {post : Int32 → SX → Prop} {n dp op : Nat} (V : jf_V n dp a_machineOf a_durationOf a_releaseOf a_dueOf a_jobOf a_entryA a_entryB) (hop : op < n)
    (hft : ∀ a, a < n → (-1000 ≤ (a_wantFrom a).toInt ∧ (a_wantFrom a).toInt ≤ 1000) ∧ -1000 ≤ (a_wantTo a).toInt ∧ (a_wantTo a).toInt ≤ 1000)
    (hW : f_wantA = -5 ∨ ∃ a b, a < n ∧ b < n ∧ f_wantA = nI a ∧ f_wantB = nI b)
    (h : ∀ r wf (f_moved1 f_failed1 f_level1 f_pickA1 f_pickB1 f_inTree1 : Int32) (a_lo1 a_hi1 a_pred1 a_savedLo1 a_savedHi1 a_savedPred1 a_savedA1 a_savedB1 a_raised1 a_cut1 a_place1 a_sum1 a_ect1 : Nat → Int32), ((r = -4 ∧ ¬ ∃ s, jf_S n dp a_machineOf a_durationOf a_releaseOf a_dueOf a_jobOf a_entryA a_entryB f_wantA f_wantB a_wantFrom a_wantTo f_horizon.toInt s) ∨ ((0 ≤ r.toInt ∧ r.toInt ≤ 59) ∧ (∃ s, jf_S n dp a_machineOf a_durationOf a_releaseOf a_dueOf a_jobOf a_entryA a_entryB f_wantA f_wantB a_wantFrom a_wantTo f_horizon.toInt s ∧ s op = r.toInt) ∧ ∀ s, jf_S n dp a_machineOf a_durationOf a_releaseOf a_dueOf a_jobOf a_entryA a_entryB f_wantA f_wantB a_wantFrom a_wantTo f_horizon.toInt s → s op ≤ r.toInt)) →
      post r (f_machines, f_firstHorizon, f_horizon, f_jobs, nI n, nI dp, f_recorded, f_wantA, f_wantB, f_moved1, f_failed1, f_level1, f_pickA1, f_pickB1, f_inTree1, a_releaseOf, a_dueOf, a_jobOf, a_machineOf, a_durationOf, a_entryA, a_entryB, a_noted, wf, a_wantTo, a_lo1, a_hi1, a_pred1, a_savedLo1, a_savedHi1, a_savedPred1, a_savedA1, a_savedB1, a_raised1, a_cut1, a_place1, a_sum1, a_ect1)) : ∃ n23 : Nat, (wX_latest_23 post (nI op) n23 (-4) 0 f_machines f_firstHorizon f_horizon f_jobs (nI n) (nI dp) f_recorded f_wantA f_wantB f_moved f_failed f_level f_pickA f_pickB f_inTree a_releaseOf a_dueOf a_jobOf a_machineOf a_durationOf a_entryA a_entryB a_noted a_wantFrom a_wantTo a_lo a_hi a_pred a_savedLo a_savedHi a_savedPred a_savedA a_savedB a_raised a_cut a_place a_sum a_ect) := by
  have hn := V.1
  have vo : vp_in (nI op) 8 := vp_in_nI (by omega) (by omega)
  have co : (nI op).toNatClampNeg = op := nI_clamp (by omega)
  have dop := V.2.2.1 op hop
  have key : ∀ (N x : Nat) (best : Int32) (wf : Nat → Int32) (f_moved0 f_failed0 f_level0 f_pickA0 f_pickB0 f_inTree0 : Int32) (a_lo0 a_hi0 a_pred0 a_savedLo0 a_savedHi0 a_savedPred0 a_savedA0 a_savedB0 a_raised0 a_cut0 a_place0 a_sum0 a_ect0 : Nat → Int32), x ≤ 60 → 62 ≤ N + x → (∀ o, o ≠ op → wf o = a_wantFrom o) →
      ((best = -4 ∧ wf = a_wantFrom ∧ x = 0) ∨ ((0 ≤ best.toInt ∧ (x : Int) ≤ best.toInt + 1 ∧ best.toInt ≤ 59) ∧ (wf op).toInt = best.toInt + 1 ∧ (∃ s, jf_S n dp a_machineOf a_durationOf a_releaseOf a_dueOf a_jobOf a_entryA a_entryB f_wantA f_wantB a_wantFrom a_wantTo f_horizon.toInt s ∧ s op = best.toInt) ∧ (a_wantFrom op).toInt ≤ best.toInt)) →
      (wX_latest_23 post (nI op) N best (nI x) f_machines f_firstHorizon f_horizon f_jobs (nI n) (nI dp) f_recorded f_wantA f_wantB f_moved0 f_failed0 f_level0 f_pickA0 f_pickB0 f_inTree0 a_releaseOf a_dueOf a_jobOf a_machineOf a_durationOf a_entryA a_entryB a_noted wf a_wantTo a_lo0 a_hi0 a_pred0 a_savedLo0 a_savedHi0 a_savedPred0 a_savedA0 a_savedB0 a_raised0 a_cut0 a_place0 a_sum0 a_ect0) := by
    intro N
    induction N with
    | zero => intro x best wf f_moved0 f_failed0 f_level0 f_pickA0 f_pickB0 f_inTree0 a_lo0 a_hi0 a_pred0 a_savedLo0 a_savedHi0 a_savedPred0 a_savedA0 a_savedB0 a_raised0 a_cut0 a_place0 a_sum0 a_ect0 h1 h2; omega
    | succ N ih =>
      intro x best wf f_moved0 f_failed0 f_level0 f_pickA0 f_pickB0 f_inTree0 a_lo0 a_hi0 a_pred0 a_savedLo0 a_savedHi0 a_savedPred0 a_savedA0 a_savedB0 a_raised0 a_cut0 a_place0 a_sum0 a_ect0 hx hN hwf hB
      have Seq : ∀ s, jf_S n dp a_machineOf a_durationOf a_releaseOf a_dueOf a_jobOf a_entryA a_entryB f_wantA f_wantB wf a_wantTo f_horizon.toInt s ↔ (jf_S n dp a_machineOf a_durationOf a_releaseOf a_dueOf a_jobOf a_entryA a_entryB f_wantA f_wantB a_wantFrom a_wantTo f_horizon.toInt s ∧ (wf op).toInt ≤ s op) := by
        intro s
        have hle : (a_wantFrom op).toInt ≤ (wf op).toInt := by
          rcases hB with ⟨_, e, _⟩ | ⟨_, e, _, e2⟩
          · rw [e]; exact Int.le_refl _
          · omega
        constructor
        · rintro ⟨q1, q2, q3⟩
          refine ⟨⟨q1, fun a ha => ?_, q3⟩, (q2 op hop).1⟩
          by_cases z : a = op
          · subst z; have := q2 a ha; omega
          · have := q2 a ha; rw [hwf a z] at this; exact this
        · rintro ⟨⟨q1, q2, q3⟩, q4⟩
          refine ⟨q1, fun a ha => ?_, q3⟩
          by_cases z : a = op
          · subst z; exact ⟨q4, (q2 a ha).2⟩
          · rw [hwf a z]; exact q2 a ha
      have hft' : ∀ a, a < n → (-1000 ≤ (wf a).toInt ∧ (wf a).toInt ≤ 1000) ∧ -1000 ≤ (a_wantTo a).toInt ∧ (a_wantTo a).toInt ≤ 1000 := fun a ha => by
        refine ⟨?_, (hft a ha).2⟩
        by_cases z : a = op
        · subst z
          rcases hB with ⟨_, e, _⟩ | ⟨e1, e, _, _⟩
          · rw [e]; exact (hft a ha).1
          · omega
        · rw [hwf a z]; exact (hft a ha).1
      refine br_f (nI_nlt (a := 60) (b := x) hx (by omega)) (jx_search V hft' hW (fun r f_moved2 f_failed2 f_level2 f_pickA2 f_pickB2 f_inTree2 a_lo2 a_hi2 a_pred2 a_savedLo2 a_savedHi2 a_savedPred2 a_savedA2 a_savedB2 a_raised2 a_cut2 a_place2 a_sum2 a_ect2 O => ?_))
      rw [co]
      rcases O with ⟨e1, e2⟩ | ⟨e1, ⟨s0, hs0⟩, e3⟩
      · subst e1
        refine br_t rfl (h best wf f_moved2 f_failed2 f_level2 f_pickA2 f_pickB2 f_inTree2 a_lo2 a_hi2 a_pred2 a_savedLo2 a_savedHi2 a_savedPred2 a_savedA2 a_savedB2 a_raised2 a_cut2 a_place2 a_sum2 a_ect2 ?_)
        rcases hB with ⟨q1, q2, _⟩ | ⟨q1, q2, q3, q4⟩
        · refine Or.inl ⟨q1, fun ⟨s, q⟩ => e2 ⟨s, ?_⟩⟩
          rw [q2]; exact q
        · refine Or.inr ⟨⟨q1.1, q1.2.2⟩, q3, fun s q => ?_⟩
          apply Classical.byContradiction
          intro z
          exact e2 ⟨s, (Seq s).mpr ⟨q, by omega⟩⟩
      · subst e1
        obtain ⟨⟨r1, r2, r3⟩, r4⟩ := e3 op hop
        have el : (a_hi2 op - a_durationOf op).toInt = (a_hi2 op).toInt - (a_durationOf op).toInt := ja_sub (by omega) (by omega)
        have el1 : (a_hi2 op - a_durationOf op + 1).toInt = (a_hi2 op).toInt - (a_durationOf op).toInt + 1 := by rw [ja_add (by rw [el, ja_1]; omega) (by rw [el, ja_1]; omega), el, ja_1]
        obtain ⟨s1, hs1, es1⟩ := r4 ((a_hi2 op).toInt - (a_durationOf op).toInt) (by omega) (by omega)
        obtain ⟨w1, w2⟩ := (Seq s1).mp hs1
        have wop := (w1.2.1 op hop).1
        refine br_f ja_10 (And.intro vo (And.intro vo (nm_e (And.intro vo (nm_e (nm_r (nI_1 x) ?_))))))
        refine ih (x + 1) _ (upd wf op (a_hi2 op - a_durationOf op + 1)) f_moved2 f_failed2 f_level2 f_pickA2 f_pickB2 f_inTree2 a_lo2 a_hi2 a_pred2 a_savedLo2 a_savedHi2 a_savedPred2 a_savedA2 a_savedB2 a_raised2 a_cut2 a_place2 a_sum2 a_ect2 ?_ (by omega) (fun o ho => by rw [pk_un ho]; exact hwf o ho) (Or.inr ⟨?_, by rw [pk_us, el1, el], ⟨s1, w1, by rw [es1, el]⟩, by rw [el]; omega⟩)
        · rcases hB with ⟨_, _, q⟩ | ⟨q1, q2, _, _⟩ <;> omega
        · rw [el]
          rcases hB with ⟨_, _, q⟩ | ⟨q1, q2, _, _⟩ <;> omega
  exact ⟨62, key 62 0 (-4) a_wantFrom f_moved f_failed f_level f_pickA f_pickB f_inTree a_lo a_hi a_pred a_savedLo a_savedHi a_savedPred a_savedA a_savedB a_raised a_cut a_place a_sum a_ect (by omega) (by omega) (fun _ _ => rfl) (Or.inl ⟨rfl, rfl, rfl⟩)⟩
theorem jx_startsL {post : Int64 → SX → Prop} {n dp op : Nat} (V : jf_V n dp a_machineOf a_durationOf a_releaseOf a_dueOf a_jobOf a_entryA a_entryB) (hop : op < n) (eW : f_wantA = -5)
    (hw : ∀ o, o < n → a_wantFrom o = 0 ∧ a_wantTo o = 60)
    (h : ∀ r wf wt (f_moved1 f_failed1 f_level1 f_pickA1 f_pickB1 f_inTree1 : Int32) (a_lo1 a_hi1 a_pred1 a_savedLo1 a_savedHi1 a_savedPred1 a_savedA1 a_savedB1 a_raised1 a_cut1 a_place1 a_sum1 a_ect1 : Nat → Int32), (∀ t, t < 64 → (jk_b r t = true ↔ ∃ s, jf_F n dp a_machineOf a_durationOf a_releaseOf a_dueOf a_jobOf a_entryA a_entryB f_horizon.toInt s ∧ s op = (t : Int))) → post r (f_machines, f_firstHorizon, f_horizon, f_jobs, nI n, nI dp, f_recorded, f_wantA, f_wantB, f_moved1, f_failed1, f_level1, f_pickA1, f_pickB1, f_inTree1, a_releaseOf, a_dueOf, a_jobOf, a_machineOf, a_durationOf, a_entryA, a_entryB, a_noted, wf, wt, a_lo1, a_hi1, a_pred1, a_savedLo1, a_savedHi1, a_savedPred1, a_savedA1, a_savedB1, a_raised1, a_cut1, a_place1, a_sum1, a_ect1)) :
    ∃ n26 : Nat, (wX_starts_26 post (nI op) n26 0 0 0 f_machines f_firstHorizon f_horizon f_jobs (nI n) (nI dp) f_recorded f_wantA f_wantB f_moved f_failed f_level f_pickA f_pickB f_inTree a_releaseOf a_dueOf a_jobOf a_machineOf a_durationOf a_entryA a_entryB a_noted a_wantFrom a_wantTo a_lo a_hi a_pred a_savedLo a_savedHi a_savedPred a_savedA a_savedB a_raised a_cut a_place a_sum a_ect) := by
  have hn := V.1
  have vo : vp_in (nI op) 8 := vp_in_nI (by omega) (by omega)
  have co : (nI op).toNatClampNeg = op := nI_clamp (by omega)
  have dop := V.2.2.1 op hop
  have Fr : ∀ s, jf_F n dp a_machineOf a_durationOf a_releaseOf a_dueOf a_jobOf a_entryA a_entryB f_horizon.toInt s → ∀ a, a < n → 0 ≤ s a ∧ s a < 60 := fun s q a ha => by
    have q1 := q.1 a ha
    have q2 := V.2.2.2.2.2.1 a ha
    have q3 := V.2.2.1 a ha
    omega
  have key : ∀ (N st t : Nat) (fd : Int64) (wf wt : Nat → Int32) (f_moved0 f_failed0 f_level0 f_pickA0 f_pickB0 f_inTree0 : Int32) (a_lo0 a_hi0 a_pred0 a_savedLo0 a_savedHi0 a_savedPred0 a_savedA0 a_savedB0 a_raised0 a_cut0 a_place0 a_sum0 a_ect0 : Nat → Int32), (∀ o, o < n → o ≠ op → wf o = 0 ∧ wt o = 60) → t ≤ 60 → st + (60 - t) + jk_un fd ≤ 120 → 121 ≤ N + st →
      (∀ x, x < 64 → jk_b fd x = true → x < 60 ∧ ∃ s, jf_F n dp a_machineOf a_durationOf a_releaseOf a_dueOf a_jobOf a_entryA a_entryB f_horizon.toInt s ∧ s op = (x : Int)) →
      (∀ x, x < t → (∃ s, jf_F n dp a_machineOf a_durationOf a_releaseOf a_dueOf a_jobOf a_entryA a_entryB f_horizon.toInt s ∧ s op = (x : Int)) → jk_b fd x = true) →
      (wX_starts_26 post (nI op) N fd (nI t) (nI st) f_machines f_firstHorizon f_horizon f_jobs (nI n) (nI dp) f_recorded f_wantA f_wantB f_moved0 f_failed0 f_level0 f_pickA0 f_pickB0 f_inTree0 a_releaseOf a_dueOf a_jobOf a_machineOf a_durationOf a_entryA a_entryB a_noted wf wt a_lo0 a_hi0 a_pred0 a_savedLo0 a_savedHi0 a_savedPred0 a_savedA0 a_savedB0 a_raised0 a_cut0 a_place0 a_sum0 a_ect0) := by
    intro N
    induction N with
    | zero => intro st t fd wf wt f_moved0 f_failed0 f_level0 f_pickA0 f_pickB0 f_inTree0 a_lo0 a_hi0 a_pred0 a_savedLo0 a_savedHi0 a_savedPred0 a_savedA0 a_savedB0 a_raised0 a_cut0 a_place0 a_sum0 a_ect0 _ h1 h2; omega
    | succ N ih =>
      intro st t fd wf wt f_moved0 f_failed0 f_level0 f_pickA0 f_pickB0 f_inTree0 a_lo0 a_hi0 a_pred0 a_savedLo0 a_savedHi0 a_savedPred0 a_savedA0 a_savedB0 a_raised0 a_cut0 a_place0 a_sum0 a_ect0 hw' ht hmu hN hsnd hcpl
      refine br_f (nI_ge (b := 200) (by omega) (by omega)) ?_
      by_cases z : t = 60
      · subst z
        refine br_t (nI_le (a := 60) (b := 60) (by omega) (by omega)) (h fd wf wt f_moved0 f_failed0 f_level0 f_pickA0 f_pickB0 f_inTree0 a_lo0 a_hi0 a_pred0 a_savedLo0 a_savedHi0 a_savedPred0 a_savedA0 a_savedB0 a_raised0 a_cut0 a_place0 a_sum0 a_ect0 fun x hx => ⟨fun q => (hsnd x hx q).2, fun ⟨s, q1, q2⟩ => hcpl x ?_ ⟨s, q1, q2⟩⟩)
        have := Fr s q1 op hop
        omega
      · refine br_f (nI_ge (b := 60) (by omega) (by omega)) ?_
        -- behind the scan
        have scan : ∀ e, t ≤ e → e ≤ 60 → (∀ x, t ≤ x → x < e → jk_b fd x = false) → (e = 60 ∨ jk_b fd e = true) →
            (wX_starts_69 post (wX_starts_26 post (nI op) N) (nI op) fd (nI t) (nI st) (nI e) f_machines f_firstHorizon f_horizon f_jobs (nI n) (nI dp) f_recorded f_wantA f_wantB f_moved0 f_failed0 f_level0 f_pickA0 f_pickB0 f_inTree0 a_releaseOf a_dueOf a_jobOf a_machineOf a_durationOf a_entryA a_entryB a_noted wf wt a_lo0 a_hi0 a_pred0 a_savedLo0 a_savedHi0 a_savedPred0 a_savedA0 a_savedB0 a_raised0 a_cut0 a_place0 a_sum0 a_ect0) := by
          intro e he1 he2 hun hend
          have up : ∀ o, o < n → o ≠ op → upd wf op (nI t) o = 0 ∧ upd wt op (nI e - 1) o = 60 := fun o ho hne => by rw [pk_un hne, pk_un hne]; exact hw' o ho hne
          refine And.intro vo ?_
          rw [co]
          refine nm_e (And.intro vo (nm_e ?_))
          refine pk_le e t (fun q => ?_) (fun q => ?_)
          · have e0 : e = t := by omega
            subst e0
            refine jx_greater ?_
            rw [nI_1 e, jt_mx_nI (a := e) (b := e + 1) (by omega) (by omega), if_pos (by omega)]
            refine nm_r (nI_1 st) (ih (st + 1) (e + 1) fd _ _ f_moved0 f_failed0 f_level0 f_pickA0 f_pickB0 f_inTree0 a_lo0 a_hi0 a_pred0 a_savedLo0 a_savedHi0 a_savedPred0 a_savedA0 a_savedB0 a_raised0 a_cut0 a_place0 a_sum0 a_ect0 up (by omega) (by omega) (by omega) hsnd (fun x hx q => ?_))
            by_cases w : x = e
            · subst w; exact hend.resolve_left z
            · exact hcpl x (by omega) q
          · have em1 : nI e - 1 = nI (e - 1) := pk_sub (a := e) (b := 1) (by omega)
            have Seq : ∀ s, jf_S n dp a_machineOf a_durationOf a_releaseOf a_dueOf a_jobOf a_entryA a_entryB f_wantA f_wantB (upd wf op (nI t)) (upd wt op (nI e - 1)) f_horizon.toInt s ↔ (jf_F n dp a_machineOf a_durationOf a_releaseOf a_dueOf a_jobOf a_entryA a_entryB f_horizon.toInt s ∧ (t : Int) ≤ s op ∧ s op ≤ (e : Int) - 1) := by
              intro s
              have x1 : (upd wf op (nI t) op).toInt = (t : Int) := by rw [pk_us, nI_toInt (by omega)]
              have x2 : (upd wt op (nI e - 1) op).toInt = (e : Int) - 1 := by rw [pk_us, em1, nI_toInt (by omega)]; omega
              constructor
              · rintro ⟨q1, q2, q3⟩
                have := q2 op hop
                rw [x1, x2] at this
                exact ⟨q1, this⟩
              · rintro ⟨q1, q2⟩
                refine ⟨q1, fun a ha => ?_, fun a b ha _ e1 _ => absurd (e1.symm.trans eW) (jf_n5 a (by omega))⟩
                by_cases w : a = op
                · subst w; rw [x1, x2]; exact q2
                · rw [(up a ha w).1, (up a ha w).2, ja_0, ja_60]
                  have := Fr s q1 a ha
                  omega
            have hft' : ∀ a, a < n → (-1000 ≤ (upd wf op (nI t) a).toInt ∧ (upd wf op (nI t) a).toInt ≤ 1000) ∧ -1000 ≤ (upd wt op (nI e - 1) a).toInt ∧ (upd wt op (nI e - 1) a).toInt ≤ 1000 := fun a ha => by
              by_cases w : a = op
              · subst w; rw [pk_us, pk_us, em1, nI_toInt (by omega), nI_toInt (by omega)]; omega
              · rw [(up a ha w).1, (up a ha w).2, ja_0, ja_60]; omega
            refine jx_search V hft' (Or.inl eW) (fun r f_moved2 f_failed2 f_level2 f_pickA2 f_pickB2 f_inTree2 a_lo2 a_hi2 a_pred2 a_savedLo2 a_savedHi2 a_savedPred2 a_savedA2 a_savedB2 a_raised2 a_cut2 a_place2 a_sum2 a_ect2 O => ?_)
            rcases O with ⟨e1, e2⟩ | ⟨e1, ⟨s0, hs0⟩, e3⟩
            · subst e1
              refine br_t rfl (jx_greater ?_)
              rw [nI_1 t, jt_mx_nI (a := e) (b := t + 1) (by omega) (by omega)]
              have ee : (if e ≤ t + 1 then t + 1 else e) = e := by split <;> omega
              rw [ee]
              refine nm_r (nI_1 st) (ih (st + 1) e fd _ _ f_moved2 f_failed2 f_level2 f_pickA2 f_pickB2 f_inTree2 a_lo2 a_hi2 a_pred2 a_savedLo2 a_savedHi2 a_savedPred2 a_savedA2 a_savedB2 a_raised2 a_cut2 a_place2 a_sum2 a_ect2 up he2 (by omega) (by omega) hsnd (fun x hx q => ?_))
              by_cases w : x < t
              · exact hcpl x w q
              · obtain ⟨s, q1, q2⟩ := q
                exact absurd ⟨s, (Seq s).mpr ⟨q1, by omega, by omega⟩⟩ e2
            · subst e1
              obtain ⟨⟨r1, r2, r3⟩, r4⟩ := e3 op hop
              have ey : (a_hi2 op - a_durationOf op).toInt = (a_hi2 op).toInt - (a_durationOf op).toInt := ja_sub (by omega) (by omega)
              obtain ⟨s1, hs1, es1⟩ := r4 (a_lo2 op).toInt (by omega) (by omega)
              have w1 := (Seq s1).mp hs1
              have bits : ∀ x, x < 64 → jk_b (fd ||| ((((1 : Int64) <<< (((a_hi2 op - a_durationOf op) - a_lo2 op + 1).toInt64 &&& 63)) - 1) <<< ((a_lo2 op).toInt64 &&& 63))) x = (jk_b fd x || decide ((a_lo2 op).toInt ≤ (x : Int) ∧ (x : Int) ≤ (a_hi2 op).toInt - (a_durationOf op).toInt)) := fun x hx => by
                rw [jk_or, jk_mask (by omega) (by omega) (by omega) hx, ey]
              refine br_f ja_10 (And.intro vo (And.intro vo (And.intro vo (And.intro vo (nm_e (nm_r (nI_1 st) ?_))))))
              have k60 : (a_lo2 op).toInt.toNat < 60 := by omega
              have lt := jk_un_lt (x := fd) (y := fd ||| ((((1 : Int64) <<< (((a_hi2 op - a_durationOf op) - a_lo2 op + 1).toInt64 &&& 63)) - 1) <<< ((a_lo2 op).toInt64 &&& 63))) (fun i hi q => by rw [bits i (by omega), q]; rfl) k60 (hun _ (by omega) (by omega)) (by
                rw [bits _ (by omega), decide_eq_true (by omega), Bool.or_true])
              refine ih (st + 1) t _ _ _ f_moved2 f_failed2 f_level2 f_pickA2 f_pickB2 f_inTree2 a_lo2 a_hi2 a_pred2 a_savedLo2 a_savedHi2 a_savedPred2 a_savedA2 a_savedB2 a_raised2 a_cut2 a_place2 a_sum2 a_ect2 up ht (by omega) (by omega) (fun x hx q => ?_) (fun x hx q => ?_)
              · rw [bits x hx, Bool.or_eq_true, decide_eq_true_eq] at q
                rcases q with q | q
                · exact hsnd x hx q
                · obtain ⟨s, q1, q2⟩ := r4 x q.1 (by omega)
                  exact ⟨by omega, s, ((Seq s).mp q1).1, q2⟩
              · rw [bits x (by omega), hcpl x hx q]; rfl
        have inner : ∀ (N' e : Nat), t ≤ e → e ≤ 60 → 60 < N' + e → (∀ x, t ≤ x → x < e → jk_b fd x = false) →
            (wX_starts_45 post (wX_starts_26 post (nI op) N) (nI op) fd (nI t) (nI st) f_machines f_firstHorizon f_horizon f_jobs (nI n) (nI dp) f_recorded f_wantA f_wantB f_moved0 f_failed0 f_level0 f_pickA0 f_pickB0 f_inTree0 a_releaseOf a_dueOf a_jobOf a_machineOf a_durationOf a_entryA a_entryB a_noted wf wt a_lo0 a_hi0 a_pred0 a_savedLo0 a_savedHi0 a_savedPred0 a_savedA0 a_savedB0 a_raised0 a_cut0 a_place0 a_sum0 a_ect0 N' (nI e)) := by
          intro N'
          induction N' with
          | zero => intro e _ h1 h2; omega
          | succ N' ihe =>
            intro e h1 h2 h3 hun
            by_cases w : e = 60
            · subst w
              exact br_t (nI_le (a := 60) (b := 60) (by omega) (by omega)) (scan 60 h1 h2 hun (Or.inl rfl))
            · refine br_f (nI_ge (b := 60) (by omega) (by omega)) (br_c (fun q => nm_r (nI_1 e) (ihe (e + 1) (by omega) (by omega) (by omega) (fun x hx hx2 => ?_))) (fun q => scan e h1 h2 hun (Or.inr (ts_nf fun y => q ((jk_test fd (by omega)).mpr y)))))
              by_cases u : x = e
              · subst u; exact (jk_test fd (by omega)).mp q
              · exact hun x hx (by omega)
        exact ⟨61, inner 61 t (by omega) (by omega) (by omega) (fun x hx hx2 => by omega)⟩
  have un0 : jk_un 0 ≤ 60 := by
    have := js_s_bd (n := 60) (c := 1) (f := fun i => if jk_b 0 i = true then 0 else 1) (fun a _ => by split <;> omega)
    exact this
  exact ⟨121, key 121 0 0 0 a_wantFrom a_wantTo f_moved f_failed f_level f_pickA f_pickB f_inTree a_lo a_hi a_pred a_savedLo a_savedHi a_savedPred a_savedA a_savedB a_raised a_cut a_place a_sum a_ect (fun o ho _ => hw o ho) (by omega) (by omega) (by omega) (fun x _ q => by rw [jk_0] at q; exact absurd q (by decide)) (fun x hx => by omega)⟩
end
end
section
/-! X: the loops of solve and fits -/
section
variable {f_machines f_firstHorizon f_horizon f_jobs f_recorded f_wantA f_wantB f_moved f_failed f_level f_pickA f_pickB f_inTree : Int32} {a_releaseOf a_dueOf a_jobOf a_machineOf a_durationOf a_entryA a_entryB a_noted a_wantFrom a_wantTo a_lo a_hi a_pred a_savedLo a_savedHi a_savedPred a_savedA a_savedB a_raised a_cut a_place a_sum a_ect : Nat → Int32}
theorem jx_solveL {post : Int32 → SX → Prop} {n dp c : Nat} (V : jf_V n dp a_machineOf a_durationOf a_releaseOf a_dueOf a_jobOf a_entryA a_entryB) (hc : c ≤ 60) (eW : f_wantA = -5) (hw : ∀ o, o < n → a_wantFrom o = 0 ∧ a_wantTo o = 60)
    (h : ∀ no wt (f_moved1 f_failed1 f_level1 f_pickA1 f_pickB1 f_inTree1 : Int32) (a_lo1 a_hi1 a_pred1 a_savedLo1 a_savedHi1 a_savedPred1 a_savedA1 a_savedB1 a_raised1 a_cut1 a_place1 a_sum1 a_ect1 : Nat → Int32), (∀ B : Nat → Int32, jf_F n dp a_machineOf a_durationOf a_releaseOf a_dueOf a_jobOf a_entryA a_entryB (c : Int) (fun o => (B o).toInt) → (∀ s, jf_F n dp a_machineOf a_durationOf a_releaseOf a_dueOf a_jobOf a_entryA a_entryB (c : Int) s → jy_lx n (fun o => (B o).toInt) s) → ∀ p, p < n → no p = B p) → post (nI c) (f_machines, f_firstHorizon, f_horizon, f_jobs, nI n, nI dp, f_recorded, f_wantA, f_wantB, f_moved1, f_failed1, f_level1, f_pickA1, f_pickB1, f_inTree1, a_releaseOf, a_dueOf, a_jobOf, a_machineOf, a_durationOf, a_entryA, a_entryB, no, a_wantFrom, wt, a_lo1, a_hi1, a_pred1, a_savedLo1, a_savedHi1, a_savedPred1, a_savedA1, a_savedB1, a_raised1, a_cut1, a_place1, a_sum1, a_ect1)) :
    ∃ n21 : Nat, (wX_solve_21 post (nI c) n21 0 f_machines f_firstHorizon f_horizon f_jobs (nI n) (nI dp) f_recorded f_wantA f_wantB f_moved f_failed f_level f_pickA f_pickB f_inTree a_releaseOf a_dueOf a_jobOf a_machineOf a_durationOf a_entryA a_entryB a_noted a_wantFrom a_wantTo a_lo a_hi a_pred a_savedLo a_savedHi a_savedPred a_savedA a_savedB a_raised a_cut a_place a_sum a_ect) := by
  have hn := V.1
  have ec : (nI c).toInt = (c : Int) := nI_toInt (by omega)
  have Fr : ∀ s, jf_F n dp a_machineOf a_durationOf a_releaseOf a_dueOf a_jobOf a_entryA a_entryB (c : Int) s → ∀ a, a < n → 0 ≤ s a ∧ s a < 60 := fun s q a ha => by
    have q1 := q.1 a ha
    have q2 := V.2.2.2.2.2.1 a ha
    have q3 := V.2.2.1 a ha
    omega
  have key : ∀ (N i : Nat) (no wt : Nat → Int32) (f_moved0 f_failed0 f_level0 f_pickA0 f_pickB0 f_inTree0 : Int32) (a_lo0 a_hi0 a_pred0 a_savedLo0 a_savedHi0 a_savedPred0 a_savedA0 a_savedB0 a_raised0 a_cut0 a_place0 a_sum0 a_ect0 : Nat → Int32), i ≤ n → n < N + i →
      (∀ B : Nat → Int32, jf_F n dp a_machineOf a_durationOf a_releaseOf a_dueOf a_jobOf a_entryA a_entryB (c : Int) (fun o => (B o).toInt) → (∀ s, jf_F n dp a_machineOf a_durationOf a_releaseOf a_dueOf a_jobOf a_entryA a_entryB (c : Int) s → jy_lx n (fun o => (B o).toInt) s) → ∀ p, p < i → no p = B p ∧ wt p = B p) →
      (∀ p, p < i → -4 ≤ (wt p).toInt ∧ (wt p).toInt ≤ 59) → (∀ p, p < n → i ≤ p → wt p = 60) →
      (wX_solve_21 post (nI c) N (nI i) f_machines f_firstHorizon f_horizon f_jobs (nI n) (nI dp) f_recorded f_wantA f_wantB f_moved0 f_failed0 f_level0 f_pickA0 f_pickB0 f_inTree0 a_releaseOf a_dueOf a_jobOf a_machineOf a_durationOf a_entryA a_entryB no a_wantFrom wt a_lo0 a_hi0 a_pred0 a_savedLo0 a_savedHi0 a_savedPred0 a_savedA0 a_savedB0 a_raised0 a_cut0 a_place0 a_sum0 a_ect0) := by
    intro N
    induction N with
    | zero => intro i no wt f_moved0 f_failed0 f_level0 f_pickA0 f_pickB0 f_inTree0 a_lo0 a_hi0 a_pred0 a_savedLo0 a_savedHi0 a_savedPred0 a_savedA0 a_savedB0 a_raised0 a_cut0 a_place0 a_sum0 a_ect0 h1 h2; omega
    | succ N ih =>
      intro i no wt f_moved0 f_failed0 f_level0 f_pickA0 f_pickB0 f_inTree0 a_lo0 a_hi0 a_pred0 a_savedLo0 a_savedHi0 a_savedPred0 a_savedA0 a_savedB0 a_raised0 a_cut0 a_place0 a_sum0 a_ect0 h1 h2 hno hrg hwt
      by_cases z : i = n
      · subst z
        exact br_t (nI_le (Nat.le_refl _) (by omega)) (h no wt f_moved0 f_failed0 f_level0 f_pickA0 f_pickB0 f_inTree0 a_lo0 a_hi0 a_pred0 a_savedLo0 a_savedHi0 a_savedPred0 a_savedA0 a_savedB0 a_raised0 a_cut0 a_place0 a_sum0 a_ect0 (fun B hB hlx p hp => (hno B hB hlx p hp).1))
      · have hi : i < n := by omega
        have hft : ∀ a, a < n → (-1000 ≤ (a_wantFrom a).toInt ∧ (a_wantFrom a).toInt ≤ 1000) ∧ -1000 ≤ (wt a).toInt ∧ (wt a).toInt ≤ 1000 := fun a ha => by
          rw [(hw a ha).1, ja_0]
          by_cases w : a < i
          · have := hrg a w; omega
          · rw [hwt a ha (by omega), ja_60]; omega
        refine br_f (nI_ge hi (by omega)) (jx_leastStart V hi hft (Or.inl eW) (fun r wt2 f_moved2 f_failed2 f_level2 f_pickA2 f_pickB2 f_inTree2 a_lo2 a_hi2 a_pred2 a_savedLo2 a_savedHi2 a_savedPred2 a_savedA2 a_savedB2 a_raised2 a_cut2 a_place2 a_sum2 a_ect2 e1 e2 O => ?_))
        have er : ∀ B : Nat → Int32, jf_F n dp a_machineOf a_durationOf a_releaseOf a_dueOf a_jobOf a_entryA a_entryB (c : Int) (fun o => (B o).toInt) → (∀ s, jf_F n dp a_machineOf a_durationOf a_releaseOf a_dueOf a_jobOf a_entryA a_entryB (c : Int) s → jy_lx n (fun o => (B o).toInt) s) → r = B i := by
          intro B hB hlx
          have hno := hno B hB hlx
          have Seq : ∀ s, jf_S n dp a_machineOf a_durationOf a_releaseOf a_dueOf a_jobOf a_entryA a_entryB f_wantA f_wantB a_wantFrom wt (nI c).toInt s ↔ (jf_F n dp a_machineOf a_durationOf a_releaseOf a_dueOf a_jobOf a_entryA a_entryB (c : Int) s ∧ ∀ p, p < i → s p ≤ (B p).toInt) := by
            intro s
            rw [ec]
            constructor
            · rintro ⟨q1, q2, _⟩
              refine ⟨q1, fun p hp => ?_⟩
              have := (q2 p (by omega)).2
              rw [(hno p hp).2] at this; exact this
            · rintro ⟨q1, q2⟩
              refine ⟨q1, fun a ha => ?_, fun a b ha _ e1 _ => absurd (e1.symm.trans eW) (jf_n5 a (by omega))⟩
              have := Fr s q1 a ha
              rw [(hw a ha).1, ja_0]
              refine ⟨this.1, ?_⟩
              by_cases w : a < i
              · rw [(hno a w).2]; exact q2 a w
              · rw [hwt a ha (by omega), ja_60]; omega
          have BS := (Seq (fun o => (B o).toInt)).mpr ⟨hB, fun p hp => Int.le_refl _⟩
          rcases O with ⟨_, q⟩ | ⟨q1, ⟨s0, q2, q3⟩, q4⟩
          · exact absurd ⟨_, BS⟩ q
          · apply ja_eq.mpr
            have a1 : r.toInt ≤ (B i).toInt := q4 _ BS
            obtain ⟨f0, f1⟩ := (Seq s0).mp q2
            rcases hlx s0 f0 with u | ⟨o, ho, u1, u2⟩
            · have u : ∀ o, o < n → (B o).toInt = s0 o := u
              rw [u i hi, q3]
            · have u1 : ∀ p, p < o → (B p).toInt = s0 p := u1
              have u2 : (B o).toInt < s0 o := u2
              rcases Nat.lt_trichotomy o i with v | v | v
              · have := f1 o v; omega
              · subst v; omega
              · rw [u1 i v, q3]
        have vi : vp_in (nI i) 8 := vp_in_nI (by omega) (by omega)
        have ci : (nI i).toNatClampNeg = i := nI_clamp (by omega)
        refine And.intro vi ?_
        rw [ci]
        refine nm_e (nm_r (nI_1 i) (ih (i + 1) _ wt2 f_moved2 f_failed2 f_level2 f_pickA2 f_pickB2 f_inTree2 a_lo2 a_hi2 a_pred2 a_savedLo2 a_savedHi2 a_savedPred2 a_savedA2 a_savedB2 a_raised2 a_cut2 a_place2 a_sum2 a_ect2 (by omega) (by omega) (fun B hB hlx p hp => ?_) (fun p hp => ?_) (fun p hp hpi => ?_)))
        · by_cases w : p = i
          · subst w; rw [pk_us, e2]; exact ⟨er B hB hlx, er B hB hlx⟩
          · rw [pk_un w, e1 p w]; exact hno B hB hlx p (by omega)
        · by_cases w : p = i
          · subst w
            rw [e2]
            rcases O with ⟨q, _⟩ | ⟨q, _⟩
            · rw [q, ja_m4]; omega
            · omega
          · rw [e1 p w]; exact hrg p (by omega)
        · rw [e1 p (by omega)]; exact hwt p hp (by omega)
  exact ⟨n + 1, key (n + 1) 0 a_noted a_wantTo f_moved f_failed f_level f_pickA f_pickB f_inTree a_lo a_hi a_pred a_savedLo a_savedHi a_savedPred a_savedA a_savedB a_raised a_cut a_place a_sum a_ect (by omega) (by omega) (fun B _ _ p hp => by omega) (fun p hp => by omega) (fun p hp _ => (hw p hp).2)⟩
theorem jx_fitsL {post : Int32 → SX → Prop} {n dp : Nat} (V : jf_V n dp a_machineOf a_durationOf a_releaseOf a_dueOf a_jobOf a_entryA a_entryB) (eW : f_wantA = -5) (hno : ∀ o, o < n → 0 ≤ (a_noted o).toInt ∧ (a_noted o).toInt ≤ 59)
    (h : ∀ r wf wt (f_moved1 f_failed1 f_level1 f_pickA1 f_pickB1 f_inTree1 : Int32) (a_lo1 a_hi1 a_pred1 a_savedLo1 a_savedHi1 a_savedPred1 a_savedA1 a_savedB1 a_raised1 a_cut1 a_place1 a_sum1 a_ect1 : Nat → Int32), ((r = 1 ∧ jf_F n dp a_machineOf a_durationOf a_releaseOf a_dueOf a_jobOf a_entryA a_entryB f_horizon.toInt (fun o => (a_noted o).toInt)) ∨ (r = 0 ∧ ¬ jf_F n dp a_machineOf a_durationOf a_releaseOf a_dueOf a_jobOf a_entryA a_entryB f_horizon.toInt (fun o => (a_noted o).toInt))) →
      post r (f_machines, f_firstHorizon, f_horizon, f_jobs, nI n, nI dp, f_recorded, f_wantA, f_wantB, f_moved1, f_failed1, f_level1, f_pickA1, f_pickB1, f_inTree1, a_releaseOf, a_dueOf, a_jobOf, a_machineOf, a_durationOf, a_entryA, a_entryB, a_noted, wf, wt, a_lo1, a_hi1, a_pred1, a_savedLo1, a_savedHi1, a_savedPred1, a_savedA1, a_savedB1, a_raised1, a_cut1, a_place1, a_sum1, a_ect1)) :
    ∃ n20 : Nat, (wX_fits_20 post f_machines f_firstHorizon f_horizon f_jobs (nI n) (nI dp) f_recorded f_wantA f_wantB f_moved f_failed f_level f_pickA f_pickB f_inTree n20 0 a_releaseOf a_dueOf a_jobOf a_machineOf a_durationOf a_entryA a_entryB a_noted a_wantFrom a_wantTo a_lo a_hi a_pred a_savedLo a_savedHi a_savedPred a_savedA a_savedB a_raised a_cut a_place a_sum a_ect) := by
  have hn := V.1
  refine loop_0 (σ := (Nat → Int32) × (Nat → Int32)) (fun m i s => (wX_fits_20 post f_machines f_firstHorizon f_horizon f_jobs (nI n) (nI dp) f_recorded f_wantA f_wantB f_moved f_failed f_level f_pickA f_pickB f_inTree m (nI i) a_releaseOf a_dueOf a_jobOf a_machineOf a_durationOf a_entryA a_entryB a_noted s.1 s.2 a_lo a_hi a_pred a_savedLo a_savedHi a_savedPred a_savedA a_savedB a_raised a_cut a_place a_sum a_ect))
    (fun i s => ∀ o, o < i → s.1 o = a_noted o ∧ s.2 o = a_noted o) n (a_wantFrom, a_wantTo) (fun o ho => by omega) ?_ ?_
  · rintro m ⟨wf, wt⟩ I
    have I : ∀ o, o < n → wf o = a_noted o ∧ wt o = a_noted o := I
    show (wX_fits_20 post f_machines f_firstHorizon f_horizon f_jobs (nI n) (nI dp) f_recorded f_wantA f_wantB f_moved f_failed f_level f_pickA f_pickB f_inTree (m + 1) (nI n) a_releaseOf a_dueOf a_jobOf a_machineOf a_durationOf a_entryA a_entryB a_noted wf wt a_lo a_hi a_pred a_savedLo a_savedHi a_savedPred a_savedA a_savedB a_raised a_cut a_place a_sum a_ect)
    have Seq : ∀ s, jf_S n dp a_machineOf a_durationOf a_releaseOf a_dueOf a_jobOf a_entryA a_entryB f_wantA f_wantB wf wt f_horizon.toInt s ↔ (jf_F n dp a_machineOf a_durationOf a_releaseOf a_dueOf a_jobOf a_entryA a_entryB f_horizon.toInt s ∧ ∀ p, p < n → s p = (a_noted p).toInt) := by
      intro s
      constructor
      · rintro ⟨q1, q2, _⟩
        refine ⟨q1, fun p hp => ?_⟩
        have := q2 p hp
        rw [(I p hp).1, (I p hp).2] at this; omega
      · rintro ⟨q1, q2⟩
        refine ⟨q1, fun a ha => ?_, fun a b ha _ e1 _ => absurd (e1.symm.trans eW) (jf_n5 a (by omega))⟩
        have := q2 a ha
        rw [(I a ha).1, (I a ha).2]; omega
    have hft : ∀ a, a < n → (-1000 ≤ (wf a).toInt ∧ (wf a).toInt ≤ 1000) ∧ -1000 ≤ (wt a).toInt ∧ (wt a).toInt ≤ 1000 := fun a ha => by
      have := hno a ha
      rw [(I a ha).1, (I a ha).2]; omega
    refine br_t (nI_le (Nat.le_refl _) (by omega)) (jx_search V hft (Or.inl eW) (fun r f_moved2 f_failed2 f_level2 f_pickA2 f_pickB2 f_inTree2 a_lo2 a_hi2 a_pred2 a_savedLo2 a_savedHi2 a_savedPred2 a_savedA2 a_savedB2 a_raised2 a_cut2 a_place2 a_sum2 a_ect2 O => ?_))
    rcases jn_O_r O with ⟨e1, e2⟩ | ⟨e1, s, e2⟩
    · subst e1
      exact br_t rfl (h 0 wf wt f_moved2 f_failed2 f_level2 f_pickA2 f_pickB2 f_inTree2 a_lo2 a_hi2 a_pred2 a_savedLo2 a_savedHi2 a_savedPred2 a_savedA2 a_savedB2 a_raised2 a_cut2 a_place2 a_sum2 a_ect2 (Or.inr ⟨rfl, fun q => e2 ⟨_, (Seq _).mpr ⟨q, fun _ _ => rfl⟩⟩⟩))
    · subst e1
      obtain ⟨f1, f2⟩ := (Seq s).mp e2
      exact br_f ja_10 (h 1 wf wt f_moved2 f_failed2 f_level2 f_pickA2 f_pickB2 f_inTree2 a_lo2 a_hi2 a_pred2 a_savedLo2 a_savedHi2 a_savedPred2 a_savedA2 a_savedB2 a_raised2 a_cut2 a_place2 a_sum2 a_ect2 (Or.inl ⟨rfl, jf_F_cg (fun o ho => (f2 o ho).symm) f1⟩))
  · rintro m i ⟨wf, wt⟩ hi I K
    have vi : vp_in (nI i) 8 := vp_in_nI (by omega) (by omega)
    have ci : (nI i).toNatClampNeg = i := nI_clamp (by omega)
    refine br_f (nI_ge hi (by omega)) (And.intro vi (And.intro vi ?_))
    rw [ci]
    refine nm_e (And.intro vi (nm_e (nm_r (nI_1 i) (K (upd wf i (a_noted i), upd wt i (a_noted i)) fun o ho => ?_))))
    show upd wf i (a_noted i) o = a_noted o ∧ upd wt i (a_noted i) o = a_noted o
    by_cases w : o = i
    · subst w; exact ⟨pk_us, pk_us⟩
    · rw [pk_un w, pk_un w]; exact I o (by omega)
end
/-! Y: feasible, the scans of a mask -/
theorem jk_test2 (x : Int64) {k : Nat} (hk : k < 64) : (x &&& ((1 : Int64) <<< ((nI k).toInt64 &&& 63))) = 0 ↔ jk_b x k = false := by
  have e : (1 : Int64) <<< ((nI k).toInt64 &&& 63) = lN (2 ^ k) := by rw [show (1 : Int64) = lN 1 from rfl, wb_shl 1 hk, Nat.one_mul]
  have b : ∀ i, i < 64 → jk_b (lN (2 ^ k)) i = decide (k = i) := fun i hi => by rw [jk_lN _ hi, Nat.testBit_two_pow]
  rw [e]
  constructor
  · intro h
    have q : jk_b (x &&& lN (2 ^ k)) k = false := by rw [h]; exact jk_0 k
    rw [jk_and, b k hk, decide_eq_true rfl, Bool.and_true] at q
    exact q
  · intro h
    apply jk_ext
    intro i hi
    rw [jk_0, jk_and, b i hi]
    by_cases z : k = i
    · subst z; rw [h]; rfl
    · rw [decide_eq_false z, Bool.and_false]
/-- the least and the greatest start -/
def jz_lo (Fe : (Nat → Int) → Prop) (op : Nat) (r : Int32) : Prop := (r = -4 ∧ ¬ ∃ s, Fe s) ∨ ((0 ≤ r.toInt ∧ r.toInt ≤ 59) ∧ (∃ s, Fe s ∧ s op = r.toInt) ∧ ∀ s, Fe s → r.toInt ≤ s op)
def jz_hi (Fe : (Nat → Int) → Prop) (op : Nat) (r : Int32) : Prop := (r = -4 ∧ ¬ ∃ s, Fe s) ∨ ((0 ≤ r.toInt ∧ r.toInt ≤ 59) ∧ (∃ s, Fe s ∧ s op = r.toInt) ∧ ∀ s, Fe s → s op ≤ r.toInt)
theorem jz_lo_u {Fe : (Nat → Int) → Prop} {op : Nat} {r r' : Int32} (h : jz_lo Fe op r) (h' : jz_lo Fe op r') : r' = r := by
  rcases h with ⟨a, b⟩ | ⟨_, ⟨s, b1, b2⟩, c⟩
  · rcases h' with ⟨a', _⟩ | ⟨_, ⟨s, b1, _⟩, _⟩
    · rw [a, a']
    · exact absurd ⟨s, b1⟩ b
  · rcases h' with ⟨_, b'⟩ | ⟨_, ⟨s', b1', b2'⟩, c'⟩
    · exact absurd ⟨s, b1⟩ b'
    · apply ja_eq.mpr
      have := c s' b1'
      have := c' s b1
      omega
theorem jz_hi_u {Fe : (Nat → Int) → Prop} {op : Nat} {r r' : Int32} (h : jz_hi Fe op r) (h' : jz_hi Fe op r') : r' = r := by
  rcases h with ⟨a, b⟩ | ⟨_, ⟨s, b1, b2⟩, c⟩
  · rcases h' with ⟨a', _⟩ | ⟨_, ⟨s, b1, _⟩, _⟩
    · rw [a, a']
    · exact absurd ⟨s, b1⟩ b
  · rcases h' with ⟨_, b'⟩ | ⟨_, ⟨s', b1', b2'⟩, c'⟩
    · exact absurd ⟨s, b1⟩ b'
    · apply ja_eq.mpr
      have := c s' b1'
      have := c' s b1
      omega
section
variable {f_machineCount f_top f_horizon f_depth f_jobs f_ops f_recorded f_known f_alive f_least : Int32} {a_releaseOf a_dueOf a_jobOf a_machineOf a_length a_trailA a_trailB a_recordedStart a_best a_before a_list a_turnOf a_line a_trial a_late a_taken a_jobEdge a_machineEdge : Nat → Int32} {a_mask : Nat → Int64}
theorem jy_earliestL {post : Int32 → SY → Prop} {Fe : (Nat → Int) → Prop} {op : Nat} {x : Int64} (hb : ∀ t, t < 64 → (jk_b x t = true ↔ ∃ s, Fe s ∧ s op = (t : Int))) (hr : ∀ s, Fe s → 0 ≤ s op ∧ s op < 60)
    (h : ∀ r, jz_lo Fe op r → post r (f_machineCount, f_top, f_horizon, f_depth, f_jobs, f_ops, f_recorded, f_known, f_alive, f_least, a_releaseOf, a_dueOf, a_jobOf, a_machineOf, a_length, a_trailA, a_trailB, a_recordedStart, a_best, a_mask, a_before, a_list, a_turnOf, a_line, a_trial, a_late, a_taken, a_jobEdge, a_machineEdge)) : ∃ n19 : Nat, (wY_earliest_19 post x f_machineCount f_top f_horizon f_depth f_jobs f_ops f_recorded f_known f_alive f_least a_releaseOf a_dueOf a_jobOf a_machineOf a_length a_trailA a_trailB a_recordedStart a_best a_mask a_before a_list a_turnOf a_line a_trial a_late a_taken a_jobEdge a_machineEdge n19 0) := by
  refine loop_0 (σ := Unit) (fun m i _ => (wY_earliest_19 post x f_machineCount f_top f_horizon f_depth f_jobs f_ops f_recorded f_known f_alive f_least a_releaseOf a_dueOf a_jobOf a_machineOf a_length a_trailA a_trailB a_recordedStart a_best a_mask a_before a_list a_turnOf a_line a_trial a_late a_taken a_jobEdge a_machineEdge m (nI i))) (fun i _ => ∀ t, t < i → jk_b x t = false) 60 () (fun t ht => by omega) ?_ ?_
  · intro m _ I
    refine br_t (nI_le (a := 60) (b := 60) (by omega) (by omega)) (h (-4) (Or.inl ⟨rfl, fun ⟨s, q⟩ => ?_⟩))
    have r := hr s q
    have := (hb (s op).toNat (by omega)).mpr ⟨s, q, by omega⟩
    rw [I _ (by omega)] at this
    exact absurd this (by decide)
  · intro m i _ hi I K
    refine br_f (nI_ge (a := i) (b := 60) hi (by omega)) (br_c (fun z => nm_r (nI_1 i) (K () (lt_s I ((jk_test2 x (by omega)).mp z)))) (fun z => h (nI i) (Or.inr ?_)))
    have b := ts_nf fun y => z ((jk_test2 x (by omega)).mpr y)
    rw [nI_toInt (by omega)]
    refine ⟨by omega, (hb i (by omega)).mp b, fun s q => ?_⟩
    apply Classical.byContradiction
    intro w
    have r := hr s q
    have := (hb (s op).toNat (by omega)).mpr ⟨s, q, by omega⟩
    rw [I _ (by omega)] at this
    exact absurd this (by decide)
theorem jy_latestL {post : Int32 → SY → Prop} {Fe : (Nat → Int) → Prop} {op : Nat} {x : Int64} (hb : ∀ t, t < 64 → (jk_b x t = true ↔ ∃ s, Fe s ∧ s op = (t : Int))) (hr : ∀ s, Fe s → 0 ≤ s op ∧ s op < 60)
    (h : ∀ r, jz_hi Fe op r → post r (f_machineCount, f_top, f_horizon, f_depth, f_jobs, f_ops, f_recorded, f_known, f_alive, f_least, a_releaseOf, a_dueOf, a_jobOf, a_machineOf, a_length, a_trailA, a_trailB, a_recordedStart, a_best, a_mask, a_before, a_list, a_turnOf, a_line, a_trial, a_late, a_taken, a_jobEdge, a_machineEdge)) : ∃ n20 : Nat, (wY_latest_20 post x f_machineCount f_top f_horizon f_depth f_jobs f_ops f_recorded f_known f_alive f_least a_releaseOf a_dueOf a_jobOf a_machineOf a_length a_trailA a_trailB a_recordedStart a_best a_mask a_before a_list a_turnOf a_line a_trial a_late a_taken a_jobEdge a_machineEdge n20 59) := by
  have key : ∀ k, k ≤ 60 → (∀ t, k ≤ t → t < 60 → jk_b x t = false) → (wY_latest_20 post x f_machineCount f_top f_horizon f_depth f_jobs f_ops f_recorded f_known f_alive f_least a_releaseOf a_dueOf a_jobOf a_machineOf a_length a_trailA a_trailB a_recordedStart a_best a_mask a_before a_list a_turnOf a_line a_trial a_late a_taken a_jobEdge a_machineEdge (k + 1) (nI k - 1)) := by
    intro k
    induction k with
    | zero =>
      intro _ I
      refine br_t (by decide) (h (-4) (Or.inl ⟨rfl, fun ⟨s, q⟩ => ?_⟩))
      have r := hr s q
      have := (hb (s op).toNat (by omega)).mpr ⟨s, q, by omega⟩
      rw [I _ (by omega) (by omega)] at this
      exact absurd this (by decide)
    | succ k ih =>
      intro hk I
      rw [nI_pred]
      have e9 : nI k + (-1) = nI k - 1 := (Int32.sub_eq_add_neg _ _).symm
      refine br_f (nI_pos (by omega)) (br_c (fun z => nm_r e9 (ih (by omega) (fun t h1 h2 => ?_))) (fun z => h (nI k) (Or.inr ?_)))
      · by_cases w : t = k
        · subst w; exact (jk_test2 x (by omega)).mp z
        · exact I t (by omega) h2
      · have b := ts_nf fun y => z ((jk_test2 x (by omega)).mpr y)
        rw [nI_toInt (by omega)]
        refine ⟨by omega, (hb k (by omega)).mp b, fun s q => ?_⟩
        apply Classical.byContradiction
        intro w
        have r := hr s q
        have := (hb (s op).toNat (by omega)).mpr ⟨s, q, by omega⟩
        rw [I _ (by omega) (by omega)] at this
        exact absurd this (by decide)
  exact ⟨61, key 60 (by omega) (fun t h1 h2 => by omega)⟩
end
section
variable {f_machineCount f_top f_horizon f_jobs f_recorded f_known f_alive f_least : Int32} {a_releaseOf a_dueOf a_jobOf a_machineOf a_length a_trailA a_trailB a_recordedStart a_best a_before a_list a_turnOf a_line a_trial a_late a_taken a_jobEdge a_machineEdge : Nat → Int32} {a_mask : Nat → Int64}
theorem jy_feasible {post : Int32 → Prop} {n dp : Nat} (V : jf_V n dp a_machineOf a_length a_releaseOf a_dueOf a_jobOf a_trailA a_trailB) (hr : ∀ o, o < n → 0 ≤ (a_trial o).toInt ∧ (a_trial o).toInt ≤ 59)
    (h1 : jf_F n dp a_machineOf a_length a_releaseOf a_dueOf a_jobOf a_trailA a_trailB f_horizon.toInt (fun o => (a_trial o).toInt) → post 1)
    (h0 : ¬ jf_F n dp a_machineOf a_length a_releaseOf a_dueOf a_jobOf a_trailA a_trailB f_horizon.toInt (fun o => (a_trial o).toInt) → post 0) : (wpY_feasible post (f_machineCount, f_top, f_horizon, nI dp, f_jobs, nI n, f_recorded, f_known, f_alive, f_least, a_releaseOf, a_dueOf, a_jobOf, a_machineOf, a_length, a_trailA, a_trailB, a_recordedStart, a_best, a_mask, a_before, a_list, a_turnOf, a_line, a_trial, a_late, a_taken, a_jobEdge, a_machineEdge)) := by
  have V' := V
  obtain ⟨hn, hdp, hd, hj, hm, hrr, ht⟩ := V'
  have tadd : ∀ a b, a < n → b < n → (a_trial a + a_length a ≤ a_trial b ↔ (a_trial a).toInt + (a_length a).toInt ≤ (a_trial b).toInt) := fun a b ha hb => by
    have := hr a ha
    have := hd a ha
    rw [ja_le, ja_add (by omega) (by omega)]
  show ∃ n2 : Nat, (wY_feasible_2 post f_machineCount f_top f_horizon (nI dp) f_jobs (nI n) f_recorded f_known f_alive f_least a_releaseOf a_dueOf a_jobOf a_machineOf a_length a_trailA a_trailB a_recordedStart a_best a_mask a_before a_list a_turnOf a_line a_trial a_late a_taken a_jobEdge a_machineEdge n2 0)
  refine loop_0 (σ := Unit) (fun m b _ => (wY_feasible_2 post f_machineCount f_top f_horizon (nI dp) f_jobs (nI n) f_recorded f_known f_alive f_least a_releaseOf a_dueOf a_jobOf a_machineOf a_length a_trailA a_trailB a_recordedStart a_best a_mask a_before a_list a_turnOf a_line a_trial a_late a_taken a_jobEdge a_machineEdge m (nI b)))
    (fun i _ => ∀ b, b < i → ((a_releaseOf (a_jobOf b).toNatClampNeg).toInt ≤ (a_trial b).toInt ∧ (a_trial b).toInt + (a_length b).toInt ≤ (a_dueOf (a_jobOf b).toNatClampNeg).toInt ∧ (a_trial b).toInt + (a_length b).toInt ≤ f_horizon.toInt) ∧
      ∀ a, a < b → (a_jobOf a = a_jobOf b → a_trial a + a_length a ≤ a_trial b) ∧ (a_machineOf a = a_machineOf b → a_trial a + a_length a ≤ a_trial b ∨ a_trial b + a_length b ≤ a_trial a)) n () (fun b hb => by omega) ?_ ?_
  · intro m _ I
    have all : (∀ e, e < dp → ∀ a b, a < n → b < n → a_trailA e = nI a → a_trailB e = nI b → a_trial a + a_length a ≤ a_trial b) → jf_F n dp a_machineOf a_length a_releaseOf a_dueOf a_jobOf a_trailA a_trailB f_horizon.toInt (fun o => (a_trial o).toInt) := by
      intro q
      refine ⟨fun a ha => (I a ha).1, fun a b ha hb hlt e => (tadd a b ha hb).mp (((I b hb).2 a hlt).1 e), fun a b ha hb hne e => ?_, fun e he a b ha hb e1 e2 => (tadd a b ha hb).mp (q e he a b ha hb e1 e2)⟩
      rcases Nat.lt_or_gt_of_ne hne with u | u
      · rcases ((I b hb).2 a u).2 e with v | v
        · exact Or.inl ((tadd a b ha hb).mp v)
        · exact Or.inr ((tadd b a hb ha).mp v)
      · rcases ((I a ha).2 b u).2 e.symm with v | v
        · exact Or.inr ((tadd b a hb ha).mp v)
        · exact Or.inl ((tadd a b ha hb).mp v)
    refine br_t (nI_le (Nat.le_refl _) (by omega)) (jy_obeysTrail hn hdp ht (fun q => And.intro rfl (h1 (all q))) (fun q => And.intro rfl (h0 fun f => q fun e he a b ha hb e1 e2 => (tadd a b ha hb).mpr (f.2.2.2 e he a b ha hb e1 e2))))
  · intro m b _ hb I K
    have vb : vp_in (nI b) 8 := vp_in_nI (by omega) (by omega)
    have cb : (nI b).toNatClampNeg = b := nI_clamp (by omega)
    obtain ⟨j, hj4, ej⟩ := hj b hb
    have vj : vp_in (a_jobOf b) 4 := by rw [ej]; exact vp_in_nI hj4 (by omega)
    have rb := hr b hb
    have db := hd b hb
    have eb : (a_trial b + a_length b).toInt = (a_trial b).toInt + (a_length b).toInt := ja_add (by omega) (by omega)
    refine br_f (nI_ge hb (by omega)) (And.intro vb (And.intro vb ?_))
    rw [cb]
    refine nm_e (And.intro vb (And.intro vb (And.intro vj (br_c (fun z => h0 fun f => ?_) (fun z => And.intro vb (And.intro vj (br_c (fun y => h0 fun f => ?_) (fun y => br_c (fun w => ?_) (fun w => h0 fun f => ?_)))))))))
    · have := (f.1 b hb).1
      have z := ja_lt.mp z
      exact absurd this (Int.not_le.mpr z)
    · have := (f.1 b hb).2.1
      have y := ja_lt.mp y
      rw [eb] at y
      exact absurd this (Int.not_le.mpr y)
    · have p1 : (a_releaseOf (a_jobOf b).toNatClampNeg).toInt ≤ (a_trial b).toInt ∧ (a_trial b).toInt + (a_length b).toInt ≤ (a_dueOf (a_jobOf b).toNatClampNeg).toInt ∧ (a_trial b).toInt + (a_length b).toInt ≤ f_horizon.toInt := by
        have := mt ja_lt.mpr z
        have := mt ja_lt.mpr y
        have := ja_le.mp w
        omega
      refine loop_0 (σ := Unit) (fun m' a _ => (wY_feasible_71 post (wY_feasible_2 post f_machineCount f_top f_horizon (nI dp) f_jobs (nI n) f_recorded f_known f_alive f_least a_releaseOf a_dueOf a_jobOf a_machineOf a_length a_trailA a_trailB a_recordedStart a_best a_mask a_before a_list a_turnOf a_line a_trial a_late a_taken a_jobEdge a_machineEdge m) (nI b) f_machineCount f_top f_horizon (nI dp) f_jobs (nI n) f_recorded f_known f_alive f_least a_releaseOf a_dueOf a_jobOf a_machineOf a_length a_trailA a_trailB a_recordedStart a_best a_mask a_before a_list a_turnOf a_line a_trial a_late a_taken a_jobEdge a_machineEdge m' (nI a)))
        (fun i _ => ∀ a, a < i → (a_jobOf a = a_jobOf b → a_trial a + a_length a ≤ a_trial b) ∧ (a_machineOf a = a_machineOf b → a_trial a + a_length a ≤ a_trial b ∨ a_trial b + a_length b ≤ a_trial a)) b () (fun a ha => by omega) ?_ ?_
      · intro m' _ I'
        exact br_t (nI_le (Nat.le_refl _) (by omega)) (nm_r (nI_1 b) (K () (lt_s I ⟨p1, I'⟩)))
      · intro m' a _ ha I' K'
        have va : vp_in (nI a) 8 := vp_in_nI (by omega) (by omega)
        have ca : (nI a).toNatClampNeg = a := nI_clamp (by omega)
        have han : a < n := by omega
        have rest : (a_jobOf a = a_jobOf b → a_trial a + a_length a ≤ a_trial b) → (wY_feasible_102 post (wY_feasible_2 post f_machineCount f_top f_horizon (nI dp) f_jobs (nI n) f_recorded f_known f_alive f_least a_releaseOf a_dueOf a_jobOf a_machineOf a_length a_trailA a_trailB a_recordedStart a_best a_mask a_before a_list a_turnOf a_line a_trial a_late a_taken a_jobEdge a_machineEdge m) (wY_feasible_71 post (wY_feasible_2 post f_machineCount f_top f_horizon (nI dp) f_jobs (nI n) f_recorded f_known f_alive f_least a_releaseOf a_dueOf a_jobOf a_machineOf a_length a_trailA a_trailB a_recordedStart a_best a_mask a_before a_list a_turnOf a_line a_trial a_late a_taken a_jobEdge a_machineEdge m) (nI b) f_machineCount f_top f_horizon (nI dp) f_jobs (nI n) f_recorded f_known f_alive f_least a_releaseOf a_dueOf a_jobOf a_machineOf a_length a_trailA a_trailB a_recordedStart a_best a_mask a_before a_list a_turnOf a_line a_trial a_late a_taken a_jobEdge a_machineEdge m') (nI b) (nI a) f_machineCount f_top f_horizon (nI dp) f_jobs (nI n) f_recorded f_known f_alive f_least a_releaseOf a_dueOf a_jobOf a_machineOf a_length a_trailA a_trailB a_recordedStart a_best a_mask a_before a_list a_turnOf a_line a_trial a_late a_taken a_jobEdge a_machineEdge) := by
          intro hjob
          refine And.intro va (And.intro vb ?_)
          rw [ca, cb]
          refine br_c (fun hM => ?_) (fun hM => nm_r (nI_1 a) (K' () (lt_s I' ⟨hjob, fun e => absurd e hM⟩)))
          refine jy_done (by omega) (by omega) (fun u => br_f ja_10 (nm_r (nI_1 a) (K' () (lt_s I' ⟨hjob, fun _ => Or.inl u⟩)))) (fun u => br_t rfl ?_)
          refine jy_done (by omega) (by omega) (fun u' => br_f ja_10 (nm_r (nI_1 a) (K' () (lt_s I' ⟨hjob, fun _ => Or.inr u'⟩)))) (fun u' => br_t rfl (h0 fun f => ?_))
          rcases f.2.2.1 a b han hb (by omega) hM with q | q
          · exact u ((tadd a b han hb).mpr q)
          · exact u' ((tadd b a hb han).mpr q)
        refine br_f (nI_ge ha (by omega)) (And.intro va (And.intro vb ?_))
        rw [ca, cb]
        refine br_c (fun q => jy_done (by omega) (by omega) (fun u => br_f ja_10 (rest fun _ => u)) (fun u => br_t rfl (h0 fun f => u ((tadd a b han hb).mpr (f.2.1 a b han hb ha q))))) (fun q => rest fun e => absurd e q)
    · have := (f.1 b hb).2.2
      have w := mt ja_le.mpr w
      rw [eb] at w
      exact absurd this w
end
end
section
/-! the relation -/
def jr_C (mc fh hz J n dp : Nat) (rc : Int32) (rel due jobOf M d eA eB noted rs : Nat → Int32) (kn al le : Int32) (be : Nat → Int32) (ma : Nat → Int64) (bf : Nat → Int32) : Prop :=
  ((1 ≤ mc ∧ mc ≤ 4) ∧ (8 ≤ fh ∧ fh ≤ 60) ∧ hz ≤ 60 ∧ J ≤ 4 ∧ n ≤ 8 ∧ dp ≤ 12) ∧
  (∀ j, j < J → 0 ≤ (rel j).toInt ∧ (rel j).toInt + 1 ≤ (due j).toInt ∧ (due j).toInt ≤ 60) ∧
  (∀ o, o < n → (∃ j, j < J ∧ jobOf o = nI j) ∧ (∃ m, m < mc ∧ M o = nI m)) ∧ js_d n d ∧
  (∀ e, e < dp → (eA e = -5 ∧ ∃ q, q ≤ 60 ∧ eB e = nI q) ∨ ∃ a b, a < n ∧ b < n ∧ a ≠ b ∧ M a = M b ∧ eA e = nI a ∧ eB e = nI b) ∧
  (rc = 0 ∨ (rc = 1 ∧ ∀ o, o < n → rs o = noted o ∧ 0 ≤ (noted o).toInt ∧ (noted o).toInt ≤ 59)) ∧
  (kn = 0 ∨ (kn = 1 ∧ jr_K n M d (jf_F n dp M d rel due jobOf eA eB (hz : Int)) al le be ma bf))
theorem jr_V {mc fh hz J n dp : Nat} {rc : Int32} {rel due jobOf M d eA eB noted rs : Nat → Int32} {kn al le : Int32} {be : Nat → Int32} {ma : Nat → Int64} {bf : Nat → Int32} (C : jr_C mc fh hz J n dp rc rel due jobOf M d eA eB noted rs kn al le be ma bf) : jf_V n dp M d rel due jobOf eA eB := by
  obtain ⟨⟨c1, c2, c3, c4, c5, c6⟩, c7, c8, c9, c10, _, _⟩ := C
  refine ⟨c5, c6, c9, fun a ha => ?_, fun a ha => ?_, fun a ha => ?_, fun e he => ?_⟩
  · obtain ⟨⟨j, hj, e⟩, _⟩ := c8 a ha
    exact ⟨j, by omega, e⟩
  · obtain ⟨_, m, hm, e⟩ := c8 a ha
    exact ⟨m, by omega, e⟩
  · obtain ⟨⟨j, hj, e⟩, _⟩ := c8 a ha
    rw [e, nI_clamp (by omega)]
    have := c7 j hj
    omega
  · rcases c10 e he with q | q
    · exact Or.inl q.1
    · exact Or.inr q
/-- the relation -/
def i_Rel (k : Nat) (u : SX) (v : SY) : Prop := ∃ mc fh hz J n dp : Nat,
  (u.1 = nI mc ∧ u.2.1 = nI fh ∧ u.2.2.1 = nI hz ∧ u.2.2.2.1 = nI J ∧ u.2.2.2.2.1 = nI n ∧ u.2.2.2.2.2.1 = nI dp) ∧
  (v.1 = nI mc ∧ v.2.1 = nI fh ∧ v.2.2.1 = nI hz ∧ v.2.2.2.2.1 = nI J ∧ v.2.2.2.2.2.1 = nI n ∧ v.2.2.2.1 = nI dp ∧ v.2.2.2.2.2.2.1 = u.2.2.2.2.2.2.1) ∧
  (v.2.2.2.2.2.2.2.2.2.2.1 = u.2.2.2.2.2.2.2.2.2.2.2.2.2.2.2.1 ∧ v.2.2.2.2.2.2.2.2.2.2.2.1 = u.2.2.2.2.2.2.2.2.2.2.2.2.2.2.2.2.1 ∧ v.2.2.2.2.2.2.2.2.2.2.2.2.1 = u.2.2.2.2.2.2.2.2.2.2.2.2.2.2.2.2.2.1 ∧ v.2.2.2.2.2.2.2.2.2.2.2.2.2.1 = u.2.2.2.2.2.2.2.2.2.2.2.2.2.2.2.2.2.2.1 ∧ v.2.2.2.2.2.2.2.2.2.2.2.2.2.2.1 = u.2.2.2.2.2.2.2.2.2.2.2.2.2.2.2.2.2.2.2.1 ∧ v.2.2.2.2.2.2.2.2.2.2.2.2.2.2.2.1 = u.2.2.2.2.2.2.2.2.2.2.2.2.2.2.2.2.2.2.2.2.1 ∧ v.2.2.2.2.2.2.2.2.2.2.2.2.2.2.2.2.1 = u.2.2.2.2.2.2.2.2.2.2.2.2.2.2.2.2.2.2.2.2.2.1) ∧
  jr_C mc fh hz J n dp u.2.2.2.2.2.2.1 u.2.2.2.2.2.2.2.2.2.2.2.2.2.2.2.1 u.2.2.2.2.2.2.2.2.2.2.2.2.2.2.2.2.1 u.2.2.2.2.2.2.2.2.2.2.2.2.2.2.2.2.2.1 u.2.2.2.2.2.2.2.2.2.2.2.2.2.2.2.2.2.2.1 u.2.2.2.2.2.2.2.2.2.2.2.2.2.2.2.2.2.2.2.1 u.2.2.2.2.2.2.2.2.2.2.2.2.2.2.2.2.2.2.2.2.1 u.2.2.2.2.2.2.2.2.2.2.2.2.2.2.2.2.2.2.2.2.2.1 u.2.2.2.2.2.2.2.2.2.2.2.2.2.2.2.2.2.2.2.2.2.2.1 v.2.2.2.2.2.2.2.2.2.2.2.2.2.2.2.2.2.1 v.2.2.2.2.2.2.2.1 v.2.2.2.2.2.2.2.2.1 v.2.2.2.2.2.2.2.2.2.1 v.2.2.2.2.2.2.2.2.2.2.2.2.2.2.2.2.2.2.1 v.2.2.2.2.2.2.2.2.2.2.2.2.2.2.2.2.2.2.2.1 v.2.2.2.2.2.2.2.2.2.2.2.2.2.2.2.2.2.2.2.2.1
theorem i_up {k : Nat} {u : SX} {v : SY} (h : i_Rel k u v) : i_Rel (k + 4) u v := h
section
variable {mc fh hz J n dp : Nat} {f_recorded f_wantA f_wantB f_moved f_failed f_level f_pickA f_pickB f_inTree f_known f_alive f_least : Int32} {a_releaseOf a_dueOf a_jobOf a_machineOf a_durationOf a_entryA a_entryB a_noted a_wantFrom a_wantTo a_lo a_hi a_pred a_savedLo a_savedHi a_savedPred a_savedA a_savedB a_raised a_cut a_place a_sum a_ect a_recordedStart a_best a_before a_list a_turnOf a_line a_trial a_late a_taken a_jobEdge a_machineEdge : Nat → Int32} {a_mask : Nat → Int64}
theorem jz_in {k : Nat} (C : (jr_C mc fh hz J n dp f_recorded a_releaseOf a_dueOf a_jobOf a_machineOf a_durationOf a_entryA a_entryB a_noted a_recordedStart f_known f_alive f_least a_best a_mask a_before)) : i_Rel k (nI mc, nI fh, nI hz, nI J, nI n, nI dp, f_recorded, f_wantA, f_wantB, f_moved, f_failed, f_level, f_pickA, f_pickB, f_inTree, a_releaseOf, a_dueOf, a_jobOf, a_machineOf, a_durationOf, a_entryA, a_entryB, a_noted, a_wantFrom, a_wantTo, a_lo, a_hi, a_pred, a_savedLo, a_savedHi, a_savedPred, a_savedA, a_savedB, a_raised, a_cut, a_place, a_sum, a_ect) (nI mc, nI fh, nI hz, nI dp, nI J, nI n, f_recorded, f_known, f_alive, f_least, a_releaseOf, a_dueOf, a_jobOf, a_machineOf, a_durationOf, a_entryA, a_entryB, a_recordedStart, a_best, a_mask, a_before, a_list, a_turnOf, a_line, a_trial, a_late, a_taken, a_jobEdge, a_machineEdge) :=
  ⟨mc, fh, hz, J, n, dp, ⟨rfl, rfl, rfl, rfl, rfl, rfl⟩, ⟨rfl, rfl, rfl, rfl, rfl, rfl, rfl⟩, ⟨rfl, rfl, rfl, rfl, rfl, rfl, rfl⟩, C⟩
end
theorem jz_el {P : SX → SY → Prop} (h : ∀ (mc fh hz J n dp : Nat) (f_recorded f_wantA f_wantB f_moved f_failed f_level f_pickA f_pickB f_inTree f_known f_alive f_least : Int32) (a_releaseOf a_dueOf a_jobOf a_machineOf a_durationOf a_entryA a_entryB a_noted a_wantFrom a_wantTo a_lo a_hi a_pred a_savedLo a_savedHi a_savedPred a_savedA a_savedB a_raised a_cut a_place a_sum a_ect a_recordedStart a_best a_before a_list a_turnOf a_line a_trial a_late a_taken a_jobEdge a_machineEdge : Nat → Int32) (a_mask : Nat → Int64), (jr_C mc fh hz J n dp f_recorded a_releaseOf a_dueOf a_jobOf a_machineOf a_durationOf a_entryA a_entryB a_noted a_recordedStart f_known f_alive f_least a_best a_mask a_before) → P (nI mc, nI fh, nI hz, nI J, nI n, nI dp, f_recorded, f_wantA, f_wantB, f_moved, f_failed, f_level, f_pickA, f_pickB, f_inTree, a_releaseOf, a_dueOf, a_jobOf, a_machineOf, a_durationOf, a_entryA, a_entryB, a_noted, a_wantFrom, a_wantTo, a_lo, a_hi, a_pred, a_savedLo, a_savedHi, a_savedPred, a_savedA, a_savedB, a_raised, a_cut, a_place, a_sum, a_ect) (nI mc, nI fh, nI hz, nI dp, nI J, nI n, f_recorded, f_known, f_alive, f_least, a_releaseOf, a_dueOf, a_jobOf, a_machineOf, a_durationOf, a_entryA, a_entryB, a_recordedStart, a_best, a_mask, a_before, a_list, a_turnOf, a_line, a_trial, a_late, a_taken, a_jobEdge, a_machineEdge)) {k : Nat} {u : SX} {v : SY} (I : i_Rel k u v) : P u v := by
  obtain ⟨mc, fh, hz, J, n, dp, ⟨a1, a2, a3, a4, a5, a6⟩, ⟨b1, b2, b3, b4, b5, b6, b7⟩, ⟨c1, c2, c3, c4, c5, c6, c7⟩, C⟩ := I
  obtain ⟨x1, x2, x3, x4, x5, x6, x7, x8, x9, x10, x11, x12, x13, x14, x15, x16, x17, x18, x19, x20, x21, x22, x23, x24, x25, x26, x27, x28, x29, x30, x31, x32, x33, x34, x35, x36, x37, x38⟩ := u
  obtain ⟨y1, y2, y3, y4, y5, y6, y7, y8, y9, y10, y11, y12, y13, y14, y15, y16, y17, y18, y19, y20, y21, y22, y23, y24, y25, y26, y27, y28, y29⟩ := v
  dsimp only at a1 a2 a3 a4 a5 a6 b1 b2 b3 b4 b5 b6 b7 c1 c2 c3 c4 c5 c6 c7 C
  subst a1 a2 a3 a4 a5 a6 b1 b2 b3 b4 b5 b6 b7 c1 c2 c3 c4 c5 c6 c7
  exact h _ _ _ _ _ _ _ _ _ _ _ _ _ _ _ _ _ _ _ _ _ _ _ _ _ _ _ _ _ _ _ _ _ _ _ _ _ _ _ _ _ _ _ _ _ _ _ _ _ _ _ _ _ C
end
section
/-! the simple calls -/
theorem jz_lit {n : Nat} {x : Int32} (h : nI n < x) {m : Nat} (hx : x.toInt = m) (hn : n < 2 ^ 31) : n < m := by
  have := ja_lt.mp h
  rw [nI_toInt hn, hx] at this
  omega
theorem jz_ix {x : Int32} {n : Nat} (h0 : ¬ x < 0) (h1 : ¬ nI n ≤ x) (hn : n < 2 ^ 31) : ∃ j, j < n ∧ x = nI j := by
  obtain ⟨j, hj, rfl⟩ := nI_of h0
  exact ⟨j, by
    apply Classical.byContradiction
    intro z
    exact h1 (nI_le (by omega) hj), rfl⟩
theorem jz_ini (p0 : Int32) : ∃ mc : Nat, (1 ≤ mc ∧ mc ≤ 4) ∧ (∀ (post : SX → Prop) (p1 : Int32), (wX_init_209 post p1 (nI mc) 0 0 0 0 0 0 0 0 0 0 0 0 0 0 0 (fun _ => 0) (fun _ => 0) (fun _ => 0) (fun _ => 0) (fun _ => 0) (fun _ => 0) (fun _ => 0) (fun _ => 0) (fun _ => 0) (fun _ => 0) (fun _ => 0) (fun _ => 0) (fun _ => 0) (fun _ => 0) (fun _ => 0) (fun _ => 0) (fun _ => 0) (fun _ => 0) (fun _ => 0) (fun _ => 0) (fun _ => 0) (fun _ => 0) (fun _ => 0)) → wpX_init post p0 p1) ∧ (∀ (post : SY → Prop) (p1 : Int32), (wY_init_171 post p1 (nI mc) 0 0 0 0 0 0 0 0 0 0 (fun _ => 0) (fun _ => 0) (fun _ => 0) (fun _ => 0) (fun _ => 0) (fun _ => 0) (fun _ => 0) (fun _ => 0) (fun _ => 0) (fun _ => 0) (fun _ => 0) (fun _ => 0) (fun _ => 0) (fun _ => 0) (fun _ => 0) (fun _ => 0) (fun _ => 0) (fun _ => 0) (fun _ => 0)) → wpY_init post p0 p1) := by
  by_cases h1 : 1 ≤ p0
  · by_cases h2 : p0 ≤ 4
    · have a := ja_le.mp h1
      have b := ja_le.mp h2
      rw [ja_1] at a
      rw [show (4 : Int32).toInt = 4 from by decide] at b
      have e := jk_nI (x := p0) (by omega)
      refine ⟨p0.toInt.toNat, by omega, fun post p1 h => br_t h1 (br_t h2 ?_), fun post p1 h => br_t h1 (br_t h2 ?_)⟩
      · rw [← e] at h; exact h
      · rw [← e] at h; exact h
    · exact ⟨4, by omega, fun post p1 h => br_t h1 (br_f h2 h), fun post p1 h => br_t h1 (br_f h2 h)⟩
  · exact ⟨1, by omega, fun post p1 h => br_f h1 h, fun post p1 h => br_f h1 h⟩
theorem jz_ini2 (p1 : Int32) (mc : Nat) : ∃ fh : Nat, (8 ≤ fh ∧ fh ≤ 60) ∧ (∀ (post : SX → Prop), (wX_init_236 post (nI fh) (nI mc) 0 0 0 0 0 0 0 0 0 0 0 0 0 0 (fun _ => 0) (fun _ => 0) (fun _ => 0) (fun _ => 0) (fun _ => 0) (fun _ => 0) (fun _ => 0) (fun _ => 0) (fun _ => 0) (fun _ => 0) (fun _ => 0) (fun _ => 0) (fun _ => 0) (fun _ => 0) (fun _ => 0) (fun _ => 0) (fun _ => 0) (fun _ => 0) (fun _ => 0) (fun _ => 0) (fun _ => 0) (fun _ => 0) (fun _ => 0)) → (wX_init_209 post p1 (nI mc) 0 0 0 0 0 0 0 0 0 0 0 0 0 0 0 (fun _ => 0) (fun _ => 0) (fun _ => 0) (fun _ => 0) (fun _ => 0) (fun _ => 0) (fun _ => 0) (fun _ => 0) (fun _ => 0) (fun _ => 0) (fun _ => 0) (fun _ => 0) (fun _ => 0) (fun _ => 0) (fun _ => 0) (fun _ => 0) (fun _ => 0) (fun _ => 0) (fun _ => 0) (fun _ => 0) (fun _ => 0) (fun _ => 0) (fun _ => 0))) ∧ (∀ (post : SY → Prop), (wY_init_198 post (nI fh) (nI mc) 0 0 0 0 0 0 0 0 0 (fun _ => 0) (fun _ => 0) (fun _ => 0) (fun _ => 0) (fun _ => 0) (fun _ => 0) (fun _ => 0) (fun _ => 0) (fun _ => 0) (fun _ => 0) (fun _ => 0) (fun _ => 0) (fun _ => 0) (fun _ => 0) (fun _ => 0) (fun _ => 0) (fun _ => 0) (fun _ => 0) (fun _ => 0)) → (wY_init_171 post p1 (nI mc) 0 0 0 0 0 0 0 0 0 0 (fun _ => 0) (fun _ => 0) (fun _ => 0) (fun _ => 0) (fun _ => 0) (fun _ => 0) (fun _ => 0) (fun _ => 0) (fun _ => 0) (fun _ => 0) (fun _ => 0) (fun _ => 0) (fun _ => 0) (fun _ => 0) (fun _ => 0) (fun _ => 0) (fun _ => 0) (fun _ => 0) (fun _ => 0))) := by
  by_cases h1 : 8 ≤ p1
  · by_cases h2 : p1 ≤ 60
    · have a := ja_le.mp h1
      have b := ja_le.mp h2
      rw [show (8 : Int32).toInt = 8 from by decide] at a
      rw [ja_60] at b
      have e := jk_nI (x := p1) (by omega)
      refine ⟨p1.toInt.toNat, by omega, fun post h => br_t h1 (br_t h2 ?_), fun post h => br_t h1 (br_t h2 ?_)⟩
      · rw [← e] at h; exact h
      · rw [← e] at h; exact h
    · exact ⟨60, by omega, fun post h => br_t h1 (br_f h2 h), fun post h => br_t h1 (br_f h2 h)⟩
  · exact ⟨8, by omega, fun post h => br_f h1 h, fun post h => br_f h1 h⟩
theorem jz_C0 {mc fh : Nat} {rel due jobOf M d eA eB noted rs : Nat → Int32} {al le : Int32} {be : Nat → Int32} {ma : Nat → Int64} {bf : Nat → Int32} (h1 : 1 ≤ mc ∧ mc ≤ 4) (h2 : 8 ≤ fh ∧ fh ≤ 60) : jr_C mc fh fh 0 0 0 0 rel due jobOf M d eA eB noted rs 0 al le be ma bf :=
  ⟨⟨h1, h2, by omega, by omega, by omega, by omega⟩, fun j hj => by omega, fun o ho => by omega, fun o ho => by omega, fun e he => by omega, Or.inl rfl, Or.inl rfl⟩
theorem i_vc0 (k0 : Int32) (k1 : Int32) : wpX_init (fun u => wpY_init (fun v => i_Rel 2 u v) k0 k1) k0 k1 := by
  obtain ⟨mc, hmc, a1, a2⟩ := jz_ini k0
  obtain ⟨fh, hfh, b1, b2⟩ := jz_ini2 k1 mc
  refine a1 _ k1 (b1 _ ?_)
  show wpY_init (fun v => i_Rel 2 (nI mc, nI fh, nI fh, 0, 0, 0, 0, 0, 0, 0, 0, 0, 0, 0, 0, (fun _ => 0), (fun _ => 0), (fun _ => 0), (fun _ => 0), (fun _ => 0), (fun _ => 0), (fun _ => 0), (fun _ => 0), (fun _ => 0), (fun _ => 0), (fun _ => 0), (fun _ => 0), (fun _ => 0), (fun _ => 0), (fun _ => 0), (fun _ => 0), (fun _ => 0), (fun _ => 0), (fun _ => 0), (fun _ => 0), (fun _ => 0), (fun _ => 0), (fun _ => 0)) v) k0 k1
  refine a2 _ k1 (b2 _ ?_)
  show i_Rel 2 (nI mc, nI fh, nI fh, 0, 0, 0, 0, 0, 0, 0, 0, 0, 0, 0, 0, (fun _ => 0), (fun _ => 0), (fun _ => 0), (fun _ => 0), (fun _ => 0), (fun _ => 0), (fun _ => 0), (fun _ => 0), (fun _ => 0), (fun _ => 0), (fun _ => 0), (fun _ => 0), (fun _ => 0), (fun _ => 0), (fun _ => 0), (fun _ => 0), (fun _ => 0), (fun _ => 0), (fun _ => 0), (fun _ => 0), (fun _ => 0), (fun _ => 0), (fun _ => 0)) (nI mc, nI fh, nI fh, 0, 0, 0, 0, 0, 0, 0, (fun _ => 0), (fun _ => 0), (fun _ => 0), (fun _ => 0), (fun _ => 0), (fun _ => 0), (fun _ => 0), (fun _ => 0), (fun _ => 0), (fun _ => 0), (fun _ => 0), (fun _ => 0), (fun _ => 0), (fun _ => 0), (fun _ => 0), (fun _ => 0), (fun _ => 0), (fun _ => 0), (fun _ => 0))
  exact jz_in (mc := mc) (fh := fh) (hz := fh) (J := 0) (n := 0) (dp := 0) (jz_C0 hmc hfh)
section
variable {mc fh hz J n dp : Nat} {f_recorded f_wantA f_wantB f_moved f_failed f_level f_pickA f_pickB f_inTree f_known f_alive f_least : Int32} {a_releaseOf a_dueOf a_jobOf a_machineOf a_durationOf a_entryA a_entryB a_noted a_wantFrom a_wantTo a_lo a_hi a_pred a_savedLo a_savedHi a_savedPred a_savedA a_savedB a_raised a_cut a_place a_sum a_ect a_recordedStart a_best a_before a_list a_turnOf a_line a_trial a_late a_taken a_jobEdge a_machineEdge : Nat → Int32} {a_mask : Nat → Int64}
theorem jz_reset {k : Nat} (C : (jr_C mc fh hz J n dp f_recorded a_releaseOf a_dueOf a_jobOf a_machineOf a_durationOf a_entryA a_entryB a_noted a_recordedStart f_known f_alive f_least a_best a_mask a_before)) : wpX_reset (fun u' => wpY_reset (fun v' => i_Rel (k + 4) u' v') (nI mc, nI fh, nI hz, nI dp, nI J, nI n, f_recorded, f_known, f_alive, f_least, a_releaseOf, a_dueOf, a_jobOf, a_machineOf, a_durationOf, a_entryA, a_entryB, a_recordedStart, a_best, a_mask, a_before, a_list, a_turnOf, a_line, a_trial, a_late, a_taken, a_jobEdge, a_machineEdge)) (nI mc, nI fh, nI hz, nI J, nI n, nI dp, f_recorded, f_wantA, f_wantB, f_moved, f_failed, f_level, f_pickA, f_pickB, f_inTree, a_releaseOf, a_dueOf, a_jobOf, a_machineOf, a_durationOf, a_entryA, a_entryB, a_noted, a_wantFrom, a_wantTo, a_lo, a_hi, a_pred, a_savedLo, a_savedHi, a_savedPred, a_savedA, a_savedB, a_raised, a_cut, a_place, a_sum, a_ect) := by
  show i_Rel (k + 4) (nI mc, nI fh, nI fh, 0, 0, 0, 0, f_wantA, f_wantB, f_moved, f_failed, f_level, f_pickA, f_pickB, f_inTree, a_releaseOf, a_dueOf, a_jobOf, a_machineOf, a_durationOf, a_entryA, a_entryB, a_noted, a_wantFrom, a_wantTo, a_lo, a_hi, a_pred, a_savedLo, a_savedHi, a_savedPred, a_savedA, a_savedB, a_raised, a_cut, a_place, a_sum, a_ect) (nI mc, nI fh, nI fh, 0, 0, 0, 0, 0, f_alive, f_least, a_releaseOf, a_dueOf, a_jobOf, a_machineOf, a_durationOf, a_entryA, a_entryB, a_recordedStart, a_best, a_mask, a_before, a_list, a_turnOf, a_line, a_trial, a_late, a_taken, a_jobEdge, a_machineEdge)
  exact jz_in (mc := mc) (fh := fh) (hz := fh) (J := 0) (n := 0) (dp := 0) (jz_C0 C.1.1 C.1.2.1)
theorem jz_job {k : Nat} (C : (jr_C mc fh hz J n dp f_recorded a_releaseOf a_dueOf a_jobOf a_machineOf a_durationOf a_entryA a_entryB a_noted a_recordedStart f_known f_alive f_least a_best a_mask a_before)) (v1 v2 : Int32) : wpX_job (fun r u' => wpY_job (fun r' v' => r' = r ∧ i_Rel (k + 4) u' v') (nI mc, nI fh, nI hz, nI dp, nI J, nI n, f_recorded, f_known, f_alive, f_least, a_releaseOf, a_dueOf, a_jobOf, a_machineOf, a_durationOf, a_entryA, a_entryB, a_recordedStart, a_best, a_mask, a_before, a_list, a_turnOf, a_line, a_trial, a_late, a_taken, a_jobEdge, a_machineEdge) v1 v2) (nI mc, nI fh, nI hz, nI J, nI n, nI dp, f_recorded, f_wantA, f_wantB, f_moved, f_failed, f_level, f_pickA, f_pickB, f_inTree, a_releaseOf, a_dueOf, a_jobOf, a_machineOf, a_durationOf, a_entryA, a_entryB, a_noted, a_wantFrom, a_wantTo, a_lo, a_hi, a_pred, a_savedLo, a_savedHi, a_savedPred, a_savedA, a_savedB, a_raised, a_cut, a_place, a_sum, a_ect) v1 v2 := by
  have C' := C
  obtain ⟨⟨c1, c2, c3, c4, c5, c6⟩, c7, c8, c9, c10, c11, c12⟩ := C'
  refine br_c (fun h1 => br_c (fun h2 => br_c (fun h3 => br_t h1 (br_t h2 (br_t h3 ⟨rfl, jz_in C⟩))) (fun h3 => br_c (fun h4 => br_t h1 (br_t h2 (br_f h3 (br_t h4 ⟨rfl, jz_in C⟩)))) (fun h4 => br_c (fun h5 => br_t h1 (br_t h2 (br_f h3 (br_f h4 (br_t h5 ⟨rfl, jz_in C⟩))))) (fun h5 => br_c (fun h6 => ?_) (fun h6 => br_t h1 (br_t h2 (br_f h3 (br_f h4 (br_f h5 (br_f h6 ⟨rfl, jz_in C⟩)))))))))) (fun h2 => br_t h1 (br_f h2 ⟨rfl, jz_in C⟩))) (fun h1 => br_f h1 ⟨rfl, jz_in C⟩)
  have hJ : J < 4 := jz_lit h2 (m := 4) (by decide) (by omega)
  have hdp : dp = 0 := by
    have := ja_le.mp h1
    rw [nI_toInt (by omega), ja_0] at this
    omega
  have vJ : vp_in (nI J) 4 := vp_in_nI hJ (by omega)
  have cJ : (nI J).toNatClampNeg = J := nI_clamp (by omega)
  have q3 := mt ja_lt.mpr h3
  have q4 := mt ja_lt.mpr h4
  have q5 := mt ja_lt.mpr h5
  have q6 := ja_le.mp h6
  rw [ja_0] at q3
  rw [ja_sub (by rw [nI_toInt (by omega), ja_1]; omega) (by rw [nI_toInt (by omega), ja_1]; omega), nI_toInt (by omega), ja_1] at q4
  rw [ja_add (by rw [ja_1]; omega) (by rw [ja_1]; omega), ja_1] at q5
  rw [nI_toInt (by omega)] at q6
  rw [cJ]
  refine And.intro vJ (nm_e (And.intro vJ (nm_e (nm_r (nI_1 J) ?_))))
  refine br_t h1 (br_t h2 (br_f h3 (br_f h4 (br_f h5 (br_t h6 ?_)))))
  rw [cJ]
  refine And.intro vJ (nm_e (And.intro vJ (nm_e (nm_r (nI_1 J) ⟨nI_pred J, jz_in ?_⟩))))
  refine ⟨⟨c1, c2, c3, by omega, c5, c6⟩, fun j hj => ?_, fun o ho => ⟨?_, (c8 o ho).2⟩, c9, fun e he => by omega, Or.inl rfl, Or.inl rfl⟩
  · by_cases z : j = J
    · subst z; rw [pk_us, pk_us]; omega
    · rw [pk_un z, pk_un z]; exact c7 j (by omega)
  · obtain ⟨j, hj, e⟩ := (c8 o ho).1
    exact ⟨j, by omega, e⟩
theorem jz_op {k : Nat} (C : (jr_C mc fh hz J n dp f_recorded a_releaseOf a_dueOf a_jobOf a_machineOf a_durationOf a_entryA a_entryB a_noted a_recordedStart f_known f_alive f_least a_best a_mask a_before)) (v1 v2 v3 : Int32) : wpX_op (fun r u' => wpY_op (fun r' v' => r' = r ∧ i_Rel (k + 4) u' v') (nI mc, nI fh, nI hz, nI dp, nI J, nI n, f_recorded, f_known, f_alive, f_least, a_releaseOf, a_dueOf, a_jobOf, a_machineOf, a_durationOf, a_entryA, a_entryB, a_recordedStart, a_best, a_mask, a_before, a_list, a_turnOf, a_line, a_trial, a_late, a_taken, a_jobEdge, a_machineEdge) v1 v2 v3) (nI mc, nI fh, nI hz, nI J, nI n, nI dp, f_recorded, f_wantA, f_wantB, f_moved, f_failed, f_level, f_pickA, f_pickB, f_inTree, a_releaseOf, a_dueOf, a_jobOf, a_machineOf, a_durationOf, a_entryA, a_entryB, a_noted, a_wantFrom, a_wantTo, a_lo, a_hi, a_pred, a_savedLo, a_savedHi, a_savedPred, a_savedA, a_savedB, a_raised, a_cut, a_place, a_sum, a_ect) v1 v2 v3 := by
  have C' := C
  obtain ⟨⟨c1, c2, c3, c4, c5, c6⟩, c7, c8, c9, c10, c11, c12⟩ := C'
  refine br_c (fun h1 => br_c (fun h2 => br_c (fun h3 => br_t h1 (br_t h2 (br_t h3 ⟨rfl, jz_in C⟩))) (fun h3 => br_c (fun h4 => br_t h1 (br_t h2 (br_f h3 (br_t h4 ⟨rfl, jz_in C⟩)))) (fun h4 => br_c (fun h5 => br_t h1 (br_t h2 (br_f h3 (br_f h4 (br_t h5 ⟨rfl, jz_in C⟩))))) (fun h5 => br_c (fun h6 => br_t h1 (br_t h2 (br_f h3 (br_f h4 (br_f h5 (br_t h6 ⟨rfl, jz_in C⟩)))))) (fun h6 => br_c (fun h7 => br_t h1 (br_t h2 (br_f h3 (br_f h4 (br_f h5 (br_f h6 (br_t h7 ⟨rfl, jz_in C⟩))))))) (fun h7 => br_c (fun h8 => ?_) (fun h8 => br_t h1 (br_t h2 (br_f h3 (br_f h4 (br_f h5 (br_f h6 (br_f h7 (br_f h8 ⟨rfl, jz_in C⟩)))))))))))))) (fun h2 => br_t h1 (br_f h2 ⟨rfl, jz_in C⟩))) (fun h1 => br_f h1 ⟨rfl, jz_in C⟩)
  have hn : n < 8 := jz_lit h2 (m := 8) (by decide) (by omega)
  have hdp : dp = 0 := by
    have := ja_le.mp h1
    rw [nI_toInt (by omega), ja_0] at this
    omega
  obtain ⟨j, hj, e1⟩ := jz_ix h3 h4 (by omega)
  obtain ⟨m, hm, e2⟩ := jz_ix h5 h6 (by omega)
  have q7 := mt ja_lt.mpr h7
  have q8 := ja_le.mp h8
  rw [ja_1] at q7
  rw [show (15 : Int32).toInt = 15 from by decide] at q8
  have vn : vp_in (nI n) 8 := vp_in_nI hn (by omega)
  have cn : (nI n).toNatClampNeg = n := nI_clamp (by omega)
  rw [cn]
  refine And.intro vn (nm_e (And.intro vn (nm_e (And.intro vn (nm_e (nm_r (nI_1 n) ?_))))))
  refine br_t h1 (br_t h2 (br_f h3 (br_f h4 (br_f h5 (br_f h6 (br_f h7 (br_t h8 ?_)))))))
  rw [cn]
  refine And.intro vn (nm_e (And.intro vn (nm_e (And.intro vn (nm_e (nm_r (nI_1 n) ⟨nI_pred n, jz_in ?_⟩))))))
  refine ⟨⟨c1, c2, c3, c4, by omega, c6⟩, c7, fun o ho => ?_, fun o ho => ?_, fun e he => by omega, Or.inl rfl, Or.inl rfl⟩
  · by_cases z : o = n
    · subst z; rw [pk_us, pk_us]; exact ⟨⟨j, hj, e1⟩, ⟨m, hm, e2⟩⟩
    · rw [pk_un z, pk_un z]; exact c8 o (by omega)
  · by_cases z : o = n
    · subst z; rw [pk_us]; omega
    · rw [pk_un z]; exact c9 o (by omega)
theorem jz_undo {k : Nat} (C : (jr_C mc fh hz J n dp f_recorded a_releaseOf a_dueOf a_jobOf a_machineOf a_durationOf a_entryA a_entryB a_noted a_recordedStart f_known f_alive f_least a_best a_mask a_before)) : wpX_undo (fun r u' => wpY_undo (fun r' v' => r' = r ∧ i_Rel (k + 4) u' v') (nI mc, nI fh, nI hz, nI dp, nI J, nI n, f_recorded, f_known, f_alive, f_least, a_releaseOf, a_dueOf, a_jobOf, a_machineOf, a_durationOf, a_entryA, a_entryB, a_recordedStart, a_best, a_mask, a_before, a_list, a_turnOf, a_line, a_trial, a_late, a_taken, a_jobEdge, a_machineEdge)) (nI mc, nI fh, nI hz, nI J, nI n, nI dp, f_recorded, f_wantA, f_wantB, f_moved, f_failed, f_level, f_pickA, f_pickB, f_inTree, a_releaseOf, a_dueOf, a_jobOf, a_machineOf, a_durationOf, a_entryA, a_entryB, a_noted, a_wantFrom, a_wantTo, a_lo, a_hi, a_pred, a_savedLo, a_savedHi, a_savedPred, a_savedA, a_savedB, a_raised, a_cut, a_place, a_sum, a_ect) := by
  have C' := C
  obtain ⟨⟨c1, c2, c3, c4, c5, c6⟩, c7, c8, c9, c10, c11, c12⟩ := C'
  refine br_c (fun h1 => ?_) (fun h1 => br_f h1 ⟨rfl, jz_in C⟩)
  obtain ⟨d', rfl⟩ : ∃ d', dp = d' + 1 := by
    have := ja_lt.mp h1
    rw [nI_toInt (by omega), ja_0] at this
    exact ⟨dp - 1, by omega⟩
  have vd : vp_in (nI d') 12 := vp_in_nI (by omega) (by omega)
  have cd : (nI d').toNatClampNeg = d' := nI_clamp (by omega)
  have tr : ∀ e, e < d' → (a_entryA e = -5 ∧ ∃ q, q ≤ 60 ∧ a_entryB e = nI q) ∨ ∃ a b, a < n ∧ b < n ∧ a ≠ b ∧ a_machineOf a = a_machineOf b ∧ a_entryA e = nI a ∧ a_entryB e = nI b := fun e he => c10 e (by omega)
  refine nm_r (nI_pred d') (And.intro vd ?_)
  rw [cd]
  refine br_c (fun h2 => ?_) (fun h2 => ?_)
  · obtain ⟨q, hq, eq⟩ : ∃ q, q ≤ 60 ∧ a_entryB d' = nI q := by
      rcases c10 d' (by omega) with w | ⟨a, b, ha, _, _, _, w, _⟩
      · exact w.2
      · exact absurd (w.symm.trans h2) (jf_n5 a (by omega))
    rw [eq]
    refine And.intro vd (nm_e (br_t h1 (nm_r (nI_pred d') (And.intro vd ?_))))
    rw [cd]
    refine br_t h2 (And.intro vd ?_)
    rw [eq]
    exact nm_e ⟨rfl, jz_in (dp := d') (hz := q) ⟨⟨c1, c2, hq, c4, c5, by omega⟩, c7, c8, c9, tr, c11, Or.inl rfl⟩⟩
  · refine br_t h1 (nm_r (nI_pred d') (And.intro vd ?_))
    rw [cd]
    exact br_f h2 ⟨rfl, jz_in (dp := d') ⟨⟨c1, c2, c3, c4, c5, by omega⟩, c7, c8, c9, tr, c11, Or.inl rfl⟩⟩
end
end
section
/-! start, look, pairs -/
section
variable {f_machines f_firstHorizon f_horizon f_jobs f_depth f_recorded f_wantA f_wantB f_moved f_failed f_level f_pickA f_pickB f_inTree : Int32} {a_releaseOf a_dueOf a_jobOf a_machineOf a_durationOf a_entryA a_entryB a_noted a_wantFrom a_wantTo a_lo a_hi a_pred a_savedLo a_savedHi a_savedPred a_savedA a_savedB a_raised a_cut a_place a_sum a_ect : Nat → Int32}
theorem jx_isOp {post : Int32 → Prop} {n : Nat} {p : Int32} (hn : n ≤ 8) (h1 : ∀ a, a < n → p = nI a → post 1) (h0 : (¬ ∃ a, a < n ∧ p = nI a) → post 0) : (wpX_isOp post (f_machines, f_firstHorizon, f_horizon, f_jobs, nI n, f_depth, f_recorded, f_wantA, f_wantB, f_moved, f_failed, f_level, f_pickA, f_pickB, f_inTree, a_releaseOf, a_dueOf, a_jobOf, a_machineOf, a_durationOf, a_entryA, a_entryB, a_noted, a_wantFrom, a_wantTo, a_lo, a_hi, a_pred, a_savedLo, a_savedHi, a_savedPred, a_savedA, a_savedB, a_raised, a_cut, a_place, a_sum, a_ect) p) := by
  refine br_c (fun z => h0 fun ⟨a, ha, e⟩ => ?_) (fun z => br_c (fun y => h0 fun ⟨a, ha, e⟩ => ?_) (fun y => ?_))
  · rw [e] at z; exact nI_pos (by omega) z
  · rw [e] at y; exact nI_ge ha (by omega) y
  · obtain ⟨a, ha, e⟩ := jz_ix z y (by omega)
    exact h1 a ha e
def jz_pr (n : Nat) (M : Nat → Int32) (p q : Int32) : Prop := ∃ a b, a < n ∧ b < n ∧ p = nI a ∧ q = nI b ∧ a ≠ b ∧ M a = M b
theorem jx_comparable {post : Int32 → Prop} {n : Nat} {p q : Int32} (hn : n ≤ 8) (h1 : jz_pr n a_machineOf p q → post 1) (h0 : ¬ jz_pr n a_machineOf p q → post 0) : (wpX_comparable post (f_machines, f_firstHorizon, f_horizon, f_jobs, nI n, f_depth, f_recorded, f_wantA, f_wantB, f_moved, f_failed, f_level, f_pickA, f_pickB, f_inTree, a_releaseOf, a_dueOf, a_jobOf, a_machineOf, a_durationOf, a_entryA, a_entryB, a_noted, a_wantFrom, a_wantTo, a_lo, a_hi, a_pred, a_savedLo, a_savedHi, a_savedPred, a_savedA, a_savedB, a_raised, a_cut, a_place, a_sum, a_ect) p q) := by
  unfold wpX_comparable
  dsimp only
  refine jx_isOp hn (fun a ha ea => br_f ja_10 (jx_isOp hn (fun b hb eb => br_f ja_10 ?_) (fun z => br_t rfl (h0 fun ⟨a, b, _, hb, _, e, _⟩ => z ⟨b, hb, e⟩)))) (fun z => br_t rfl (h0 fun ⟨a, b, ha, _, e, _⟩ => z ⟨a, ha, e⟩))
  subst ea eb
  refine jx_rivals (by omega) (by omega) (fun hne hM => br_f ja_10 (h1 ⟨a, b, ha, hb, rfl, rfl, hne, hM⟩)) (fun z => br_t rfl (h0 fun ⟨a', b', ha', hb', e1, e2, hne, hM⟩ => z ?_))
  have x1 := (nI_eq (by omega) (by omega)).mp e1
  have x2 := (nI_eq (by omega) (by omega)).mp e2
  rw [x1, x2]; exact ⟨hne, hM⟩
end
section
variable {f_machineCount f_top f_horizon f_depth f_jobs f_recorded f_known f_alive f_least : Int32} {a_releaseOf a_dueOf a_jobOf a_machineOf a_length a_trailA a_trailB a_recordedStart a_best a_before a_list a_turnOf a_line a_trial a_late a_taken a_jobEdge a_machineEdge : Nat → Int32} {a_mask : Nat → Int64}
theorem jy_isOp {post : Int32 → Prop} {n : Nat} {p : Int32} (hn : n ≤ 8) (h1 : ∀ a, a < n → p = nI a → post 1) (h0 : (¬ ∃ a, a < n ∧ p = nI a) → post 0) : (wpY_isOp post (f_machineCount, f_top, f_horizon, f_depth, f_jobs, nI n, f_recorded, f_known, f_alive, f_least, a_releaseOf, a_dueOf, a_jobOf, a_machineOf, a_length, a_trailA, a_trailB, a_recordedStart, a_best, a_mask, a_before, a_list, a_turnOf, a_line, a_trial, a_late, a_taken, a_jobEdge, a_machineEdge) p) := by
  refine br_c (fun z => h0 fun ⟨a, ha, e⟩ => ?_) (fun z => br_c (fun y => h0 fun ⟨a, ha, e⟩ => ?_) (fun y => ?_))
  · rw [e] at z; exact nI_pos (by omega) z
  · rw [e] at y; exact nI_ge ha (by omega) y
  · obtain ⟨a, ha, e⟩ := jz_ix z y (by omega)
    exact h1 a ha e
theorem jy_isPair {post : Int32 → Prop} {n : Nat} {p q : Int32} (hn : n ≤ 8) (h1 : jz_pr n a_machineOf p q → post 1) (h0 : ¬ jz_pr n a_machineOf p q → post 0) : (wpY_isPair post (f_machineCount, f_top, f_horizon, f_depth, f_jobs, nI n, f_recorded, f_known, f_alive, f_least, a_releaseOf, a_dueOf, a_jobOf, a_machineOf, a_length, a_trailA, a_trailB, a_recordedStart, a_best, a_mask, a_before, a_list, a_turnOf, a_line, a_trial, a_late, a_taken, a_jobEdge, a_machineEdge) p q) := by
  unfold wpY_isPair
  dsimp only
  refine jy_isOp hn (fun a ha ea => br_f ja_10 (jy_isOp hn (fun b hb eb => br_f ja_10 ?_) (fun z => br_t rfl (h0 fun ⟨a, b, _, hb, _, e, _⟩ => z ⟨b, hb, e⟩)))) (fun z => br_t rfl (h0 fun ⟨a, b, ha, _, e, _⟩ => z ⟨a, ha, e⟩))
  subst ea eb
  have va : vp_in (nI a) 8 := vp_in_nI (by omega) (by omega)
  have vb : vp_in (nI b) 8 := vp_in_nI (by omega) (by omega)
  have ca : (nI a).toNatClampNeg = a := nI_clamp (by omega)
  have cb : (nI b).toNatClampNeg = b := nI_clamp (by omega)
  refine pk_eq a b (fun z => h0 fun ⟨a', b', ha', hb', e1, e2, hne, hM⟩ => ?_) (fun z => And.intro va (And.intro vb ?_))
  · have x1 := (nI_eq (by omega) (by omega)).mp e1
    have x2 := (nI_eq (by omega) (by omega)).mp e2
    omega
  · rw [ca, cb]
    refine br_c (fun y => h1 ⟨a, b, ha, hb, rfl, rfl, z, y⟩) (fun y => h0 fun ⟨a', b', ha', hb', e1, e2, hne, hM⟩ => ?_)
    have x1 := (nI_eq (by omega) (by omega)).mp e1
    have x2 := (nI_eq (by omega) (by omega)).mp e2
    rw [x1, x2] at y; exact y hM
end
theorem jz_lks {WX WY RX RY : (Int32 → Prop) → Prop} (c b w : Prop) (val : Int32) (hX : ∀ post, ((c → ((b → RX post) ∧ (¬ b → (w ∧ post val)))) ∧ (¬ c → RX post)) → WX post) (hY : ∀ post, ((c → ((b → RY post) ∧ (¬ b → (w ∧ post val)))) ∧ (¬ c → RY post)) → WY post)
    (hw : ¬ b → w) (ih : ∃ r, (∀ post : Int32 → Prop, post r → RX post) ∧ (∀ post : Int32 → Prop, post r → RY post)) : ∃ r, (∀ post : Int32 → Prop, post r → WX post) ∧ (∀ post : Int32 → Prop, post r → WY post) := by
  obtain ⟨r, h1, h2⟩ := ih
  by_cases hc : c
  · by_cases hb : b
    · exact ⟨r, fun post h => hX post (br_t hc (br_t hb (h1 post h))), fun post h => hY post (br_t hc (br_t hb (h2 post h)))⟩
    · exact ⟨val, fun post h => hX post (br_t hc (br_f hb ⟨hw hb, h⟩)), fun post h => hY post (br_t hc (br_f hb ⟨hw hb, h⟩))⟩
  · exact ⟨r, fun post h => hX post (br_f hc (h1 post h)), fun post h => hY post (br_f hc (h2 post h))⟩
section
variable {mc fh hz J n dp : Nat} {f_recorded f_wantA f_wantB f_moved f_failed f_level f_pickA f_pickB f_inTree f_known f_alive f_least : Int32} {a_releaseOf a_dueOf a_jobOf a_machineOf a_durationOf a_entryA a_entryB a_noted a_wantFrom a_wantTo a_lo a_hi a_pred a_savedLo a_savedHi a_savedPred a_savedA a_savedB a_raised a_cut a_place a_sum a_ect a_recordedStart a_best a_before a_list a_turnOf a_line a_trial a_late a_taken a_jobEdge a_machineEdge : Nat → Int32} {a_mask : Nat → Int64}
theorem jz_start {k : Nat} (C : (jr_C mc fh hz J n dp f_recorded a_releaseOf a_dueOf a_jobOf a_machineOf a_durationOf a_entryA a_entryB a_noted a_recordedStart f_known f_alive f_least a_best a_mask a_before)) (v1 : Int32) : wpX_start (fun r => wpY_start (fun r' => r' = r ∧ i_Rel (k + 4) (nI mc, nI fh, nI hz, nI J, nI n, nI dp, f_recorded, f_wantA, f_wantB, f_moved, f_failed, f_level, f_pickA, f_pickB, f_inTree, a_releaseOf, a_dueOf, a_jobOf, a_machineOf, a_durationOf, a_entryA, a_entryB, a_noted, a_wantFrom, a_wantTo, a_lo, a_hi, a_pred, a_savedLo, a_savedHi, a_savedPred, a_savedA, a_savedB, a_raised, a_cut, a_place, a_sum, a_ect) (nI mc, nI fh, nI hz, nI dp, nI J, nI n, f_recorded, f_known, f_alive, f_least, a_releaseOf, a_dueOf, a_jobOf, a_machineOf, a_durationOf, a_entryA, a_entryB, a_recordedStart, a_best, a_mask, a_before, a_list, a_turnOf, a_line, a_trial, a_late, a_taken, a_jobEdge, a_machineEdge)) (nI mc, nI fh, nI hz, nI dp, nI J, nI n, f_recorded, f_known, f_alive, f_least, a_releaseOf, a_dueOf, a_jobOf, a_machineOf, a_durationOf, a_entryA, a_entryB, a_recordedStart, a_best, a_mask, a_before, a_list, a_turnOf, a_line, a_trial, a_late, a_taken, a_jobEdge, a_machineEdge) v1) (nI mc, nI fh, nI hz, nI J, nI n, nI dp, f_recorded, f_wantA, f_wantB, f_moved, f_failed, f_level, f_pickA, f_pickB, f_inTree, a_releaseOf, a_dueOf, a_jobOf, a_machineOf, a_durationOf, a_entryA, a_entryB, a_noted, a_wantFrom, a_wantTo, a_lo, a_hi, a_pred, a_savedLo, a_savedHi, a_savedPred, a_savedA, a_savedB, a_raised, a_cut, a_place, a_sum, a_ect) v1 := by
  have C' := C
  obtain ⟨⟨c1, c2, c3, c4, c5, c6⟩, c7, c8, c9, c10, c11, c12⟩ := C'
  unfold wpX_start wpY_start
  dsimp only
  refine jx_isOp c5 (fun a ha e => br_f ja_10 (br_c (fun z => ?_) (fun z => ?_))) (fun z => br_t rfl (jy_isOp c5 (fun a ha e => absurd ⟨a, ha, e⟩ z) (fun _ => br_t rfl ⟨rfl, jz_in C⟩)))
  · exact jy_isOp c5 (fun _ _ _ => br_f ja_10 (br_t z ⟨rfl, jz_in C⟩)) (fun y => absurd ⟨a, ha, e⟩ y)
  · have va : vp_in v1 8 := by rw [e]; exact vp_in_nI (by omega) (by omega)
    refine And.intro va (jy_isOp c5 (fun _ _ _ => br_f ja_10 (br_f z (And.intro va ⟨?_, jz_in C⟩))) (fun y => absurd ⟨a, ha, e⟩ y))
    rcases c11 with w | ⟨_, w⟩
    · exact absurd w z
    · have : v1.toNatClampNeg = a := by rw [e]; exact nI_clamp (by omega)
      rw [this]; exact (w a ha).1
theorem jz_look {k : Nat} (C : (jr_C mc fh hz J n dp f_recorded a_releaseOf a_dueOf a_jobOf a_machineOf a_durationOf a_entryA a_entryB a_noted a_recordedStart f_known f_alive f_least a_best a_mask a_before)) (v1 v2 : Int32) : wpX_look (fun r => wpY_look (fun r' => r' = r ∧ i_Rel (k + 4) (nI mc, nI fh, nI hz, nI J, nI n, nI dp, f_recorded, f_wantA, f_wantB, f_moved, f_failed, f_level, f_pickA, f_pickB, f_inTree, a_releaseOf, a_dueOf, a_jobOf, a_machineOf, a_durationOf, a_entryA, a_entryB, a_noted, a_wantFrom, a_wantTo, a_lo, a_hi, a_pred, a_savedLo, a_savedHi, a_savedPred, a_savedA, a_savedB, a_raised, a_cut, a_place, a_sum, a_ect) (nI mc, nI fh, nI hz, nI dp, nI J, nI n, f_recorded, f_known, f_alive, f_least, a_releaseOf, a_dueOf, a_jobOf, a_machineOf, a_durationOf, a_entryA, a_entryB, a_recordedStart, a_best, a_mask, a_before, a_list, a_turnOf, a_line, a_trial, a_late, a_taken, a_jobEdge, a_machineEdge)) (nI mc, nI fh, nI hz, nI dp, nI J, nI n, f_recorded, f_known, f_alive, f_least, a_releaseOf, a_dueOf, a_jobOf, a_machineOf, a_durationOf, a_entryA, a_entryB, a_recordedStart, a_best, a_mask, a_before, a_list, a_turnOf, a_line, a_trial, a_late, a_taken, a_jobEdge, a_machineEdge) v1 v2) (nI mc, nI fh, nI hz, nI J, nI n, nI dp, f_recorded, f_wantA, f_wantB, f_moved, f_failed, f_level, f_pickA, f_pickB, f_inTree, a_releaseOf, a_dueOf, a_jobOf, a_machineOf, a_durationOf, a_entryA, a_entryB, a_noted, a_wantFrom, a_wantTo, a_lo, a_hi, a_pred, a_savedLo, a_savedHi, a_savedPred, a_savedA, a_savedB, a_raised, a_cut, a_place, a_sum, a_ect) v1 v2 := by
  have C' := C
  obtain ⟨⟨c1, c2, c3, c4, c5, c6⟩, c7, c8, c9, c10, c11, c12⟩ := C'
  have fin : ∀ r : Int32, r = r ∧ i_Rel (k + 4) (nI mc, nI fh, nI hz, nI J, nI n, nI dp, f_recorded, f_wantA, f_wantB, f_moved, f_failed, f_level, f_pickA, f_pickB, f_inTree, a_releaseOf, a_dueOf, a_jobOf, a_machineOf, a_durationOf, a_entryA, a_entryB, a_noted, a_wantFrom, a_wantTo, a_lo, a_hi, a_pred, a_savedLo, a_savedHi, a_savedPred, a_savedA, a_savedB, a_raised, a_cut, a_place, a_sum, a_ect) (nI mc, nI fh, nI hz, nI dp, nI J, nI n, f_recorded, f_known, f_alive, f_least, a_releaseOf, a_dueOf, a_jobOf, a_machineOf, a_durationOf, a_entryA, a_entryB, a_recordedStart, a_best, a_mask, a_before, a_list, a_turnOf, a_line, a_trial, a_late, a_taken, a_jobEdge, a_machineEdge) := fun r => ⟨rfl, jz_in C⟩
  have key : 0 ≤ v2 → ∃ r, (∀ post : Int32 → Prop, post r → ((v1 = 5 → ((nI J ≤ v2 → (wX_look_75 post v1 v2 (nI mc) (nI fh) (nI hz) (nI J) (nI n) (nI dp) f_recorded f_wantA f_wantB f_moved f_failed f_level f_pickA f_pickB f_inTree a_releaseOf a_dueOf a_jobOf a_machineOf a_durationOf a_entryA a_entryB a_noted a_wantFrom a_wantTo a_lo a_hi a_pred a_savedLo a_savedHi a_savedPred a_savedA a_savedB a_raised a_cut a_place a_sum a_ect)) ∧ (¬ nI J ≤ v2 → (vp_in v2 4 ∧ post (a_releaseOf v2.toNatClampNeg))))) ∧ (¬ v1 = 5 → (wX_look_75 post v1 v2 (nI mc) (nI fh) (nI hz) (nI J) (nI n) (nI dp) f_recorded f_wantA f_wantB f_moved f_failed f_level f_pickA f_pickB f_inTree a_releaseOf a_dueOf a_jobOf a_machineOf a_durationOf a_entryA a_entryB a_noted a_wantFrom a_wantTo a_lo a_hi a_pred a_savedLo a_savedHi a_savedPred a_savedA a_savedB a_raised a_cut a_place a_sum a_ect)))) ∧
      (∀ post : Int32 → Prop, post r → ((v1 = 5 → ((nI J ≤ v2 → (wY_look_75 post v1 v2 (nI mc) (nI fh) (nI hz) (nI dp) (nI J) (nI n) f_recorded f_known f_alive f_least a_releaseOf a_dueOf a_jobOf a_machineOf a_durationOf a_entryA a_entryB a_recordedStart a_best a_mask a_before a_list a_turnOf a_line a_trial a_late a_taken a_jobEdge a_machineEdge)) ∧ (¬ nI J ≤ v2 → (vp_in v2 4 ∧ post (a_releaseOf v2.toNatClampNeg))))) ∧ (¬ v1 = 5 → (wY_look_75 post v1 v2 (nI mc) (nI fh) (nI hz) (nI dp) (nI J) (nI n) f_recorded f_known f_alive f_least a_releaseOf a_dueOf a_jobOf a_machineOf a_durationOf a_entryA a_entryB a_recordedStart a_best a_mask a_before a_list a_turnOf a_line a_trial a_late a_taken a_jobEdge a_machineEdge)))) := by
    intro h0
    have h0' : ¬ v2 < 0 := Int32.not_lt.mpr h0
    have w4 : ¬ nI J ≤ v2 → vp_in v2 4 := fun z => by
      obtain ⟨j, hj, e⟩ := jz_ix h0' z (by omega)
      rw [e]; exact vp_in_nI (by omega) (by omega)
    have w8 : ¬ nI n ≤ v2 → vp_in v2 8 := fun z => by
      obtain ⟨j, hj, e⟩ := jz_ix h0' z (by omega)
      rw [e]; exact vp_in_nI (by omega) (by omega)
    have w12 : ¬ nI dp ≤ v2 → vp_in v2 12 := fun z => by
      obtain ⟨j, hj, e⟩ := jz_ix h0' z (by omega)
      rw [e]; exact vp_in_nI (by omega) (by omega)
    refine jz_lks (v1 = 5) (nI J ≤ v2) (vp_in v2 4) (a_releaseOf v2.toNatClampNeg) (fun post h => h) (fun post h => h) w4 ?_
    refine jz_lks (v1 = 6) (nI J ≤ v2) (vp_in v2 4) (a_dueOf v2.toNatClampNeg) (fun post h => h) (fun post h => h) w4 ?_
    refine jz_lks (v1 = 7) (nI n ≤ v2) (vp_in v2 8) (a_jobOf v2.toNatClampNeg) (fun post h => h) (fun post h => h) w8 ?_
    refine jz_lks (v1 = 8) (nI n ≤ v2) (vp_in v2 8) (a_machineOf v2.toNatClampNeg) (fun post h => h) (fun post h => h) w8 ?_
    refine jz_lks (v1 = 9) (nI n ≤ v2) (vp_in v2 8) (a_durationOf v2.toNatClampNeg) (fun post h => h) (fun post h => h) w8 ?_
    refine jz_lks (v1 = 10) (nI dp ≤ v2) (vp_in v2 12) (a_entryA v2.toNatClampNeg) (fun post h => h) (fun post h => h) w12 ?_
    refine jz_lks (v1 = 11) (nI dp ≤ v2) (vp_in v2 12) (a_entryB v2.toNatClampNeg) (RX := fun post => post (-1)) (RY := fun post => post (-1)) (fun post h => h) (fun post h => h) w12 ?_
    exact ⟨-1, fun post h => h, fun post h => h⟩
  refine br_c (fun h1 => br_t h1 (fin _)) (fun h1 => br_c (fun h2 => br_f h1 (br_t h2 (fin _))) (fun h2 => br_c (fun h3 => br_f h1 (br_f h2 (br_t h3 (fin _)))) (fun h3 => br_c (fun h4 => br_f h1 (br_f h2 (br_f h3 (br_t h4 (fin _))))) (fun h4 => br_c (fun h5 => br_f h1 (br_f h2 (br_f h3 (br_f h4 (br_t h5 (fin _)))))) (fun h5 => br_c (fun h6 => ?_) (fun h6 => br_f h1 (br_f h2 (br_f h3 (br_f h4 (br_f h5 (br_f h6 (fin _))))))))))))
  obtain ⟨r, kX, kY⟩ := key h6
  refine kX _ ?_
  exact br_f h1 (br_f h2 (br_f h3 (br_f h4 (br_f h5 (br_t h6 (kY _ (fin r)))))))
end
end
section
/-! push, explore, possible of related states -/
section
variable {f_machines f_firstHorizon f_horizon f_jobs f_ops f_recorded f_wantA f_wantB f_moved f_failed f_level f_pickA f_pickB f_inTree : Int32} {a_releaseOf a_dueOf a_jobOf a_machineOf a_durationOf a_entryA a_entryB a_noted a_wantFrom a_wantTo a_lo a_hi a_pred a_savedLo a_savedHi a_savedPred a_savedA a_savedB a_raised a_cut a_place a_sum a_ect : Nat → Int32}
theorem jx_push {post : SX → Prop} {dp : Nat} {p q : Int32} (hd : dp < 12) (h : post (f_machines, f_firstHorizon, f_horizon, f_jobs, f_ops, nI (dp + 1), f_recorded, f_wantA, f_wantB, f_moved, f_failed, f_level, f_pickA, f_pickB, f_inTree, a_releaseOf, a_dueOf, a_jobOf, a_machineOf, a_durationOf, upd a_entryA dp p, upd a_entryB dp q, a_noted, a_wantFrom, a_wantTo, a_lo, a_hi, a_pred, a_savedLo, a_savedHi, a_savedPred, a_savedA, a_savedB, a_raised, a_cut, a_place, a_sum, a_ect)) : (wpX_push post (f_machines, f_firstHorizon, f_horizon, f_jobs, f_ops, nI dp, f_recorded, f_wantA, f_wantB, f_moved, f_failed, f_level, f_pickA, f_pickB, f_inTree, a_releaseOf, a_dueOf, a_jobOf, a_machineOf, a_durationOf, a_entryA, a_entryB, a_noted, a_wantFrom, a_wantTo, a_lo, a_hi, a_pred, a_savedLo, a_savedHi, a_savedPred, a_savedA, a_savedB, a_raised, a_cut, a_place, a_sum, a_ect) p q) := by
  have vd : vp_in (nI dp) 12 := vp_in_nI hd (by omega)
  have cd : (nI dp).toNatClampNeg = dp := nI_clamp (by omega)
  unfold wpX_push
  dsimp only
  rw [cd]
  exact And.intro vd (nm_e (nm_r (nI_1 dp) (And.intro vd (nm_e h))))
end
section
variable {f_machineCount f_top f_horizon f_jobs f_ops f_recorded f_known f_alive f_least : Int32} {a_releaseOf a_dueOf a_jobOf a_machineOf a_length a_trailA a_trailB a_recordedStart a_best a_before a_list a_turnOf a_line a_trial a_late a_taken a_jobEdge a_machineEdge : Nat → Int32} {a_mask : Nat → Int64}
theorem jy_push {post : SY → Prop} {dp : Nat} {p q z : Int32} (hd : dp < 12) (h : post (f_machineCount, f_top, z, nI (dp + 1), f_jobs, f_ops, f_recorded, 0, f_alive, f_least, a_releaseOf, a_dueOf, a_jobOf, a_machineOf, a_length, upd a_trailA dp p, upd a_trailB dp q, a_recordedStart, a_best, a_mask, a_before, a_list, a_turnOf, a_line, a_trial, a_late, a_taken, a_jobEdge, a_machineEdge)) : (wpY_push post (f_machineCount, f_top, f_horizon, nI dp, f_jobs, f_ops, f_recorded, f_known, f_alive, f_least, a_releaseOf, a_dueOf, a_jobOf, a_machineOf, a_length, a_trailA, a_trailB, a_recordedStart, a_best, a_mask, a_before, a_list, a_turnOf, a_line, a_trial, a_late, a_taken, a_jobEdge, a_machineEdge) p q z) := by
  have vd : vp_in (nI dp) 12 := vp_in_nI hd (by omega)
  have cd : (nI dp).toNatClampNeg = dp := nI_clamp (by omega)
  unfold wpY_push
  dsimp only
  rw [cd]
  exact And.intro vd (nm_e (And.intro vd (nm_e (nm_r (nI_1 dp) h))))
end
theorem jz_F_hz {n dp : Nat} {M d rel due jobOf eA eB : Nat → Int32} {c hz : Nat} {s : Nat → Int} (h : c ≤ hz) : jf_F n dp M d rel due jobOf eA eB (c : Int) s ↔ (jf_F n dp M d rel due jobOf eA eB (hz : Int) s ∧ jy_sp d s n ≤ (c : Int)) := by
  rw [jy_sp_le]
  constructor
  · rintro ⟨f1, f2⟩
    exact ⟨⟨fun a ha => ⟨(f1 a ha).1, (f1 a ha).2.1, by have := (f1 a ha).2.2; omega⟩, f2⟩, by omega, fun o ho => (f1 o ho).2.2⟩
  · rintro ⟨⟨f1, f2⟩, _, f3⟩
    exact ⟨fun a ha => ⟨(f1 a ha).1, (f1 a ha).2.1, f3 a ha⟩, f2⟩
theorem jz_least {n dp : Nat} {M d rel due jobOf eA eB : Nat → Int32} {hz : Nat} {al le : Int32} {be : Nat → Int32} {ma : Nat → Int64} {bf : Nat → Int32} (K : jr_K n M d (jf_F n dp M d rel due jobOf eA eB (hz : Int)) al le be ma bf) {c : Nat} (hc : c ≤ hz) (hz60 : hz ≤ 60)
    (h1 : ∃ s, jf_F n dp M d rel due jobOf eA eB (c : Int) s) (h2 : ∀ c', c' < c → ¬ ∃ s, jf_F n dp M d rel due jobOf eA eB (c' : Nat) s) :
    al = 1 ∧ le = nI c ∧ jf_F n dp M d rel due jobOf eA eB (c : Int) (fun o => (be o).toInt) ∧ ∀ s, jf_F n dp M d rel due jobOf eA eB (c : Int) s → jy_lx n (fun o => (be o).toInt) s := by
  obtain ⟨s, hs⟩ := h1
  obtain ⟨hs1, hs2⟩ := (jz_F_hz hc).mp hs
  obtain ⟨k1, k2, _, _, k5⟩ := K
  have a1 : al = 1 := k2.mpr ⟨s, hs1⟩
  obtain ⟨b1, b2, b3⟩ := k5 a1
  have l1 : le.toInt ≤ (c : Int) := by
    rcases b3 s hs1 with q | q
    · omega
    · omega
  have l0 : 0 ≤ le.toInt := by
    rw [b2]
    exact ((jy_sp_le (d := d) (s := fun o => (be o).toInt) (k := n)).mp (Int.le_refl _)).1
  have l2 : (c : Int) ≤ le.toInt := by
    apply Classical.byContradiction
    intro z
    refine h2 le.toInt.toNat (by omega) ⟨_, (jz_F_hz (hz := hz) (by omega)).mpr ⟨b1, ?_⟩⟩
    rw [← b2]; omega
  have e : le = nI c := by
    apply ja_eq.mpr
    rw [nI_toInt (by omega)]; omega
  refine ⟨a1, e, (jz_F_hz hc).mpr ⟨b1, by omega⟩, fun s' q => ?_⟩
  obtain ⟨q1, q2⟩ := (jz_F_hz hc).mp q
  rcases b3 s' q1 with w | w
  · omega
  · exact w.2
section
variable {mc fh hz J n dp : Nat} {f_recorded f_wantA f_wantB f_moved f_failed f_level f_pickA f_pickB f_inTree f_known f_alive f_least : Int32} {a_releaseOf a_dueOf a_jobOf a_machineOf a_durationOf a_entryA a_entryB a_noted a_wantFrom a_wantTo a_lo a_hi a_pred a_savedLo a_savedHi a_savedPred a_savedA a_savedB a_raised a_cut a_place a_sum a_ect a_recordedStart a_best a_before a_list a_turnOf a_line a_trial a_late a_taken a_jobEdge a_machineEdge : Nat → Int32} {a_mask : Nat → Int64}
theorem jz_C_push {hz' : Nat} {p q : Int32} (C : (jr_C mc fh hz J n dp f_recorded a_releaseOf a_dueOf a_jobOf a_machineOf a_durationOf a_entryA a_entryB a_noted a_recordedStart f_known f_alive f_least a_best a_mask a_before)) (hd : dp < 12) (h : (p = -5 ∧ ∃ x, x ≤ 60 ∧ q = nI x) ∨ ∃ a b, a < n ∧ b < n ∧ a ≠ b ∧ a_machineOf a = a_machineOf b ∧ p = nI a ∧ q = nI b) (hh : hz' ≤ 60) {al le : Int32} {be : Nat → Int32} {ma : Nat → Int64} {bf : Nat → Int32} :
    (jr_C mc fh hz' J n (dp + 1) f_recorded a_releaseOf a_dueOf a_jobOf a_machineOf a_durationOf (upd a_entryA dp p) (upd a_entryB dp q) a_noted a_recordedStart 0 al le be ma bf) := by
  obtain ⟨⟨c1, c2, c3, c4, c5, c6⟩, c7, c8, c9, c10, c11, c12⟩ := C
  refine ⟨⟨c1, c2, hh, c4, c5, by omega⟩, c7, c8, c9, fun e he => ?_, c11, Or.inl rfl⟩
  by_cases z : e = dp
  · subst z; rw [pk_us, pk_us]; exact h
  · rw [pk_un z, pk_un z]; exact c10 e (by omega)
theorem jz_explore {post : SY → Prop} (C : (jr_C mc fh hz J n dp f_recorded a_releaseOf a_dueOf a_jobOf a_machineOf a_durationOf a_entryA a_entryB a_noted a_recordedStart f_known f_alive f_least a_best a_mask a_before)) (h : ∀ (f_alive1 f_least1 : Int32) (a_best1 : Nat → Int32) (a_mask1 : Nat → Int64) (a_before1 : Nat → Int32) (a_list1 : Nat → Int32) (a_turnOf1 : Nat → Int32) (a_line1 : Nat → Int32) (a_trial1 : Nat → Int32) (a_late1 : Nat → Int32) (a_taken1 : Nat → Int32) (a_jobEdge1 : Nat → Int32) (a_machineEdge1 : Nat → Int32), jr_K n a_machineOf a_durationOf (jf_F n dp a_machineOf a_durationOf a_releaseOf a_dueOf a_jobOf a_entryA a_entryB (hz : Int)) f_alive1 f_least1 a_best1 a_mask1 a_before1 → (jr_C mc fh hz J n dp f_recorded a_releaseOf a_dueOf a_jobOf a_machineOf a_durationOf a_entryA a_entryB a_noted a_recordedStart 1 f_alive1 f_least1 a_best1 a_mask1 a_before1) → post (nI mc, nI fh, nI hz, nI dp, nI J, nI n, f_recorded, 1, f_alive1, f_least1, a_releaseOf, a_dueOf, a_jobOf, a_machineOf, a_durationOf, a_entryA, a_entryB, a_recordedStart, a_best1, a_mask1, a_before1, a_list1, a_turnOf1, a_line1, a_trial1, a_late1, a_taken1, a_jobEdge1, a_machineEdge1)) : wpY_explore post (nI mc, nI fh, nI hz, nI dp, nI J, nI n, f_recorded, f_known, f_alive, f_least, a_releaseOf, a_dueOf, a_jobOf, a_machineOf, a_durationOf, a_entryA, a_entryB, a_recordedStart, a_best, a_mask, a_before, a_list, a_turnOf, a_line, a_trial, a_late, a_taken, a_jobEdge, a_machineEdge) := by
  have V := jr_V C
  obtain ⟨⟨c1, c2, c3, c4, c5, c6⟩, c7, c8, c9, c10, c11, c12⟩ := C
  have eh : (nI hz).toInt = (hz : Int) := nI_toInt (by omega)
  refine jy_explore V c4 (fun o ho => (c8 o ho).1) (by rw [eh]; omega) (by rw [eh]; exact c12) (fun al le be ma bf lt tu li tr la ta je me K => ?_)
  rw [eh] at K
  exact h al le be ma bf lt tu li tr la ta je me K ⟨⟨c1, c2, c3, c4, c5, c6⟩, c7, c8, c9, c10, c11, Or.inr ⟨rfl, K⟩⟩
theorem jz_possible0 {post : Int32 → SX → Prop} (C : (jr_C mc fh hz J n dp f_recorded a_releaseOf a_dueOf a_jobOf a_machineOf a_durationOf a_entryA a_entryB a_noted a_recordedStart f_known f_alive f_least a_best a_mask a_before)) (h : ∀ r wf wt (f_moved1 f_failed1 f_level1 f_pickA1 f_pickB1 f_inTree1 : Int32) (a_lo1 a_hi1 a_pred1 a_savedLo1 a_savedHi1 a_savedPred1 a_savedA1 a_savedB1 a_raised1 a_cut1 a_place1 a_sum1 a_ect1 : Nat → Int32), ((r = 0 ∧ ¬ ∃ s, (jf_F n dp a_machineOf a_durationOf a_releaseOf a_dueOf a_jobOf a_entryA a_entryB (hz : Int)) s) ∨ (r = 1 ∧ ∃ s, (jf_F n dp a_machineOf a_durationOf a_releaseOf a_dueOf a_jobOf a_entryA a_entryB (hz : Int)) s)) → post r (nI mc, nI fh, nI hz, nI J, nI n, nI dp, f_recorded, -5, -5, f_moved1, f_failed1, f_level1, f_pickA1, f_pickB1, f_inTree1, a_releaseOf, a_dueOf, a_jobOf, a_machineOf, a_durationOf, a_entryA, a_entryB, a_noted, wf, wt, a_lo1, a_hi1, a_pred1, a_savedLo1, a_savedHi1, a_savedPred1, a_savedA1, a_savedB1, a_raised1, a_cut1, a_place1, a_sum1, a_ect1)) : wpX_possible post (nI mc, nI fh, nI hz, nI J, nI n, nI dp, f_recorded, f_wantA, f_wantB, f_moved, f_failed, f_level, f_pickA, f_pickB, f_inTree, a_releaseOf, a_dueOf, a_jobOf, a_machineOf, a_durationOf, a_entryA, a_entryB, a_noted, a_wantFrom, a_wantTo, a_lo, a_hi, a_pred, a_savedLo, a_savedHi, a_savedPred, a_savedA, a_savedB, a_raised, a_cut, a_place, a_sum, a_ect) (-5) (-5) := by
  have V := jr_V C
  have hn := V.1
  have eh : (nI hz).toInt = (hz : Int) := nI_toInt (by have := C.1.2.2.1; omega)
  refine jx_possible V (Or.inl rfl) (fun r wf wt f_moved1 f_failed1 f_level1 f_pickA1 f_pickB1 f_inTree1 a_lo1 a_hi1 a_pred1 a_savedLo1 a_savedHi1 a_savedPred1 a_savedA1 a_savedB1 a_raised1 a_cut1 a_place1 a_sum1 a_ect1 hw O => h r wf wt f_moved1 f_failed1 f_level1 f_pickA1 f_pickB1 f_inTree1 a_lo1 a_hi1 a_pred1 a_savedLo1 a_savedHi1 a_savedPred1 a_savedA1 a_savedB1 a_raised1 a_cut1 a_place1 a_sum1 a_ect1 ?_)
  rw [eh] at O
  rcases O with ⟨e, q⟩ | ⟨e, s, q, _⟩
  · exact Or.inl ⟨e, fun ⟨s, w⟩ => q ⟨s, w, fun a b ha _ e1 _ => absurd e1.symm (jf_n5 a (by omega))⟩⟩
  · exact Or.inr ⟨e, s, q⟩
end
end
section
/-! the calls that search -/
section
variable {mc fh hz J n dp : Nat} {f_recorded f_wantA f_wantB f_moved f_failed f_level f_pickA f_pickB f_inTree f_known f_alive f_least : Int32} {a_releaseOf a_dueOf a_jobOf a_machineOf a_durationOf a_entryA a_entryB a_noted a_wantFrom a_wantTo a_lo a_hi a_pred a_savedLo a_savedHi a_savedPred a_savedA a_savedB a_raised a_cut a_place a_sum a_ect a_recordedStart a_best a_before a_list a_turnOf a_line a_trial a_late a_taken a_jobEdge a_machineEdge : Nat → Int32} {a_mask : Nat → Int64}
theorem jz_order {k : Nat} (C : (jr_C mc fh hz J n dp f_recorded a_releaseOf a_dueOf a_jobOf a_machineOf a_durationOf a_entryA a_entryB a_noted a_recordedStart f_known f_alive f_least a_best a_mask a_before)) (v1 v2 : Int32) : wpX_order (fun r u' => wpY_order (fun r' v' => r' = r ∧ i_Rel (k + 4) u' v') (nI mc, nI fh, nI hz, nI dp, nI J, nI n, f_recorded, f_known, f_alive, f_least, a_releaseOf, a_dueOf, a_jobOf, a_machineOf, a_durationOf, a_entryA, a_entryB, a_recordedStart, a_best, a_mask, a_before, a_list, a_turnOf, a_line, a_trial, a_late, a_taken, a_jobEdge, a_machineEdge) v1 v2) (nI mc, nI fh, nI hz, nI J, nI n, nI dp, f_recorded, f_wantA, f_wantB, f_moved, f_failed, f_level, f_pickA, f_pickB, f_inTree, a_releaseOf, a_dueOf, a_jobOf, a_machineOf, a_durationOf, a_entryA, a_entryB, a_noted, a_wantFrom, a_wantTo, a_lo, a_hi, a_pred, a_savedLo, a_savedHi, a_savedPred, a_savedA, a_savedB, a_raised, a_cut, a_place, a_sum, a_ect) v1 v2 := by
  have C' := C
  obtain ⟨⟨c1, c2, c3, c4, c5, c6⟩, c7, c8, c9, c10, c11, c12⟩ := C'
  unfold wpX_order wpY_order
  dsimp only
  refine jx_comparable c5 (fun pr => br_f ja_10 (br_c (fun h2 => ?_) (fun h2 => jy_isPair c5 (fun _ => br_f ja_10 (br_f h2 ⟨rfl, jz_in C⟩)) (fun z => absurd pr z)))) (fun z => br_t rfl (jy_isPair c5 (fun pr => absurd pr z) (fun _ => br_t rfl ⟨rfl, jz_in C⟩)))
  have hd : dp < 12 := jz_lit h2 (m := 12) (by decide) (by omega)
  have pr' := pr
  obtain ⟨a, b, ha, hb, e1, e2, hne, hM⟩ := pr'
  have C1 := jz_C_push (p := v1) (q := v2) C hd (Or.inr ⟨a, b, ha, hb, hne, hM, e1, e2⟩) c3 (al := f_alive) (le := f_least) (be := a_best) (ma := a_mask) (bf := a_before)
  refine jx_push hd (jz_possible0 C1 (fun r wf wt f_moved1 f_failed1 f_level1 f_pickA1 f_pickB1 f_inTree1 a_lo1 a_hi1 a_pred1 a_savedLo1 a_savedHi1 a_savedPred1 a_savedA1 a_savedB1 a_raised1 a_cut1 a_place1 a_sum1 a_ect1 O => ?_))
  rcases O with ⟨er, no⟩ | ⟨er, yes⟩
  · subst er
    refine br_t rfl (jy_isPair c5 (fun _ => br_f ja_10 (br_t h2 (jy_push hd ?_))) (fun z => absurd pr z))
    unfold wpY_state
    dsimp only
    refine jz_explore C1 (fun f_alive1 f_least1 a_best1 a_mask1 a_before1 a_list1 a_turnOf1 a_line1 a_trial1 a_late1 a_taken1 a_jobEdge1 a_machineEdge1 K C2 => br_t ?_ ⟨rfl, jz_in C2⟩)
    exact K.1.resolve_right fun z => no (K.2.1.mp z)
  · subst er
    refine br_f ja_10 (jy_isPair c5 (fun _ => br_f ja_10 (br_t h2 (jy_push hd ?_))) (fun z => absurd pr z))
    unfold wpY_state
    dsimp only
    refine jz_explore C1 (fun f_alive1 f_least1 a_best1 a_mask1 a_before1 a_list1 a_turnOf1 a_line1 a_trial1 a_late1 a_taken1 a_jobEdge1 a_machineEdge1 K C2 => br_f ?_ ⟨rfl, jz_in C2⟩)
    rw [K.2.1.mpr yes]; exact ja_10
theorem jz_limit {k : Nat} (C : (jr_C mc fh hz J n dp f_recorded a_releaseOf a_dueOf a_jobOf a_machineOf a_durationOf a_entryA a_entryB a_noted a_recordedStart f_known f_alive f_least a_best a_mask a_before)) (v1 : Int32) : wpX_limit (fun r u' => wpY_limit (fun r' v' => r' = r ∧ i_Rel (k + 4) u' v') (nI mc, nI fh, nI hz, nI dp, nI J, nI n, f_recorded, f_known, f_alive, f_least, a_releaseOf, a_dueOf, a_jobOf, a_machineOf, a_durationOf, a_entryA, a_entryB, a_recordedStart, a_best, a_mask, a_before, a_list, a_turnOf, a_line, a_trial, a_late, a_taken, a_jobEdge, a_machineEdge) v1) (nI mc, nI fh, nI hz, nI J, nI n, nI dp, f_recorded, f_wantA, f_wantB, f_moved, f_failed, f_level, f_pickA, f_pickB, f_inTree, a_releaseOf, a_dueOf, a_jobOf, a_machineOf, a_durationOf, a_entryA, a_entryB, a_noted, a_wantFrom, a_wantTo, a_lo, a_hi, a_pred, a_savedLo, a_savedHi, a_savedPred, a_savedA, a_savedB, a_raised, a_cut, a_place, a_sum, a_ect) v1 := by
  have C' := C
  obtain ⟨⟨c1, c2, c3, c4, c5, c6⟩, c7, c8, c9, c10, c11, c12⟩ := C'
  unfold wpX_limit wpY_limit
  dsimp only
  refine br_c (fun h1 => br_t h1 ⟨rfl, jz_in C⟩) (fun h1 => br_c (fun h2 => br_c (fun h3 => ?_) (fun h3 => br_f h1 (br_t h2 (br_f h3 ⟨rfl, jz_in C⟩)))) (fun h2 => br_f h1 (br_f h2 ⟨rfl, jz_in C⟩)))
  have hd : dp < 12 := jz_lit h3 (m := 12) (by decide) (by omega)
  have q1 := mt ja_lt.mpr h1
  have q2 := ja_lt.mp h2
  rw [ja_1] at q1
  rw [nI_toInt (by omega)] at q2
  have e := jk_nI (x := v1) (by omega)
  generalize hv : v1.toInt.toNat = hz' at e
  subst e
  have C1 := jz_C_push (p := -5) (q := nI hz) (hz' := hz') C hd (Or.inl ⟨rfl, hz, c3, rfl⟩) (by omega) (al := f_alive) (le := f_least) (be := a_best) (ma := a_mask) (bf := a_before)
  refine jx_push hd (jz_possible0 C1 (fun r wf wt f_moved1 f_failed1 f_level1 f_pickA1 f_pickB1 f_inTree1 a_lo1 a_hi1 a_pred1 a_savedLo1 a_savedHi1 a_savedPred1 a_savedA1 a_savedB1 a_raised1 a_cut1 a_place1 a_sum1 a_ect1 O => ?_))
  rcases O with ⟨er, no⟩ | ⟨er, yes⟩
  · subst er
    refine br_t rfl (br_f h1 (br_t h2 (br_t h3 (jy_push hd ?_))))
    unfold wpY_state
    dsimp only
    refine jz_explore C1 (fun f_alive1 f_least1 a_best1 a_mask1 a_before1 a_list1 a_turnOf1 a_line1 a_trial1 a_late1 a_taken1 a_jobEdge1 a_machineEdge1 K C2 => br_t ?_ ⟨rfl, jz_in C2⟩)
    exact K.1.resolve_right fun z => no (K.2.1.mp z)
  · subst er
    refine br_f ja_10 (br_f h1 (br_t h2 (br_t h3 (jy_push hd ?_))))
    unfold wpY_state
    dsimp only
    refine jz_explore C1 (fun f_alive1 f_least1 a_best1 a_mask1 a_before1 a_list1 a_turnOf1 a_line1 a_trial1 a_late1 a_taken1 a_jobEdge1 a_machineEdge1 K C2 => br_f ?_ ⟨rfl, jz_in C2⟩)
    rw [K.2.1.mpr yes]; exact ja_10
theorem jz_settle {k : Nat} (C : (jr_C mc fh hz J n dp f_recorded a_releaseOf a_dueOf a_jobOf a_machineOf a_durationOf a_entryA a_entryB a_noted a_recordedStart f_known f_alive f_least a_best a_mask a_before)) : wpX_settle (fun r u' => wpY_settle (fun r' v' => r' = r ∧ i_Rel (k + 4) u' v') (nI mc, nI fh, nI hz, nI dp, nI J, nI n, f_recorded, f_known, f_alive, f_least, a_releaseOf, a_dueOf, a_jobOf, a_machineOf, a_durationOf, a_entryA, a_entryB, a_recordedStart, a_best, a_mask, a_before, a_list, a_turnOf, a_line, a_trial, a_late, a_taken, a_jobEdge, a_machineEdge)) (nI mc, nI fh, nI hz, nI J, nI n, nI dp, f_recorded, f_wantA, f_wantB, f_moved, f_failed, f_level, f_pickA, f_pickB, f_inTree, a_releaseOf, a_dueOf, a_jobOf, a_machineOf, a_durationOf, a_entryA, a_entryB, a_noted, a_wantFrom, a_wantTo, a_lo, a_hi, a_pred, a_savedLo, a_savedHi, a_savedPred, a_savedA, a_savedB, a_raised, a_cut, a_place, a_sum, a_ect) := by
  have C' := C
  obtain ⟨⟨c1, c2, c3, c4, c5, c6⟩, c7, c8, c9, c10, c11, c12⟩ := C'
  have V := jr_V C
  unfold wpX_settle wpY_settle
  dsimp only
  refine br_c (fun h1 => jx_leastMakespan V c3 rfl (fun r wf wt f_moved1 f_failed1 f_level1 f_pickA1 f_pickB1 f_inTree1 a_lo1 a_hi1 a_pred1 a_savedLo1 a_savedHi1 a_savedPred1 a_savedA1 a_savedB1 a_raised1 a_cut1 a_place1 a_sum1 a_ect1 hw O => ?_)) (fun h1 => br_f h1 ⟨rfl, jz_in C⟩)
  have hd : dp < 12 := jz_lit h1 (m := 12) (by decide) (by omega)
  rcases O with ⟨er, no⟩ | ⟨c, hc, er, yes, least⟩
  · subst er
    refine br_t rfl (br_t h1 (jz_explore C (fun f_alive2 f_least2 a_best2 a_mask2 a_before2 a_list2 a_turnOf2 a_line2 a_trial2 a_late2 a_taken2 a_jobEdge2 a_machineEdge2 K C2 => br_t ?_ ⟨rfl, jz_in C2⟩)))
    exact K.1.resolve_right fun z => no (K.2.1.mp z)
  · subst er
    have n4 : ¬ nI c = -4 := fun z => by
      have := ja_eq.mp z
      rw [nI_toInt (by omega), ja_m4] at this
      omega
    refine br_f n4 (jx_push hd (br_t h1 (jz_explore C (fun f_alive2 f_least2 a_best2 a_mask2 a_before2 a_list2 a_turnOf2 a_line2 a_trial2 a_late2 a_taken2 a_jobEdge2 a_machineEdge2 K C2 => ?_))))
    obtain ⟨a1, e, _, _⟩ := jz_least K hc c3 yes least
    refine br_f (by rw [a1]; exact ja_10) (jy_push hd ?_)
    rw [e]
    exact ⟨rfl, jz_in (jz_C_push C hd (Or.inl ⟨rfl, hz, c3, rfl⟩) (by omega))⟩
theorem jz_solve {k : Nat} (C : (jr_C mc fh hz J n dp f_recorded a_releaseOf a_dueOf a_jobOf a_machineOf a_durationOf a_entryA a_entryB a_noted a_recordedStart f_known f_alive f_least a_best a_mask a_before)) : wpX_solve (fun r u' => wpY_solve (fun r' v' => r' = r ∧ i_Rel (k + 4) u' v') (nI mc, nI fh, nI hz, nI dp, nI J, nI n, f_recorded, f_known, f_alive, f_least, a_releaseOf, a_dueOf, a_jobOf, a_machineOf, a_durationOf, a_entryA, a_entryB, a_recordedStart, a_best, a_mask, a_before, a_list, a_turnOf, a_line, a_trial, a_late, a_taken, a_jobEdge, a_machineEdge)) (nI mc, nI fh, nI hz, nI J, nI n, nI dp, f_recorded, f_wantA, f_wantB, f_moved, f_failed, f_level, f_pickA, f_pickB, f_inTree, a_releaseOf, a_dueOf, a_jobOf, a_machineOf, a_durationOf, a_entryA, a_entryB, a_noted, a_wantFrom, a_wantTo, a_lo, a_hi, a_pred, a_savedLo, a_savedHi, a_savedPred, a_savedA, a_savedB, a_raised, a_cut, a_place, a_sum, a_ect) := by
  have C' := C
  obtain ⟨⟨c1, c2, c3, c4, c5, c6⟩, c7, c8, c9, c10, c11, c12⟩ := C'
  have V := jr_V C
  unfold wpX_solve
  dsimp only
  refine jx_leastMakespan V c3 rfl (fun r wf wt f_moved1 f_failed1 f_level1 f_pickA1 f_pickB1 f_inTree1 a_lo1 a_hi1 a_pred1 a_savedLo1 a_savedHi1 a_savedPred1 a_savedA1 a_savedB1 a_raised1 a_cut1 a_place1 a_sum1 a_ect1 hw O => ?_)
  rcases O with ⟨er, no⟩ | ⟨c, hc, er, yes, least⟩
  · subst er
    refine br_t rfl ?_
    show wpY_solve _ (nI mc, nI fh, nI hz, nI dp, nI J, nI n, f_recorded, f_known, f_alive, f_least, a_releaseOf, a_dueOf, a_jobOf, a_machineOf, a_durationOf, a_entryA, a_entryB, a_recordedStart, a_best, a_mask, a_before, a_list, a_turnOf, a_line, a_trial, a_late, a_taken, a_jobEdge, a_machineEdge)
    unfold wpY_solve
    dsimp only
    refine jz_explore C (fun f_alive2 f_least2 a_best2 a_mask2 a_before2 a_list2 a_turnOf2 a_line2 a_trial2 a_late2 a_taken2 a_jobEdge2 a_machineEdge2 K C2 => br_t ?_ ⟨rfl, jz_in C2⟩)
    exact K.1.resolve_right fun z => no (K.2.1.mp z)
  · subst er
    have n4 : ¬ nI c = -4 := fun z => by
      have := ja_eq.mp z
      rw [nI_toInt (by omega), ja_m4] at this
      omega
    refine br_f n4 (jx_solveL V (by omega) rfl (fun o ho => hw o (by omega)) (fun no wt3 f_moved3 f_failed3 f_level3 f_pickA3 f_pickB3 f_inTree3 a_lo3 a_hi3 a_pred3 a_savedLo3 a_savedHi3 a_savedPred3 a_savedA3 a_savedB3 a_raised3 a_cut3 a_place3 a_sum3 a_ect3 hno => ?_))
    show wpY_solve _ (nI mc, nI fh, nI hz, nI dp, nI J, nI n, f_recorded, f_known, f_alive, f_least, a_releaseOf, a_dueOf, a_jobOf, a_machineOf, a_durationOf, a_entryA, a_entryB, a_recordedStart, a_best, a_mask, a_before, a_list, a_turnOf, a_line, a_trial, a_late, a_taken, a_jobEdge, a_machineEdge)
    unfold wpY_solve
    dsimp only
    refine jz_explore C (fun f_alive2 f_least2 a_best2 a_mask2 a_before2 a_list2 a_turnOf2 a_line2 a_trial2 a_late2 a_taken2 a_jobEdge2 a_machineEdge2 K C2 => ?_)
    obtain ⟨a1, e, hB, hlx⟩ := jz_least K hc c3 yes least
    refine br_f (by rw [a1]; exact ja_10) ?_
    have hno' := hno a_best2 hB hlx
    refine loop_0 (σ := Nat → Int32) (fun m i s => (wY_solve_16 (fun r' v' => r' = nI c ∧ i_Rel (k + 4) (nI mc, nI fh, nI hz, nI J, nI n, nI dp, 1, -5, -5, f_moved3, f_failed3, f_level3, f_pickA3, f_pickB3, f_inTree3, a_releaseOf, a_dueOf, a_jobOf, a_machineOf, a_durationOf, a_entryA, a_entryB, no, wf, wt3, a_lo3, a_hi3, a_pred3, a_savedLo3, a_savedHi3, a_savedPred3, a_savedA3, a_savedB3, a_raised3, a_cut3, a_place3, a_sum3, a_ect3) v') (nI mc) (nI fh) (nI hz) (nI dp) (nI J) (nI n) f_recorded 1 f_alive2 f_least2 m (nI i) a_releaseOf a_dueOf a_jobOf a_machineOf a_durationOf a_entryA a_entryB s a_best2 a_mask2 a_before2 a_list2 a_turnOf2 a_line2 a_trial2 a_late2 a_taken2 a_jobEdge2 a_machineEdge2)) (fun i s => ∀ o, o < i → s o = a_best2 o) n a_recordedStart (fun o ho => by omega) ?_ ?_
    · intro m s hs
      refine br_t (nI_le (Nat.le_refl _) (by omega)) ⟨e, jz_in ?_⟩
      obtain ⟨d0, d1, d2, d3, d4, d5, d6⟩ := C2
      refine ⟨d0, d1, d2, d3, d4, Or.inr ⟨rfl, fun o ho => ?_⟩, d6⟩
      rw [hs o ho, hno' o ho]
      have q1 := hB.1 o ho
      have q2 := V.2.2.2.2.2.1 o ho
      have q3 := V.2.2.1 o ho
      refine ⟨rfl, ?_⟩
      have q1 : _ ≤ (a_best2 o).toInt ∧ (a_best2 o).toInt + _ ≤ _ ∧ (a_best2 o).toInt + _ ≤ _ := q1
      omega
    · intro m i s hi hs K'
      have vi : vp_in (nI i) 8 := vp_in_nI (by omega) (by omega)
      have ci : (nI i).toNatClampNeg = i := nI_clamp (by omega)
      refine br_f (nI_ge hi (by omega)) (And.intro vi (And.intro vi ?_))
      rw [ci]
      refine nm_e (nm_r (nI_1 i) (K' _ fun o ho => ?_))
      by_cases w : o = i
      · subst w; exact pk_us
      · rw [pk_un w]; exact hs o (by omega)
theorem jz_fits {k : Nat} (C : (jr_C mc fh hz J n dp f_recorded a_releaseOf a_dueOf a_jobOf a_machineOf a_durationOf a_entryA a_entryB a_noted a_recordedStart f_known f_alive f_least a_best a_mask a_before)) : wpX_fits (fun r u' => wpY_fits (fun r' v' => r' = r ∧ i_Rel (k + 4) u' v') (nI mc, nI fh, nI hz, nI dp, nI J, nI n, f_recorded, f_known, f_alive, f_least, a_releaseOf, a_dueOf, a_jobOf, a_machineOf, a_durationOf, a_entryA, a_entryB, a_recordedStart, a_best, a_mask, a_before, a_list, a_turnOf, a_line, a_trial, a_late, a_taken, a_jobEdge, a_machineEdge)) (nI mc, nI fh, nI hz, nI J, nI n, nI dp, f_recorded, f_wantA, f_wantB, f_moved, f_failed, f_level, f_pickA, f_pickB, f_inTree, a_releaseOf, a_dueOf, a_jobOf, a_machineOf, a_durationOf, a_entryA, a_entryB, a_noted, a_wantFrom, a_wantTo, a_lo, a_hi, a_pred, a_savedLo, a_savedHi, a_savedPred, a_savedA, a_savedB, a_raised, a_cut, a_place, a_sum, a_ect) := by
  have C' := C
  obtain ⟨⟨c1, c2, c3, c4, c5, c6⟩, c7, c8, c9, c10, c11, c12⟩ := C'
  have V := jr_V C
  unfold wpX_fits
  dsimp only
  refine br_c (fun h1 => br_t h1 ⟨rfl, jz_in C⟩) (fun h1 => jx_ask (fun wf wt hw => ?_))
  obtain ⟨_, hrec⟩ := c11.resolve_left h1
  refine jx_fitsL V rfl (fun o ho => (hrec o ho).2) (fun r wf2 wt2 f_moved1 f_failed1 f_level1 f_pickA1 f_pickB1 f_inTree1 a_lo1 a_hi1 a_pred1 a_savedLo1 a_savedHi1 a_savedPred1 a_savedA1 a_savedB1 a_raised1 a_cut1 a_place1 a_sum1 a_ect1 O => ?_)
  show wpY_fits _ (nI mc, nI fh, nI hz, nI dp, nI J, nI n, f_recorded, f_known, f_alive, f_least, a_releaseOf, a_dueOf, a_jobOf, a_machineOf, a_durationOf, a_entryA, a_entryB, a_recordedStart, a_best, a_mask, a_before, a_list, a_turnOf, a_line, a_trial, a_late, a_taken, a_jobEdge, a_machineEdge)
  refine br_f h1 ?_
  refine loop_0 (σ := Nat → Int32) (fun m i s => (wY_fits_12 (fun r' v' => r' = r ∧ i_Rel (k + 4) (nI mc, nI fh, nI hz, nI J, nI n, nI dp, f_recorded, -5, -5, f_moved1, f_failed1, f_level1, f_pickA1, f_pickB1, f_inTree1, a_releaseOf, a_dueOf, a_jobOf, a_machineOf, a_durationOf, a_entryA, a_entryB, a_noted, wf2, wt2, a_lo1, a_hi1, a_pred1, a_savedLo1, a_savedHi1, a_savedPred1, a_savedA1, a_savedB1, a_raised1, a_cut1, a_place1, a_sum1, a_ect1) v') (nI mc) (nI fh) (nI hz) (nI dp) (nI J) (nI n) f_recorded f_known f_alive f_least m (nI i) a_releaseOf a_dueOf a_jobOf a_machineOf a_durationOf a_entryA a_entryB a_recordedStart a_best a_mask a_before a_list a_turnOf a_line s a_late a_taken a_jobEdge a_machineEdge)) (fun i s => ∀ o, o < i → s o = a_noted o) n a_trial (fun o ho => by omega) ?_ ?_
  · intro m s hs
    refine br_t (nI_le (Nat.le_refl _) (by omega)) (jy_feasible V (fun o ho => by rw [hs o ho]; exact (hrec o ho).2) (fun q => br_f ja_10 ⟨?_, jz_in C⟩) (fun q => br_t rfl ⟨?_, jz_in C⟩))
    · rcases O with ⟨e, _⟩ | ⟨_, w⟩
      · exact e.symm
      · exact absurd (jf_F_cg (fun o ho => by show (a_noted o).toInt = (s o).toInt; rw [hs o ho]) q) w
    · rcases O with ⟨_, w⟩ | ⟨e, _⟩
      · exact absurd (jf_F_cg (fun o ho => by show (s o).toInt = (a_noted o).toInt; rw [hs o ho]) w) q
      · exact e.symm
  · intro m i s hi hs K'
    have vi : vp_in (nI i) 8 := vp_in_nI (by omega) (by omega)
    have ci : (nI i).toNatClampNeg = i := nI_clamp (by omega)
    refine br_f (nI_ge hi (by omega)) (And.intro vi (And.intro vi ?_))
    rw [ci]
    refine nm_e (nm_r (nI_1 i) (K' _ fun o ho => ?_))
    by_cases w : o = i
    · subst w; rw [pk_us]; exact (hrec o hi).1
    · rw [pk_un w]; exact hs o (by omega)
theorem jz_startsY {post : Int64 → SY → Prop} (C : (jr_C mc fh hz J n dp f_recorded a_releaseOf a_dueOf a_jobOf a_machineOf a_durationOf a_entryA a_entryB a_noted a_recordedStart f_known f_alive f_least a_best a_mask a_before)) {op : Nat} (hop : op < n) (h : ∀ r (f_alive1 f_least1 : Int32) (a_best1 : Nat → Int32) (a_mask1 : Nat → Int64) (a_before1 : Nat → Int32) (a_list1 : Nat → Int32) (a_turnOf1 : Nat → Int32) (a_line1 : Nat → Int32) (a_trial1 : Nat → Int32) (a_late1 : Nat → Int32) (a_taken1 : Nat → Int32) (a_jobEdge1 : Nat → Int32) (a_machineEdge1 : Nat → Int32), (∀ t, t < 64 → (jk_b r t = true ↔ ∃ s, (jf_F n dp a_machineOf a_durationOf a_releaseOf a_dueOf a_jobOf a_entryA a_entryB (hz : Int)) s ∧ s op = (t : Int))) → (jr_C mc fh hz J n dp f_recorded a_releaseOf a_dueOf a_jobOf a_machineOf a_durationOf a_entryA a_entryB a_noted a_recordedStart 1 f_alive1 f_least1 a_best1 a_mask1 a_before1) → post r (nI mc, nI fh, nI hz, nI dp, nI J, nI n, f_recorded, 1, f_alive1, f_least1, a_releaseOf, a_dueOf, a_jobOf, a_machineOf, a_durationOf, a_entryA, a_entryB, a_recordedStart, a_best1, a_mask1, a_before1, a_list1, a_turnOf1, a_line1, a_trial1, a_late1, a_taken1, a_jobEdge1, a_machineEdge1)) : wpY_starts post (nI mc, nI fh, nI hz, nI dp, nI J, nI n, f_recorded, f_known, f_alive, f_least, a_releaseOf, a_dueOf, a_jobOf, a_machineOf, a_durationOf, a_entryA, a_entryB, a_recordedStart, a_best, a_mask, a_before, a_list, a_turnOf, a_line, a_trial, a_late, a_taken, a_jobEdge, a_machineEdge) (nI op) := by
  have c5 := C.1.2.2.2.2.1
  unfold wpY_starts
  dsimp only
  refine jy_isOp c5 (fun _ _ _ => br_f ja_10 (jz_explore C (fun f_alive1 f_least1 a_best1 a_mask1 a_before1 a_list1 a_turnOf1 a_line1 a_trial1 a_late1 a_taken1 a_jobEdge1 a_machineEdge1 K C2 => br_c (fun z => h 0 f_alive1 f_least1 a_best1 a_mask1 a_before1 a_list1 a_turnOf1 a_line1 a_trial1 a_late1 a_taken1 a_jobEdge1 a_machineEdge1 (fun t ht => ?_) C2) (fun z => ?_)))) (fun z => absurd ⟨op, hop, rfl⟩ z)
  · rw [jk_0]
    refine ⟨fun q => absurd q (by decide), fun ⟨s, q, _⟩ => ?_⟩
    have z' : f_alive1 = 0 := z
    have := K.2.1.mpr ⟨s, q⟩
    rw [z'] at this
    exact absurd this.symm ja_10
  · have vo : vp_in (nI op) 8 := vp_in_nI (by omega) (by omega)
    have co : (nI op).toNatClampNeg = op := nI_clamp (by omega)
    refine And.intro vo ?_
    rw [co]
    exact h _ f_alive1 f_least1 a_best1 a_mask1 a_before1 a_list1 a_turnOf1 a_line1 a_trial1 a_late1 a_taken1 a_jobEdge1 a_machineEdge1 (fun t ht => K.2.2.1 op hop t ht) C2
theorem jz_Fr (C : (jr_C mc fh hz J n dp f_recorded a_releaseOf a_dueOf a_jobOf a_machineOf a_durationOf a_entryA a_entryB a_noted a_recordedStart f_known f_alive f_least a_best a_mask a_before)) : ∀ s, (jf_F n dp a_machineOf a_durationOf a_releaseOf a_dueOf a_jobOf a_entryA a_entryB (hz : Int)) s → ∀ o, o < n → 0 ≤ s o ∧ s o < 60 := fun s q o ho => by
  have V := jr_V C
  have q1 := q.1 o ho
  have q2 := V.2.2.2.2.2.1 o ho
  have q3 := V.2.2.1 o ho
  omega
theorem jz_earliest {k : Nat} (C : (jr_C mc fh hz J n dp f_recorded a_releaseOf a_dueOf a_jobOf a_machineOf a_durationOf a_entryA a_entryB a_noted a_recordedStart f_known f_alive f_least a_best a_mask a_before)) (v1 : Int32) : wpX_earliest (fun r u' => wpY_earliest (fun r' v' => r' = r ∧ i_Rel (k + 4) u' v') (nI mc, nI fh, nI hz, nI dp, nI J, nI n, f_recorded, f_known, f_alive, f_least, a_releaseOf, a_dueOf, a_jobOf, a_machineOf, a_durationOf, a_entryA, a_entryB, a_recordedStart, a_best, a_mask, a_before, a_list, a_turnOf, a_line, a_trial, a_late, a_taken, a_jobEdge, a_machineEdge) v1) (nI mc, nI fh, nI hz, nI J, nI n, nI dp, f_recorded, f_wantA, f_wantB, f_moved, f_failed, f_level, f_pickA, f_pickB, f_inTree, a_releaseOf, a_dueOf, a_jobOf, a_machineOf, a_durationOf, a_entryA, a_entryB, a_noted, a_wantFrom, a_wantTo, a_lo, a_hi, a_pred, a_savedLo, a_savedHi, a_savedPred, a_savedA, a_savedB, a_raised, a_cut, a_place, a_sum, a_ect) v1 := by
  have c3 := C.1.2.2.1
  have c5 := C.1.2.2.2.2.1
  have V := jr_V C
  have eh : (nI hz).toInt = (hz : Int) := nI_toInt (by omega)
  unfold wpX_earliest wpY_earliest
  dsimp only
  refine jx_isOp c5 (fun a ha ea => br_f ja_10 (jx_ask (fun wf wt hw => ?_))) (fun z => br_t rfl (jy_isOp c5 (fun a ha ea => absurd ⟨a, ha, ea⟩ z) (fun _ => br_t rfl ⟨rfl, jz_in C⟩)))
  subst ea
  dsimp only
  refine jx_leastStart V ha (fun a ha => by rw [(hw a (by omega)).1, (hw a (by omega)).2, ja_0, ja_60]; omega) (Or.inl rfl) (fun r wt2 f_moved1 f_failed1 f_level1 f_pickA1 f_pickB1 f_inTree1 a_lo1 a_hi1 a_pred1 a_savedLo1 a_savedHi1 a_savedPred1 a_savedA1 a_savedB1 a_raised1 a_cut1 a_place1 a_sum1 a_ect1 _ _ O => ?_)
  have e := fun s => jf_S_none (wB := (-5 : Int32)) (hz := (hz : Int)) V (fun o ho => hw o (by omega)) s
  rw [eh] at O
  have O' : jz_lo (jf_F n dp a_machineOf a_durationOf a_releaseOf a_dueOf a_jobOf a_entryA a_entryB (hz : Int)) a r := by
    rcases O with ⟨q1, q2⟩ | ⟨q1, ⟨s, q2, q3⟩, q4⟩
    · exact Or.inl ⟨q1, fun ⟨s, w⟩ => q2 ⟨s, (e s).mpr w⟩⟩
    · exact Or.inr ⟨q1, ⟨s, (e s).mp q2, q3⟩, fun s w => q4 s ((e s).mpr w)⟩
  refine jy_isOp c5 (fun _ _ _ => br_f ja_10 (jz_startsY C ha (fun x f_alive2 f_least2 a_best2 a_mask2 a_before2 a_list2 a_turnOf2 a_line2 a_trial2 a_late2 a_taken2 a_jobEdge2 a_machineEdge2 hb C2 => ?_))) (fun z => absurd ⟨a, ha, rfl⟩ z)
  exact jy_earliestL hb (fun s q => jz_Fr C s q a ha) (fun r' h' => ⟨jz_lo_u O' h', jz_in C2⟩)
theorem jz_latest {k : Nat} (C : (jr_C mc fh hz J n dp f_recorded a_releaseOf a_dueOf a_jobOf a_machineOf a_durationOf a_entryA a_entryB a_noted a_recordedStart f_known f_alive f_least a_best a_mask a_before)) (v1 : Int32) : wpX_latest (fun r u' => wpY_latest (fun r' v' => r' = r ∧ i_Rel (k + 4) u' v') (nI mc, nI fh, nI hz, nI dp, nI J, nI n, f_recorded, f_known, f_alive, f_least, a_releaseOf, a_dueOf, a_jobOf, a_machineOf, a_durationOf, a_entryA, a_entryB, a_recordedStart, a_best, a_mask, a_before, a_list, a_turnOf, a_line, a_trial, a_late, a_taken, a_jobEdge, a_machineEdge) v1) (nI mc, nI fh, nI hz, nI J, nI n, nI dp, f_recorded, f_wantA, f_wantB, f_moved, f_failed, f_level, f_pickA, f_pickB, f_inTree, a_releaseOf, a_dueOf, a_jobOf, a_machineOf, a_durationOf, a_entryA, a_entryB, a_noted, a_wantFrom, a_wantTo, a_lo, a_hi, a_pred, a_savedLo, a_savedHi, a_savedPred, a_savedA, a_savedB, a_raised, a_cut, a_place, a_sum, a_ect) v1 := by
  have c3 := C.1.2.2.1
  have c5 := C.1.2.2.2.2.1
  have V := jr_V C
  have eh : (nI hz).toInt = (hz : Int) := nI_toInt (by omega)
  unfold wpX_latest wpY_latest
  dsimp only
  refine jx_isOp c5 (fun a ha ea => br_f ja_10 (jx_ask (fun wf wt hw => ?_))) (fun z => br_t rfl (jy_isOp c5 (fun a ha ea => absurd ⟨a, ha, ea⟩ z) (fun _ => br_t rfl ⟨rfl, jz_in C⟩)))
  subst ea
  dsimp only
  refine jx_latestL V ha (fun a ha => by rw [(hw a (by omega)).1, (hw a (by omega)).2, ja_0, ja_60]; omega) (Or.inl rfl) (fun r wf2 f_moved1 f_failed1 f_level1 f_pickA1 f_pickB1 f_inTree1 a_lo1 a_hi1 a_pred1 a_savedLo1 a_savedHi1 a_savedPred1 a_savedA1 a_savedB1 a_raised1 a_cut1 a_place1 a_sum1 a_ect1 O => ?_)
  have e := fun s => jf_S_none (wB := (-5 : Int32)) (hz := (hz : Int)) V (fun o ho => hw o (by omega)) s
  rw [eh] at O
  have O' : jz_hi (jf_F n dp a_machineOf a_durationOf a_releaseOf a_dueOf a_jobOf a_entryA a_entryB (hz : Int)) a r := by
    rcases O with ⟨q1, q2⟩ | ⟨q1, ⟨s, q2, q3⟩, q4⟩
    · exact Or.inl ⟨q1, fun ⟨s, w⟩ => q2 ⟨s, (e s).mpr w⟩⟩
    · exact Or.inr ⟨q1, ⟨s, (e s).mp q2, q3⟩, fun s w => q4 s ((e s).mpr w)⟩
  refine jy_isOp c5 (fun _ _ _ => br_f ja_10 (jz_startsY C ha (fun x f_alive2 f_least2 a_best2 a_mask2 a_before2 a_list2 a_turnOf2 a_line2 a_trial2 a_late2 a_taken2 a_jobEdge2 a_machineEdge2 hb C2 => ?_))) (fun z => absurd ⟨a, ha, rfl⟩ z)
  exact jy_latestL hb (fun s q => jz_Fr C s q a ha) (fun r' h' => ⟨jz_hi_u O' h', jz_in C2⟩)
theorem jz_starts {k : Nat} (C : (jr_C mc fh hz J n dp f_recorded a_releaseOf a_dueOf a_jobOf a_machineOf a_durationOf a_entryA a_entryB a_noted a_recordedStart f_known f_alive f_least a_best a_mask a_before)) (v1 : Int32) : wpX_starts (fun r u' => wpY_starts (fun r' v' => r' = r ∧ i_Rel (k + 4) u' v') (nI mc, nI fh, nI hz, nI dp, nI J, nI n, f_recorded, f_known, f_alive, f_least, a_releaseOf, a_dueOf, a_jobOf, a_machineOf, a_durationOf, a_entryA, a_entryB, a_recordedStart, a_best, a_mask, a_before, a_list, a_turnOf, a_line, a_trial, a_late, a_taken, a_jobEdge, a_machineEdge) v1) (nI mc, nI fh, nI hz, nI J, nI n, nI dp, f_recorded, f_wantA, f_wantB, f_moved, f_failed, f_level, f_pickA, f_pickB, f_inTree, a_releaseOf, a_dueOf, a_jobOf, a_machineOf, a_durationOf, a_entryA, a_entryB, a_noted, a_wantFrom, a_wantTo, a_lo, a_hi, a_pred, a_savedLo, a_savedHi, a_savedPred, a_savedA, a_savedB, a_raised, a_cut, a_place, a_sum, a_ect) v1 := by
  have c3 := C.1.2.2.1
  have c5 := C.1.2.2.2.2.1
  have V := jr_V C
  have eh : (nI hz).toInt = (hz : Int) := nI_toInt (by omega)
  unfold wpX_starts
  dsimp only
  refine jx_isOp c5 (fun a ha ea => br_f ja_10 (jx_ask (fun wf wt hw => ?_))) (fun z => br_t rfl ?_)
  · subst ea
    dsimp only
    refine jx_startsL V ha rfl (fun o ho => hw o (by omega)) (fun r wf2 wt2 f_moved1 f_failed1 f_level1 f_pickA1 f_pickB1 f_inTree1 a_lo1 a_hi1 a_pred1 a_savedLo1 a_savedHi1 a_savedPred1 a_savedA1 a_savedB1 a_raised1 a_cut1 a_place1 a_sum1 a_ect1 O => ?_)
    rw [eh] at O
    refine jz_startsY C ha (fun x f_alive2 f_least2 a_best2 a_mask2 a_before2 a_list2 a_turnOf2 a_line2 a_trial2 a_late2 a_taken2 a_jobEdge2 a_machineEdge2 hb C2 => ⟨jk_ext fun t ht => ?_, jz_in C2⟩)
    have := (hb t ht).trans (O t ht).symm
    cases h1 : jk_b x t <;> cases h2 : jk_b r t <;> simp_all
  · unfold wpY_starts
    dsimp only
    exact jy_isOp c5 (fun a ha ea => absurd ⟨a, ha, ea⟩ z) (fun _ => br_t rfl ⟨rfl, jz_in C⟩)
theorem jz_relation {k : Nat} (C : (jr_C mc fh hz J n dp f_recorded a_releaseOf a_dueOf a_jobOf a_machineOf a_durationOf a_entryA a_entryB a_noted a_recordedStart f_known f_alive f_least a_best a_mask a_before)) (v1 v2 : Int32) : wpX_relation (fun r u' => wpY_relation (fun r' v' => r' = r ∧ i_Rel (k + 4) u' v') (nI mc, nI fh, nI hz, nI dp, nI J, nI n, f_recorded, f_known, f_alive, f_least, a_releaseOf, a_dueOf, a_jobOf, a_machineOf, a_durationOf, a_entryA, a_entryB, a_recordedStart, a_best, a_mask, a_before, a_list, a_turnOf, a_line, a_trial, a_late, a_taken, a_jobEdge, a_machineEdge) v1 v2) (nI mc, nI fh, nI hz, nI J, nI n, nI dp, f_recorded, f_wantA, f_wantB, f_moved, f_failed, f_level, f_pickA, f_pickB, f_inTree, a_releaseOf, a_dueOf, a_jobOf, a_machineOf, a_durationOf, a_entryA, a_entryB, a_noted, a_wantFrom, a_wantTo, a_lo, a_hi, a_pred, a_savedLo, a_savedHi, a_savedPred, a_savedA, a_savedB, a_raised, a_cut, a_place, a_sum, a_ect) v1 v2 := by
  have c3 := C.1.2.2.1
  have c5 := C.1.2.2.2.2.1
  have V := jr_V C
  have eh : (nI hz).toInt = (hz : Int) := nI_toInt (by omega)
  unfold wpX_relation wpY_relation
  dsimp only
  refine jx_comparable c5 (fun pr => br_f ja_10 ?_) (fun z => br_t rfl (jy_isPair c5 (fun pr => absurd pr z) (fun _ => br_t rfl ⟨rfl, jz_in C⟩)))
  have pr' := pr
  obtain ⟨a, b, ha, hb, e1, e2, hne, hM⟩ := pr'
  subst e1 e2
  have one : ∀ (p q : Nat), p < n → q < n → ∀ r : Int32, ((r = 0 ∧ ¬ ∃ s, jf_F n dp a_machineOf a_durationOf a_releaseOf a_dueOf a_jobOf a_entryA a_entryB (nI hz).toInt s ∧ (∀ x y, x < n → y < n → nI p = nI x → nI q = nI y → s x + (a_durationOf x).toInt ≤ s y)) ∨ (r = 1 ∧ ∃ s, jf_F n dp a_machineOf a_durationOf a_releaseOf a_dueOf a_jobOf a_entryA a_entryB (nI hz).toInt s ∧ (∀ x y, x < n → y < n → nI p = nI x → nI q = nI y → s x + (a_durationOf x).toInt ≤ s y))) →
      ((r = 0 ∧ ¬ ∃ s, (jf_F n dp a_machineOf a_durationOf a_releaseOf a_dueOf a_jobOf a_entryA a_entryB (hz : Int)) s ∧ s p + (a_durationOf p).toInt ≤ s q) ∨ (r = 1 ∧ ∃ s, (jf_F n dp a_machineOf a_durationOf a_releaseOf a_dueOf a_jobOf a_entryA a_entryB (hz : Int)) s ∧ s p + (a_durationOf p).toInt ≤ s q)) := by
    intro p q hp hq r O
    rw [eh] at O
    rcases O with ⟨e, w⟩ | ⟨e, s, w1, w2⟩
    · refine Or.inl ⟨e, fun ⟨s, w1, w2⟩ => w ⟨s, w1, fun x y hx hy ex ey => ?_⟩⟩
      have x1 := (nI_eq (by omega) (by omega)).mp ex
      have x2 := (nI_eq (by omega) (by omega)).mp ey
      rw [← x1, ← x2]; exact w2
    · exact Or.inr ⟨e, s, w1, w2 p q hp hq rfl rfl⟩
  refine jx_possible V (Or.inr ⟨a, b, ha, hb, rfl, rfl⟩) (fun r1 wf1 wt1 f_moved1 f_failed1 f_level1 f_pickA1 f_pickB1 f_inTree1 a_lo1 a_hi1 a_pred1 a_savedLo1 a_savedHi1 a_savedPred1 a_savedA1 a_savedB1 a_raised1 a_cut1 a_place1 a_sum1 a_ect1 _ O1 => ?_)
  refine jx_possible V (Or.inr ⟨b, a, hb, ha, rfl, rfl⟩) (fun r2 wf2 wt2 f_moved2 f_failed2 f_level2 f_pickA2 f_pickB2 f_inTree2 a_lo2 a_hi2 a_pred2 a_savedLo2 a_savedHi2 a_savedPred2 a_savedA2 a_savedB2 a_raised2 a_cut2 a_place2 a_sum2 a_ect2 _ O2 => ?_)
  have O1 := one a b ha hb r1 O1
  have O2 := one b a hb ha r2 O2
  have i1 : nI b * 8 + nI a = nI (b * 8 + a) := jl_ix
  have i2 : nI a * 8 + nI b = nI (a * 8 + b) := jl_ix
  have v1' : vp_in (nI (b * 8 + a)) 64 := vp_in_nI (by omega) (by omega)
  have v2' : vp_in (nI (a * 8 + b)) 64 := vp_in_nI (by omega) (by omega)
  have k1 : (nI (b * 8 + a)).toNatClampNeg = b * 8 + a := nI_clamp (by omega)
  have k2 : (nI (a * 8 + b)).toNatClampNeg = a * 8 + b := nI_clamp (by omega)
  have Y : ∀ (ans : Int32) (u' : SX), (∀ (f_alive3 f_least3 : Int32) (a_best3 : Nat → Int32) (a_mask3 : Nat → Int64) (a_before3 : Nat → Int32) (a_list3 : Nat → Int32) (a_turnOf3 : Nat → Int32) (a_line3 : Nat → Int32) (a_trial3 : Nat → Int32) (a_late3 : Nat → Int32) (a_taken3 : Nat → Int32) (a_jobEdge3 : Nat → Int32) (a_machineEdge3 : Nat → Int32), (jr_C mc fh hz J n dp f_recorded a_releaseOf a_dueOf a_jobOf a_machineOf a_durationOf a_entryA a_entryB a_noted a_recordedStart 1 f_alive3 f_least3 a_best3 a_mask3 a_before3) → i_Rel (k + 4) u' (nI mc, nI fh, nI hz, nI dp, nI J, nI n, f_recorded, 1, f_alive3, f_least3, a_releaseOf, a_dueOf, a_jobOf, a_machineOf, a_durationOf, a_entryA, a_entryB, a_recordedStart, a_best3, a_mask3, a_before3, a_list3, a_turnOf3, a_line3, a_trial3, a_late3, a_taken3, a_jobEdge3, a_machineEdge3)) →
      (((r1 = 0 ∧ r2 = 0) ∧ ans = -4) ∨ ((¬ r1 = 0 ∧ r2 = 0) ∧ ans = 1) ∨ ((r1 = 0 ∧ ¬ r2 = 0) ∧ ans = 2) ∨ ((¬ r1 = 0 ∧ ¬ r2 = 0) ∧ ans = 3)) →
      wpY_isPair (fun r_1 => (((r_1 = 0 → ((-1 : Int32) = ans ∧ i_Rel (k + 4) u' (nI mc, nI fh, nI hz, nI dp, nI J, nI n, f_recorded, f_known, f_alive, f_least, a_releaseOf, a_dueOf, a_jobOf, a_machineOf, a_durationOf, a_entryA, a_entryB, a_recordedStart, a_best, a_mask, a_before, a_list, a_turnOf, a_line, a_trial, a_late, a_taken, a_jobEdge, a_machineEdge))) ∧ (¬ r_1 = 0 → (wpY_explore (fun u => match u with | (f_machineCount, f_top, f_horizon, f_depth, f_jobs, f_ops, f_recorded, f_known, f_alive, f_least, a_releaseOf, a_dueOf, a_jobOf, a_machineOf, a_length, a_trailA, a_trailB, a_recordedStart, a_best, a_mask, a_before, a_list, a_turnOf, a_line, a_trial, a_late, a_taken, a_jobEdge, a_machineEdge) => (((f_alive = 0 → ((-4 : Int32) = ans ∧ i_Rel (k + 4) u' (f_machineCount, f_top, f_horizon, f_depth, f_jobs, f_ops, f_recorded, f_known, f_alive, f_least, a_releaseOf, a_dueOf, a_jobOf, a_machineOf, a_length, a_trailA, a_trailB, a_recordedStart, a_best, a_mask, a_before, a_list, a_turnOf, a_line, a_trial, a_late, a_taken, a_jobEdge, a_machineEdge))) ∧ (¬ f_alive = 0 → (vp_in ((nI b * 8) + nI a) 64 ∧ ((((a_before ((nI b * 8) + nI a).toNatClampNeg) = 0 → ((1 : Int32) = ans ∧ i_Rel (k + 4) u' (f_machineCount, f_top, f_horizon, f_depth, f_jobs, f_ops, f_recorded, f_known, f_alive, f_least, a_releaseOf, a_dueOf, a_jobOf, a_machineOf, a_length, a_trailA, a_trailB, a_recordedStart, a_best, a_mask, a_before, a_list, a_turnOf, a_line, a_trial, a_late, a_taken, a_jobEdge, a_machineEdge))) ∧ (¬ (a_before ((nI b * 8) + nI a).toNatClampNeg) = 0 → (vp_in ((nI a * 8) + nI b) 64 ∧ ((((a_before ((nI a * 8) + nI b).toNatClampNeg) = 0 → ((2 : Int32) = ans ∧ i_Rel (k + 4) u' (f_machineCount, f_top, f_horizon, f_depth, f_jobs, f_ops, f_recorded, f_known, f_alive, f_least, a_releaseOf, a_dueOf, a_jobOf, a_machineOf, a_length, a_trailA, a_trailB, a_recordedStart, a_best, a_mask, a_before, a_list, a_turnOf, a_line, a_trial, a_late, a_taken, a_jobEdge, a_machineEdge))) ∧ (¬ (a_before ((nI a * 8) + nI b).toNatClampNeg) = 0 → ((3 : Int32) = ans ∧ i_Rel (k + 4) u' (f_machineCount, f_top, f_horizon, f_depth, f_jobs, f_ops, f_recorded, f_known, f_alive, f_least, a_releaseOf, a_dueOf, a_jobOf, a_machineOf, a_length, a_trailA, a_trailB, a_recordedStart, a_best, a_mask, a_before, a_list, a_turnOf, a_line, a_trial, a_late, a_taken, a_jobEdge, a_machineEdge)))))))))))))) (nI mc, nI fh, nI hz, nI dp, nI J, nI n, f_recorded, f_known, f_alive, f_least, a_releaseOf, a_dueOf, a_jobOf, a_machineOf, a_durationOf, a_entryA, a_entryB, a_recordedStart, a_best, a_mask, a_before, a_list, a_turnOf, a_line, a_trial, a_late, a_taken, a_jobEdge, a_machineEdge)))))) (nI mc, nI fh, nI hz, nI dp, nI J, nI n, f_recorded, f_known, f_alive, f_least, a_releaseOf, a_dueOf, a_jobOf, a_machineOf, a_durationOf, a_entryA, a_entryB, a_recordedStart, a_best, a_mask, a_before, a_list, a_turnOf, a_line, a_trial, a_late, a_taken, a_jobEdge, a_machineEdge) (nI a) (nI b) := by
    intro ans u' hu hans
    refine jy_isPair c5 (fun _ => br_f ja_10 (jz_explore C (fun f_alive3 f_least3 a_best3 a_mask3 a_before3 a_list3 a_turnOf3 a_line3 a_trial3 a_late3 a_taken3 a_jobEdge3 a_machineEdge3 K C2 => ?_))) (fun z => absurd pr z)
    have R := hu f_alive3 f_least3 a_best3 a_mask3 a_before3 a_list3 a_turnOf3 a_line3 a_trial3 a_late3 a_taken3 a_jobEdge3 a_machineEdge3 C2
    have b1 := K.2.2.2.1 b a hb ha (Ne.symm hne) hM.symm
    have b2 := K.2.2.2.1 a b ha hb hne hM
    have al := K.2.1
    rw [i1, i2, k1, k2]
    have q1 : r1 = 0 ↔ ¬ ∃ s, (jf_F n dp a_machineOf a_durationOf a_releaseOf a_dueOf a_jobOf a_entryA a_entryB (hz : Int)) s ∧ s a + (a_durationOf a).toInt ≤ s b := by
      rcases O1 with ⟨w1, w2⟩ | ⟨w1, w2⟩
      · exact ⟨fun _ => w2, fun _ => w1⟩
      · exact ⟨fun w => by rw [w1] at w; exact absurd w ja_10, fun w => absurd w2 w⟩
    have q2 : r2 = 0 ↔ ¬ ∃ s, (jf_F n dp a_machineOf a_durationOf a_releaseOf a_dueOf a_jobOf a_entryA a_entryB (hz : Int)) s ∧ s b + (a_durationOf b).toInt ≤ s a := by
      rcases O2 with ⟨w1, w2⟩ | ⟨w1, w2⟩
      · exact ⟨fun _ => w2, fun _ => w1⟩
      · exact ⟨fun w => by rw [w1] at w; exact absurd w ja_10, fun w => absurd w2 w⟩
    have z1 : a_before3 (b * 8 + a) = 0 ↔ r2 = 0 := by
      rw [q2, ← b1]
      exact ⟨fun w y => y w, fun w => Classical.byContradiction fun y => w y⟩
    have z2 : a_before3 (a * 8 + b) = 0 ↔ r1 = 0 := by
      rw [q1, ← b2]
      exact ⟨fun w y => y w, fun w => Classical.byContradiction fun y => w y⟩
    have z0 : f_alive3 = 0 ↔ (r1 = 0 ∧ r2 = 0) := by
      rw [q1, q2]
      constructor
      · intro w
        have : ¬ ∃ s, (jf_F n dp a_machineOf a_durationOf a_releaseOf a_dueOf a_jobOf a_entryA a_entryB (hz : Int)) s := fun y => by
          have := al.mpr y
          rw [w] at this
          exact absurd this.symm ja_10
        exact ⟨fun ⟨s, y, _⟩ => this ⟨s, y⟩, fun ⟨s, y, _⟩ => this ⟨s, y⟩⟩
      · rintro ⟨w1, w2⟩
        refine K.1.resolve_right fun y => ?_
        obtain ⟨s, hs⟩ := al.mp y
        rcases hs.2.2.1 a b ha hb hne hM with u | u
        · exact w1 ⟨s, hs, u⟩
        · exact w2 ⟨s, hs, u⟩
    rcases hans with ⟨w, e⟩ | ⟨w, e⟩ | ⟨w, e⟩ | ⟨w, e⟩
    · exact br_t (z0.mpr w) ⟨e.symm, R⟩
    · exact br_f (fun y => w.1 (z0.mp y).1) (And.intro v1' (br_t (z1.mpr w.2) ⟨e.symm, R⟩))
    · exact br_f (fun y => w.2 (z0.mp y).2) (And.intro v1' (br_f (fun y => w.2 (z1.mp y)) (And.intro v2' (br_t (z2.mpr w.1) ⟨e.symm, R⟩))))
    · exact br_f (fun y => w.1 (z0.mp y).1) (And.intro v1' (br_f (fun y => w.2 (z1.mp y)) (And.intro v2' (br_f (fun y => w.1 (z2.mp y)) ⟨e.symm, R⟩))))
  refine br_c (fun h1 => ?_) (fun h1 => br_c (fun h2 => ?_) (fun h2 => ?_))
  · refine br_t h1 (br_c (fun h2 => ?_) (fun h2 => ?_))
    · exact Y _ _ (fun f_alive3 f_least3 a_best3 a_mask3 a_before3 a_list3 a_turnOf3 a_line3 a_trial3 a_late3 a_taken3 a_jobEdge3 a_machineEdge3 C2 => jz_in C2) (Or.inl ⟨⟨h1, h2⟩, rfl⟩)
    · exact Y _ _ (fun f_alive3 f_least3 a_best3 a_mask3 a_before3 a_list3 a_turnOf3 a_line3 a_trial3 a_late3 a_taken3 a_jobEdge3 a_machineEdge3 C2 => jz_in C2) (Or.inr (Or.inr (Or.inl ⟨⟨h1, h2⟩, rfl⟩)))
  · exact br_f h1 (Y _ _ (fun f_alive3 f_least3 a_best3 a_mask3 a_before3 a_list3 a_turnOf3 a_line3 a_trial3 a_late3 a_taken3 a_jobEdge3 a_machineEdge3 C2 => jz_in C2) (Or.inr (Or.inl ⟨⟨h1, h2⟩, rfl⟩)))
  · exact Y _ _ (fun f_alive3 f_least3 a_best3 a_mask3 a_before3 a_list3 a_turnOf3 a_line3 a_trial3 a_late3 a_taken3 a_jobEdge3 a_machineEdge3 C2 => jz_in C2) (Or.inr (Or.inr (Or.inr ⟨⟨h1, h2⟩, rfl⟩)))
end
end
section
/-! what is owed -/
theorem i_vc_reset {k : Nat} {u : SX} {v : SY} (I : i_Rel k u v) (hk : k + 4 ≤ 2050) : wpX_reset (fun u' => wpY_reset (fun v' => i_Rel (k + 4) u' v') v) u :=
  jz_el (P := fun u v => wpX_reset (fun u' => wpY_reset (fun v' => i_Rel (k + 4) u' v') v) u) (fun mc fh hz J n dp f_recorded f_wantA f_wantB f_moved f_failed f_level f_pickA f_pickB f_inTree f_known f_alive f_least a_releaseOf a_dueOf a_jobOf a_machineOf a_durationOf a_entryA a_entryB a_noted a_wantFrom a_wantTo a_lo a_hi a_pred a_savedLo a_savedHi a_savedPred a_savedA a_savedB a_raised a_cut a_place a_sum a_ect a_recordedStart a_best a_before a_list a_turnOf a_line a_trial a_late a_taken a_jobEdge a_machineEdge a_mask C => jz_reset C) I
theorem i_vc_job {k : Nat} {u : SX} {v : SY} (I : i_Rel k u v) (hk : k + 4 ≤ 2050) (v1 : Int32) (v2 : Int32) : wpX_job (fun r u' => wpY_job (fun r' v' => r' = r ∧ i_Rel (k + 4) u' v') v v1 v2) u v1 v2 :=
  jz_el (P := fun u v => wpX_job (fun r u' => wpY_job (fun r' v' => r' = r ∧ i_Rel (k + 4) u' v') v v1 v2) u v1 v2) (fun mc fh hz J n dp f_recorded f_wantA f_wantB f_moved f_failed f_level f_pickA f_pickB f_inTree f_known f_alive f_least a_releaseOf a_dueOf a_jobOf a_machineOf a_durationOf a_entryA a_entryB a_noted a_wantFrom a_wantTo a_lo a_hi a_pred a_savedLo a_savedHi a_savedPred a_savedA a_savedB a_raised a_cut a_place a_sum a_ect a_recordedStart a_best a_before a_list a_turnOf a_line a_trial a_late a_taken a_jobEdge a_machineEdge a_mask C => jz_job C v1 v2) I
theorem i_vc_op {k : Nat} {u : SX} {v : SY} (I : i_Rel k u v) (hk : k + 4 ≤ 2050) (v1 : Int32) (v2 : Int32) (v3 : Int32) : wpX_op (fun r u' => wpY_op (fun r' v' => r' = r ∧ i_Rel (k + 4) u' v') v v1 v2 v3) u v1 v2 v3 :=
  jz_el (P := fun u v => wpX_op (fun r u' => wpY_op (fun r' v' => r' = r ∧ i_Rel (k + 4) u' v') v v1 v2 v3) u v1 v2 v3) (fun mc fh hz J n dp f_recorded f_wantA f_wantB f_moved f_failed f_level f_pickA f_pickB f_inTree f_known f_alive f_least a_releaseOf a_dueOf a_jobOf a_machineOf a_durationOf a_entryA a_entryB a_noted a_wantFrom a_wantTo a_lo a_hi a_pred a_savedLo a_savedHi a_savedPred a_savedA a_savedB a_raised a_cut a_place a_sum a_ect a_recordedStart a_best a_before a_list a_turnOf a_line a_trial a_late a_taken a_jobEdge a_machineEdge a_mask C => jz_op C v1 v2 v3) I
theorem i_vc_order {k : Nat} {u : SX} {v : SY} (I : i_Rel k u v) (hk : k + 4 ≤ 2050) (v1 : Int32) (v2 : Int32) : wpX_order (fun r u' => wpY_order (fun r' v' => r' = r ∧ i_Rel (k + 4) u' v') v v1 v2) u v1 v2 :=
  jz_el (P := fun u v => wpX_order (fun r u' => wpY_order (fun r' v' => r' = r ∧ i_Rel (k + 4) u' v') v v1 v2) u v1 v2) (fun mc fh hz J n dp f_recorded f_wantA f_wantB f_moved f_failed f_level f_pickA f_pickB f_inTree f_known f_alive f_least a_releaseOf a_dueOf a_jobOf a_machineOf a_durationOf a_entryA a_entryB a_noted a_wantFrom a_wantTo a_lo a_hi a_pred a_savedLo a_savedHi a_savedPred a_savedA a_savedB a_raised a_cut a_place a_sum a_ect a_recordedStart a_best a_before a_list a_turnOf a_line a_trial a_late a_taken a_jobEdge a_machineEdge a_mask C => jz_order C v1 v2) I
theorem i_vc_limit {k : Nat} {u : SX} {v : SY} (I : i_Rel k u v) (hk : k + 4 ≤ 2050) (v1 : Int32) : wpX_limit (fun r u' => wpY_limit (fun r' v' => r' = r ∧ i_Rel (k + 4) u' v') v v1) u v1 :=
  jz_el (P := fun u v => wpX_limit (fun r u' => wpY_limit (fun r' v' => r' = r ∧ i_Rel (k + 4) u' v') v v1) u v1) (fun mc fh hz J n dp f_recorded f_wantA f_wantB f_moved f_failed f_level f_pickA f_pickB f_inTree f_known f_alive f_least a_releaseOf a_dueOf a_jobOf a_machineOf a_durationOf a_entryA a_entryB a_noted a_wantFrom a_wantTo a_lo a_hi a_pred a_savedLo a_savedHi a_savedPred a_savedA a_savedB a_raised a_cut a_place a_sum a_ect a_recordedStart a_best a_before a_list a_turnOf a_line a_trial a_late a_taken a_jobEdge a_machineEdge a_mask C => jz_limit C v1) I
theorem i_vc_settle {k : Nat} {u : SX} {v : SY} (I : i_Rel k u v) (hk : k + 4 ≤ 2050) : wpX_settle (fun r u' => wpY_settle (fun r' v' => r' = r ∧ i_Rel (k + 4) u' v') v) u :=
  jz_el (P := fun u v => wpX_settle (fun r u' => wpY_settle (fun r' v' => r' = r ∧ i_Rel (k + 4) u' v') v) u) (fun mc fh hz J n dp f_recorded f_wantA f_wantB f_moved f_failed f_level f_pickA f_pickB f_inTree f_known f_alive f_least a_releaseOf a_dueOf a_jobOf a_machineOf a_durationOf a_entryA a_entryB a_noted a_wantFrom a_wantTo a_lo a_hi a_pred a_savedLo a_savedHi a_savedPred a_savedA a_savedB a_raised a_cut a_place a_sum a_ect a_recordedStart a_best a_before a_list a_turnOf a_line a_trial a_late a_taken a_jobEdge a_machineEdge a_mask C => jz_settle C) I
theorem i_vc_undo {k : Nat} {u : SX} {v : SY} (I : i_Rel k u v) (hk : k + 4 ≤ 2050) : wpX_undo (fun r u' => wpY_undo (fun r' v' => r' = r ∧ i_Rel (k + 4) u' v') v) u :=
  jz_el (P := fun u v => wpX_undo (fun r u' => wpY_undo (fun r' v' => r' = r ∧ i_Rel (k + 4) u' v') v) u) (fun mc fh hz J n dp f_recorded f_wantA f_wantB f_moved f_failed f_level f_pickA f_pickB f_inTree f_known f_alive f_least a_releaseOf a_dueOf a_jobOf a_machineOf a_durationOf a_entryA a_entryB a_noted a_wantFrom a_wantTo a_lo a_hi a_pred a_savedLo a_savedHi a_savedPred a_savedA a_savedB a_raised a_cut a_place a_sum a_ect a_recordedStart a_best a_before a_list a_turnOf a_line a_trial a_late a_taken a_jobEdge a_machineEdge a_mask C => jz_undo C) I
theorem i_vc_solve {k : Nat} {u : SX} {v : SY} (I : i_Rel k u v) (hk : k + 4 ≤ 2050) : wpX_solve (fun r u' => wpY_solve (fun r' v' => r' = r ∧ i_Rel (k + 4) u' v') v) u :=
  jz_el (P := fun u v => wpX_solve (fun r u' => wpY_solve (fun r' v' => r' = r ∧ i_Rel (k + 4) u' v') v) u) (fun mc fh hz J n dp f_recorded f_wantA f_wantB f_moved f_failed f_level f_pickA f_pickB f_inTree f_known f_alive f_least a_releaseOf a_dueOf a_jobOf a_machineOf a_durationOf a_entryA a_entryB a_noted a_wantFrom a_wantTo a_lo a_hi a_pred a_savedLo a_savedHi a_savedPred a_savedA a_savedB a_raised a_cut a_place a_sum a_ect a_recordedStart a_best a_before a_list a_turnOf a_line a_trial a_late a_taken a_jobEdge a_machineEdge a_mask C => jz_solve C) I
theorem i_vc_start {k : Nat} {u : SX} {v : SY} (I : i_Rel k u v) (hk : k + 4 ≤ 2050) (v1 : Int32) : wpX_start (fun r => wpY_start (fun r' => r' = r ∧ i_Rel (k + 4) u v) v v1) u v1 :=
  jz_el (P := fun u v => wpX_start (fun r => wpY_start (fun r' => r' = r ∧ i_Rel (k + 4) u v) v v1) u v1) (fun mc fh hz J n dp f_recorded f_wantA f_wantB f_moved f_failed f_level f_pickA f_pickB f_inTree f_known f_alive f_least a_releaseOf a_dueOf a_jobOf a_machineOf a_durationOf a_entryA a_entryB a_noted a_wantFrom a_wantTo a_lo a_hi a_pred a_savedLo a_savedHi a_savedPred a_savedA a_savedB a_raised a_cut a_place a_sum a_ect a_recordedStart a_best a_before a_list a_turnOf a_line a_trial a_late a_taken a_jobEdge a_machineEdge a_mask C => jz_start C v1) I
theorem i_vc_fits {k : Nat} {u : SX} {v : SY} (I : i_Rel k u v) (hk : k + 4 ≤ 2050) : wpX_fits (fun r u' => wpY_fits (fun r' v' => r' = r ∧ i_Rel (k + 4) u' v') v) u :=
  jz_el (P := fun u v => wpX_fits (fun r u' => wpY_fits (fun r' v' => r' = r ∧ i_Rel (k + 4) u' v') v) u) (fun mc fh hz J n dp f_recorded f_wantA f_wantB f_moved f_failed f_level f_pickA f_pickB f_inTree f_known f_alive f_least a_releaseOf a_dueOf a_jobOf a_machineOf a_durationOf a_entryA a_entryB a_noted a_wantFrom a_wantTo a_lo a_hi a_pred a_savedLo a_savedHi a_savedPred a_savedA a_savedB a_raised a_cut a_place a_sum a_ect a_recordedStart a_best a_before a_list a_turnOf a_line a_trial a_late a_taken a_jobEdge a_machineEdge a_mask C => jz_fits C) I
theorem i_vc_earliest {k : Nat} {u : SX} {v : SY} (I : i_Rel k u v) (hk : k + 4 ≤ 2050) (v1 : Int32) : wpX_earliest (fun r u' => wpY_earliest (fun r' v' => r' = r ∧ i_Rel (k + 4) u' v') v v1) u v1 :=
  jz_el (P := fun u v => wpX_earliest (fun r u' => wpY_earliest (fun r' v' => r' = r ∧ i_Rel (k + 4) u' v') v v1) u v1) (fun mc fh hz J n dp f_recorded f_wantA f_wantB f_moved f_failed f_level f_pickA f_pickB f_inTree f_known f_alive f_least a_releaseOf a_dueOf a_jobOf a_machineOf a_durationOf a_entryA a_entryB a_noted a_wantFrom a_wantTo a_lo a_hi a_pred a_savedLo a_savedHi a_savedPred a_savedA a_savedB a_raised a_cut a_place a_sum a_ect a_recordedStart a_best a_before a_list a_turnOf a_line a_trial a_late a_taken a_jobEdge a_machineEdge a_mask C => jz_earliest C v1) I
theorem i_vc_latest {k : Nat} {u : SX} {v : SY} (I : i_Rel k u v) (hk : k + 4 ≤ 2050) (v1 : Int32) : wpX_latest (fun r u' => wpY_latest (fun r' v' => r' = r ∧ i_Rel (k + 4) u' v') v v1) u v1 :=
  jz_el (P := fun u v => wpX_latest (fun r u' => wpY_latest (fun r' v' => r' = r ∧ i_Rel (k + 4) u' v') v v1) u v1) (fun mc fh hz J n dp f_recorded f_wantA f_wantB f_moved f_failed f_level f_pickA f_pickB f_inTree f_known f_alive f_least a_releaseOf a_dueOf a_jobOf a_machineOf a_durationOf a_entryA a_entryB a_noted a_wantFrom a_wantTo a_lo a_hi a_pred a_savedLo a_savedHi a_savedPred a_savedA a_savedB a_raised a_cut a_place a_sum a_ect a_recordedStart a_best a_before a_list a_turnOf a_line a_trial a_late a_taken a_jobEdge a_machineEdge a_mask C => jz_latest C v1) I
theorem i_vc_starts {k : Nat} {u : SX} {v : SY} (I : i_Rel k u v) (hk : k + 4 ≤ 2050) (v1 : Int32) : wpX_starts (fun r u' => wpY_starts (fun r' v' => r' = r ∧ i_Rel (k + 4) u' v') v v1) u v1 :=
  jz_el (P := fun u v => wpX_starts (fun r u' => wpY_starts (fun r' v' => r' = r ∧ i_Rel (k + 4) u' v') v v1) u v1) (fun mc fh hz J n dp f_recorded f_wantA f_wantB f_moved f_failed f_level f_pickA f_pickB f_inTree f_known f_alive f_least a_releaseOf a_dueOf a_jobOf a_machineOf a_durationOf a_entryA a_entryB a_noted a_wantFrom a_wantTo a_lo a_hi a_pred a_savedLo a_savedHi a_savedPred a_savedA a_savedB a_raised a_cut a_place a_sum a_ect a_recordedStart a_best a_before a_list a_turnOf a_line a_trial a_late a_taken a_jobEdge a_machineEdge a_mask C => jz_starts C v1) I
theorem i_vc_relation {k : Nat} {u : SX} {v : SY} (I : i_Rel k u v) (hk : k + 4 ≤ 2050) (v1 : Int32) (v2 : Int32) : wpX_relation (fun r u' => wpY_relation (fun r' v' => r' = r ∧ i_Rel (k + 4) u' v') v v1 v2) u v1 v2 :=
  jz_el (P := fun u v => wpX_relation (fun r u' => wpY_relation (fun r' v' => r' = r ∧ i_Rel (k + 4) u' v') v v1 v2) u v1 v2) (fun mc fh hz J n dp f_recorded f_wantA f_wantB f_moved f_failed f_level f_pickA f_pickB f_inTree f_known f_alive f_least a_releaseOf a_dueOf a_jobOf a_machineOf a_durationOf a_entryA a_entryB a_noted a_wantFrom a_wantTo a_lo a_hi a_pred a_savedLo a_savedHi a_savedPred a_savedA a_savedB a_raised a_cut a_place a_sum a_ect a_recordedStart a_best a_before a_list a_turnOf a_line a_trial a_late a_taken a_jobEdge a_machineEdge a_mask C => jz_relation C v1 v2) I
theorem i_vc_look {k : Nat} {u : SX} {v : SY} (I : i_Rel k u v) (hk : k + 4 ≤ 2050) (v1 : Int32) (v2 : Int32) : wpX_look (fun r => wpY_look (fun r' => r' = r ∧ i_Rel (k + 4) u v) v v1 v2) u v1 v2 :=
  jz_el (P := fun u v => wpX_look (fun r => wpY_look (fun r' => r' = r ∧ i_Rel (k + 4) u v) v v1 v2) u v1 v2) (fun mc fh hz J n dp f_recorded f_wantA f_wantB f_moved f_failed f_level f_pickA f_pickB f_inTree f_known f_alive f_least a_releaseOf a_dueOf a_jobOf a_machineOf a_durationOf a_entryA a_entryB a_noted a_wantFrom a_wantTo a_lo a_hi a_pred a_savedLo a_savedHi a_savedPred a_savedA a_savedB a_raised a_cut a_place a_sum a_ect a_recordedStart a_best a_before a_list a_turnOf a_line a_trial a_late a_taken a_jobEdge a_machineEdge a_mask C => jz_look C v1 v2) I
end
